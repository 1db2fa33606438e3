/-! ## names of the classes, fields and methods; the tables' words (copied out of claim/names by tools/mk06.py) -/
set_option maxRecDepth 100000
def RJ0 : String := "java/lang/Throwable"
def TJ0 : u_T := fun k => match k with
  | 0 => ("java/lang/Throwable", "cause", "Ljava/lang/Throwable;", false)
  | 1 => ("java/lang/Throwable", "stackTrace", "[Ljava/lang/StackTraceElement;", false)
  | 2 => ("java/lang/Throwable", "suppressedExceptions", "Ljava/util/List;", false)
  | 3 => ("java/lang/Throwable", "detailMessage", "Ljava/lang/String;", false)
  | _ => ("java/lang/Throwable", "backtrace", "Ljava/lang/Object;", false)
def tyJ0 : Nat → FieldType := fun k => match k with
  | 0 => .object "java/lang/Throwable"
  | 1 => .array (.object "java/lang/StackTraceElement")
  | 2 => .object "java/util/List"
  | 3 => .object "java/lang/String"
  | _ => .object "java/lang/Object"
abbrev wsJ00 : List Cond := u_ws RJ0 TJ0 5
theorem nmJ0 : ∀ a, a < 5 → ∀ b, b < 5 → a ≠ b → (TJ0 a).2.1 ≠ (TJ0 b).2.1 := by decide +kernel
theorem tyJ0_ok : ∀ k, k < 5 → parseFieldDescriptor (TJ0 k).2.2.1 = some (tyJ0 k) := by decide +kernel
abbrev cJ0_init : ByteArray := prog_26_method_2_code
def yJ0_init : MethodName := ⟨RJ0, "<init>", "(Ljava/lang/String;)V"⟩
abbrev cJ0_init_2 : ByteArray := prog_26_method_1_code
def yJ0_init_2 : MethodName := ⟨RJ0, "<init>", "()V"⟩
abbrev cJ0_toString : ByteArray := prog_26_method_11_code
def yJ0_toString : MethodName := ⟨RJ0, "toString", "()Ljava/lang/String;"⟩
abbrev cJ0_getLocalizedMessage : ByteArray := prog_26_method_7_code
def yJ0_getLocalizedMessage : MethodName := ⟨RJ0, "getLocalizedMessage", "()Ljava/lang/String;"⟩
abbrev cJ0_getMessage : ByteArray := prog_26_method_6_code
def yJ0_getMessage : MethodName := ⟨RJ0, "getMessage", "()Ljava/lang/String;"⟩
theorem q59 : (Jvm.Cond.initialized "java/lang/Throwable") ∈ lw_all := lw_g (lw_at lw_m1 1 rfl) rfl
theorem q107 : (Jvm.Cond.instanceMethod ({ cls := "java/lang/Throwable", name := "<init>", desc := "(Ljava/lang/String;)V" } : Jvm.MethodName)) ∈ lw_all := lw_g (lw_at lw_m1 49 rfl) rfl
theorem q108 : (Jvm.Cond.code ({ cls := "java/lang/Throwable", name := "<init>", desc := "(Ljava/lang/String;)V" } : Jvm.MethodName) prog_26_method_2_code (2 : Nat) (Option.none : Option Jvm.ClassFile.FieldType)) ∈ lw_all := lw_g (lw_at lw_m1 50 rfl) rfl
theorem q109 : (Jvm.Cond.methodLink "java/lang/Throwable" (1 : Nat) ({ cls := "java/lang/Object", name := "<init>", desc := "()V" } : Jvm.MethodName)) ∈ lw_all := lw_g (lw_at lw_m1 51 rfl) rfl
theorem q112 : (Jvm.Cond.fieldLink "java/lang/Throwable" (13 : Nat) "java/lang/Throwable" "UNASSIGNED_STACK" "[Ljava/lang/StackTraceElement;") ∈ lw_all := lw_g (lw_at lw_m1 54 rfl) rfl
theorem q113 : (Jvm.Cond.laysStatic "java/lang/Throwable" "UNASSIGNED_STACK" "[Ljava/lang/StackTraceElement;") ∈ lw_tbl := lw_at lw_m1 55 rfl
theorem q114 : (Jvm.Cond.fieldLink "java/lang/Throwable" (20 : Nat) "java/lang/Throwable" "SUPPRESSED_SENTINEL" "Ljava/util/List;") ∈ lw_all := lw_g (lw_at lw_m1 56 rfl) rfl
theorem q115 : (Jvm.Cond.laysStatic "java/lang/Throwable" "SUPPRESSED_SENTINEL" "Ljava/util/List;") ∈ lw_tbl := lw_at lw_m1 57 rfl
theorem q116 : (Jvm.Cond.methodLink "java/lang/Throwable" (27 : Nat) ({ cls := "java/lang/Throwable", name := "fillInStackTrace", desc := "()Ljava/lang/Throwable;" } : Jvm.MethodName)) ∈ lw_all := lw_g (lw_at lw_m1 58 rfl) rfl
theorem q117 : (Jvm.Cond.instanceMethod ({ cls := "java/lang/Throwable", name := "fillInStackTrace", desc := "()Ljava/lang/Throwable;" } : Jvm.MethodName)) ∈ lw_all := lw_g (lw_at lw_m1 59 rfl) rfl
theorem q118 : (Jvm.Cond.sameMethod "java/lang/Throwable" "java/lang/Throwable" "fillInStackTrace" "()Ljava/lang/Throwable;") ∈ lw_all := lw_g (lw_at lw_m1 60 rfl) rfl
theorem q123 : (Jvm.Cond.codeSync ({ cls := "java/lang/Throwable", name := "fillInStackTrace", desc := "()Ljava/lang/Throwable;" } : Jvm.MethodName) prog_26_method_18_code (1 : Nat) (Option.some (Jvm.ClassFile.FieldType.object "java/lang/Throwable"))) ∈ lw_all := lw_g (lw_at lw_m1 65 rfl) rfl
theorem q124 : (Jvm.Cond.methodLink "java/lang/Throwable" (202 : Nat) ({ cls := "java/lang/Throwable", name := "fillInStackTrace", desc := "(I)Ljava/lang/Throwable;" } : Jvm.MethodName)) ∈ lw_all := lw_g (lw_at lw_m1 66 rfl) rfl
theorem q125 : (Jvm.Cond.privateMethod ({ cls := "java/lang/Throwable", name := "fillInStackTrace", desc := "(I)Ljava/lang/Throwable;" } : Jvm.MethodName)) ∈ lw_tbl := lw_at lw_m1 67 rfl
theorem q126 : (Jvm.Cond.instanceMethod ({ cls := "java/lang/Throwable", name := "fillInStackTrace", desc := "(I)Ljava/lang/Throwable;" } : Jvm.MethodName)) ∈ lw_all := lw_g (lw_at lw_m1 68 rfl) rfl
theorem q127 : (Jvm.Cond.instantiable "java/lang/Throwable" (6 : Nat)) ∈ lw_all := lw_g (lw_at lw_m1 69 rfl) rfl
theorem q128 : (Jvm.Cond.native ({ cls := "java/lang/Throwable", name := "fillInStackTrace", desc := "(I)Ljava/lang/Throwable;" } : Jvm.MethodName)) ∈ lw_all := lw_g (lw_at lw_m1 70 rfl) rfl
theorem q129 : (Jvm.Cond.fieldLink "java/lang/Throwable" (198 : Nat) "java/lang/Throwable" "backtrace" "Ljava/lang/Object;") ∈ lw_all := lw_g (lw_at lw_m1 71 rfl) rfl
theorem q130 : (Jvm.Cond.fieldLink "java/lang/Throwable" (31 : Nat) "java/lang/Throwable" "detailMessage" "Ljava/lang/String;") ∈ lw_all := lw_g (lw_at lw_m1 72 rfl) rfl
theorem q131 : (Jvm.Cond.fieldLink "java/lang/Throwable" (7 : Nat) "java/lang/Throwable" "cause" "Ljava/lang/Throwable;") ∈ lw_all := lw_g (lw_at lw_m1 73 rfl) rfl
theorem q132 : (Jvm.Cond.fieldLink "java/lang/Throwable" (17 : Nat) "java/lang/Throwable" "stackTrace" "[Ljava/lang/StackTraceElement;") ∈ lw_all := lw_g (lw_at lw_m1 74 rfl) rfl
theorem q133 : (Jvm.Cond.fieldLink "java/lang/Throwable" (24 : Nat) "java/lang/Throwable" "suppressedExceptions" "Ljava/util/List;") ∈ lw_all := lw_g (lw_at lw_m1 75 rfl) rfl
theorem q135 : (Jvm.Cond.soleField "java/lang/Throwable" "backtrace") ∈ lw_all := lw_g (lw_at lw_m1 77 rfl) rfl
theorem q137 : (Jvm.Cond.soleField "java/lang/Throwable" "detailMessage") ∈ lw_all := lw_g (lw_at lw_m1 79 rfl) rfl
theorem q139 : (Jvm.Cond.soleField "java/lang/Throwable" "cause") ∈ lw_all := lw_g (lw_at lw_m1 81 rfl) rfl
theorem q141 : (Jvm.Cond.soleField "java/lang/Throwable" "stackTrace") ∈ lw_all := lw_g (lw_at lw_m1 83 rfl) rfl
theorem q143 : (Jvm.Cond.soleField "java/lang/Throwable" "depth") ∈ lw_all := lw_g (lw_at lw_m1 85 rfl) rfl
theorem q145 : (Jvm.Cond.soleField "java/lang/Throwable" "suppressedExceptions") ∈ lw_all := lw_g (lw_at lw_m1 87 rfl) rfl
theorem q154 : (Jvm.Cond.declares ({ cls := "java/lang/Throwable", name := "<init>", desc := "()V" } : Jvm.MethodName)) ∈ lw_tbl := lw_at lw_m1 96 rfl
theorem q155 : (Jvm.Cond.declares ({ cls := "java/lang/Throwable", name := "<init>", desc := "(Ljava/lang/String;)V" } : Jvm.MethodName)) ∈ lw_tbl := lw_at lw_m1 97 rfl
theorem q157 : (Jvm.Cond.lays "java/lang/Throwable" "java/lang/Throwable" "cause" "Ljava/lang/Throwable;") ∈ lw_all := lw_g (lw_at lw_m1 99 rfl) rfl
theorem q158 : (Jvm.Cond.lays "java/lang/Throwable" "java/lang/Throwable" "stackTrace" "[Ljava/lang/StackTraceElement;") ∈ lw_all := lw_g (lw_at lw_m1 100 rfl) rfl
theorem q159 : (Jvm.Cond.lays "java/lang/Throwable" "java/lang/Throwable" "suppressedExceptions" "Ljava/util/List;") ∈ lw_all := lw_g (lw_at lw_m1 101 rfl) rfl
theorem q160 : (Jvm.Cond.lays "java/lang/Throwable" "java/lang/Throwable" "detailMessage" "Ljava/lang/String;") ∈ lw_all := lw_g (lw_at lw_m1 102 rfl) rfl
theorem q161 : (Jvm.Cond.lays "java/lang/Throwable" "java/lang/Throwable" "backtrace" "Ljava/lang/Object;") ∈ lw_all := lw_g (lw_at lw_m1 103 rfl) rfl
theorem q162 : (Jvm.Cond.fieldLink "java/lang/Throwable" (198 : Nat) "java/lang/Throwable" "backtrace" "Ljava/lang/Object;") ∈ lw_all := lw_g (lw_at lw_m1 104 rfl) rfl
theorem q163 : (Jvm.Cond.superclass "java/lang/Throwable" "java/lang/Object") ∈ lw_all := lw_g (lw_at lw_m1 105 rfl) rfl
theorem q164 : (Jvm.Cond.instanceMethod ({ cls := "java/lang/Throwable", name := "<init>", desc := "()V" } : Jvm.MethodName)) ∈ lw_all := lw_g (lw_at lw_m1 106 rfl) rfl
theorem q165 : (Jvm.Cond.code ({ cls := "java/lang/Throwable", name := "<init>", desc := "()V" } : Jvm.MethodName) prog_26_method_1_code (1 : Nat) (Option.none : Option Jvm.ClassFile.FieldType)) ∈ lw_all := lw_g (lw_at lw_m1 107 rfl) rfl
theorem q755 : (Jvm.Cond.instanceMethod ({ cls := "java/lang/Throwable", name := "toString", desc := "()Ljava/lang/String;" } : Jvm.MethodName)) ∈ lw_all := lw_g (lw_at lw_m3 217 rfl) rfl
theorem q756 : (Jvm.Cond.code ({ cls := "java/lang/Throwable", name := "toString", desc := "()Ljava/lang/String;" } : Jvm.MethodName) prog_26_method_11_code (3 : Nat) (Option.some (Jvm.ClassFile.FieldType.object "java/lang/String"))) ∈ lw_all := lw_g (lw_at lw_m3 218 rfl) rfl
theorem q757 : (Jvm.Cond.methodLink "java/lang/Throwable" (69 : Nat) ({ cls := "java/lang/Object", name := "getClass", desc := "()Ljava/lang/Class;" } : Jvm.MethodName)) ∈ lw_all := lw_g (lw_at lw_m3 219 rfl) rfl
theorem q773 : (Jvm.Cond.methodLink "java/lang/Throwable" (78 : Nat) ({ cls := "java/lang/Throwable", name := "getLocalizedMessage", desc := "()Ljava/lang/String;" } : Jvm.MethodName)) ∈ lw_all := lw_g (lw_at lw_m3 235 rfl) rfl
theorem q774 : (Jvm.Cond.instanceMethod ({ cls := "java/lang/Throwable", name := "getLocalizedMessage", desc := "()Ljava/lang/String;" } : Jvm.MethodName)) ∈ lw_all := lw_g (lw_at lw_m3 236 rfl) rfl
theorem q775 : (Jvm.Cond.sameMethod "java/lang/Throwable" "java/lang/Throwable" "getLocalizedMessage" "()Ljava/lang/String;") ∈ lw_all := lw_g (lw_at lw_m3 237 rfl) rfl
theorem q780 : (Jvm.Cond.code ({ cls := "java/lang/Throwable", name := "getLocalizedMessage", desc := "()Ljava/lang/String;" } : Jvm.MethodName) prog_26_method_7_code (1 : Nat) (Option.some (Jvm.ClassFile.FieldType.object "java/lang/String"))) ∈ lw_all := lw_g (lw_at lw_m4 2 rfl) rfl
theorem q781 : (Jvm.Cond.methodLink "java/lang/Throwable" (39 : Nat) ({ cls := "java/lang/Throwable", name := "getMessage", desc := "()Ljava/lang/String;" } : Jvm.MethodName)) ∈ lw_all := lw_g (lw_at lw_m4 3 rfl) rfl
theorem q782 : (Jvm.Cond.instanceMethod ({ cls := "java/lang/Throwable", name := "getMessage", desc := "()Ljava/lang/String;" } : Jvm.MethodName)) ∈ lw_all := lw_g (lw_at lw_m4 4 rfl) rfl
theorem q783 : (Jvm.Cond.sameMethod "java/lang/Throwable" "java/lang/Throwable" "getMessage" "()Ljava/lang/String;") ∈ lw_all := lw_g (lw_at lw_m4 5 rfl) rfl
theorem q788 : (Jvm.Cond.code ({ cls := "java/lang/Throwable", name := "getMessage", desc := "()Ljava/lang/String;" } : Jvm.MethodName) prog_26_method_6_code (1 : Nat) (Option.some (Jvm.ClassFile.FieldType.object "java/lang/String"))) ∈ lw_all := lw_g (lw_at lw_m4 10 rfl) rfl
theorem q789 : (Jvm.Cond.classLink "java/lang/Throwable" (44 : Nat) "java/lang/StringBuilder") ∈ lw_all := lw_g (lw_at lw_m4 11 rfl) rfl
theorem q790 : (Jvm.Cond.methodLink "java/lang/Throwable" (46 : Nat) ({ cls := "java/lang/StringBuilder", name := "<init>", desc := "()V" } : Jvm.MethodName)) ∈ lw_all := lw_g (lw_at lw_m4 12 rfl) rfl
theorem q791 : (Jvm.Cond.methodLink "java/lang/Throwable" (49 : Nat) ({ cls := "java/lang/StringBuilder", name := "append", desc := "(Ljava/lang/String;)Ljava/lang/StringBuilder;" } : Jvm.MethodName)) ∈ lw_all := lw_g (lw_at lw_m4 13 rfl) rfl
theorem q792 : (Jvm.Cond.stringRef "java/lang/Throwable" (81 : Nat) ": ") ∈ lw_tbl := lw_at lw_m4 14 rfl
theorem q793 : (Jvm.Cond.methodLink "java/lang/Throwable" (60 : Nat) ({ cls := "java/lang/StringBuilder", name := "toString", desc := "()Ljava/lang/String;" } : Jvm.MethodName)) ∈ lw_all := lw_g (lw_at lw_m4 15 rfl) rfl
theorem q2423 : (Jvm.Cond.sameMethod "java/lang/Throwable" "java/lang/Throwable" "fillInStackTrace" "(I)Ljava/lang/Throwable;") ∈ lw_all := lw_g (lw_at lw_m10 205 rfl) rfl
def RJ1 : String := "java/lang/Exception"
abbrev cJ1_init : ByteArray := prog_11_method_2_code
def yJ1_init : MethodName := ⟨RJ1, "<init>", "(Ljava/lang/String;)V"⟩
abbrev cJ1_init_2 : ByteArray := prog_11_method_1_code
def yJ1_init_2 : MethodName := ⟨RJ1, "<init>", "()V"⟩
theorem q60 : (Jvm.Cond.initialized "java/lang/Exception") ∈ lw_all := lw_g (lw_at lw_m1 2 rfl) rfl
theorem q104 : (Jvm.Cond.instanceMethod ({ cls := "java/lang/Exception", name := "<init>", desc := "(Ljava/lang/String;)V" } : Jvm.MethodName)) ∈ lw_all := lw_g (lw_at lw_m1 46 rfl) rfl
theorem q105 : (Jvm.Cond.code ({ cls := "java/lang/Exception", name := "<init>", desc := "(Ljava/lang/String;)V" } : Jvm.MethodName) prog_11_method_2_code (2 : Nat) (Option.none : Option Jvm.ClassFile.FieldType)) ∈ lw_all := lw_g (lw_at lw_m1 47 rfl) rfl
theorem q106 : (Jvm.Cond.methodLink "java/lang/Exception" (7 : Nat) ({ cls := "java/lang/Throwable", name := "<init>", desc := "(Ljava/lang/String;)V" } : Jvm.MethodName)) ∈ lw_all := lw_g (lw_at lw_m1 48 rfl) rfl
theorem q152 : (Jvm.Cond.declares ({ cls := "java/lang/Exception", name := "<init>", desc := "()V" } : Jvm.MethodName)) ∈ lw_tbl := lw_at lw_m1 94 rfl
theorem q153 : (Jvm.Cond.declares ({ cls := "java/lang/Exception", name := "<init>", desc := "(Ljava/lang/String;)V" } : Jvm.MethodName)) ∈ lw_tbl := lw_at lw_m1 95 rfl
theorem q1760 : (Jvm.Cond.instanceMethod ({ cls := "java/lang/Exception", name := "<init>", desc := "()V" } : Jvm.MethodName)) ∈ lw_all := lw_g (lw_at lw_m8 22 rfl) rfl
theorem q1761 : (Jvm.Cond.code ({ cls := "java/lang/Exception", name := "<init>", desc := "()V" } : Jvm.MethodName) prog_11_method_1_code (1 : Nat) (Option.none : Option Jvm.ClassFile.FieldType)) ∈ lw_all := lw_g (lw_at lw_m8 23 rfl) rfl
theorem q1762 : (Jvm.Cond.methodLink "java/lang/Exception" (1 : Nat) ({ cls := "java/lang/Throwable", name := "<init>", desc := "()V" } : Jvm.MethodName)) ∈ lw_all := lw_g (lw_at lw_m8 24 rfl) rfl
def RJ10 : String := "java/lang/StringUTF16"
abbrev cJ10_newBytesFor : ByteArray := prog_24_method_2_code
def yJ10_newBytesFor : MethodName := ⟨RJ10, "newBytesFor", "(I)[B"⟩
abbrev cJ10_newBytesLength : ByteArray := prog_24_method_3_code
def yJ10_newBytesLength : MethodName := ⟨RJ10, "newBytesLength", "(I)I"⟩
abbrev cJ10_putCharsAt : ByteArray := prog_24_method_81_code
def yJ10_putCharsAt : MethodName := ⟨RJ10, "putCharsAt", "([BICCCC)I"⟩
abbrev cJ10_checkBoundsBeginEnd : ByteArray := prog_24_method_93_code
def yJ10_checkBoundsBeginEnd : MethodName := ⟨RJ10, "checkBoundsBeginEnd", "(II[B)V"⟩
abbrev cJ10_length : ByteArray := prog_24_method_6_code
def yJ10_length : MethodName := ⟨RJ10, "length", "([B)I"⟩
abbrev cJ10_putChar : ByteArray := prog_24_method_4_code
def yJ10_putChar : MethodName := ⟨RJ10, "putChar", "([BII)V"⟩
abbrev cJ10_inflate : ByteArray := prog_24_method_86_code
def yJ10_inflate : MethodName := ⟨RJ10, "inflate", "([BI[BII)V"⟩
abbrev cJ10_checkBoundsOffCount : ByteArray := prog_24_method_94_code
def yJ10_checkBoundsOffCount : MethodName := ⟨RJ10, "checkBoundsOffCount", "(II[B)V"⟩
abbrev cJ10_getChars : ByteArray := prog_24_method_78_code
def yJ10_getChars : MethodName := ⟨RJ10, "getChars", "(JII[B)I"⟩
abbrev cJ10_getChars_2 : ByteArray := prog_24_method_90_code
def yJ10_getChars_2 : MethodName := ⟨RJ10, "getChars", "(JI[B)I"⟩
abbrev cJ10_getChars_3 : ByteArray := prog_24_method_77_code
def yJ10_getChars_3 : MethodName := ⟨RJ10, "getChars", "(III[B)I"⟩
abbrev cJ10_getChars_4 : ByteArray := prog_24_method_89_code
def yJ10_getChars_4 : MethodName := ⟨RJ10, "getChars", "(II[B)I"⟩
abbrev cJ10_compress : ByteArray := prog_24_method_17_code
def yJ10_compress : MethodName := ⟨RJ10, "compress", "([BII)[B"⟩
abbrev cJ10_compress_2 : ByteArray := prog_24_method_22_code
def yJ10_compress_2 : MethodName := ⟨RJ10, "compress", "([BI[BII)I"⟩
abbrev cJ10_getChar : ByteArray := prog_24_method_5_code
def yJ10_getChar : MethodName := ⟨RJ10, "getChar", "([BI)C"⟩
abbrev cJ10_coderFromArrayLen : ByteArray := prog_24_method_15_code
def yJ10_coderFromArrayLen : MethodName := ⟨RJ10, "coderFromArrayLen", "([BI)B"⟩
abbrev cJ10_charAt : ByteArray := prog_24_method_83_code
def yJ10_charAt : MethodName := ⟨RJ10, "charAt", "([BI)C"⟩
abbrev cJ10_checkIndex : ByteArray := prog_24_method_91_code
def yJ10_checkIndex : MethodName := ⟨RJ10, "checkIndex", "(I[B)V"⟩
abbrev cJ10_indexOf : ByteArray := prog_24_method_40_code
def yJ10_indexOf : MethodName := ⟨RJ10, "indexOf", "([BIII)I"⟩
abbrev cJ10_indexOfChar : ByteArray := prog_24_method_47_code
def yJ10_indexOfChar : MethodName := ⟨RJ10, "indexOfChar", "([BIII)I"⟩
abbrev cJ10_indexOfCharUnsafe : ByteArray := prog_24_method_48_code
def yJ10_indexOfCharUnsafe : MethodName := ⟨RJ10, "indexOfCharUnsafe", "([BIII)I"⟩
abbrev cJ10_indexOfSupplementary : ByteArray := prog_24_method_49_code
def yJ10_indexOfSupplementary : MethodName := ⟨RJ10, "indexOfSupplementary", "([BIII)I"⟩
abbrev cJ10_newString : ByteArray := prog_24_method_69_code
def yJ10_newString : MethodName := ⟨RJ10, "newString", "([BII)Ljava/lang/String;"⟩
abbrev cJ10_putCharSB : ByteArray := prog_24_method_71_code
def yJ10_putCharSB : MethodName := ⟨RJ10, "putCharSB", "([BII)V"⟩
abbrev cJ10_putCharsSB : ByteArray := prog_24_method_73_code
def yJ10_putCharsSB : MethodName := ⟨RJ10, "putCharsSB", "([BILjava/lang/CharSequence;II)V"⟩
abbrev cJ10_indexOf_2 : ByteArray := prog_24_method_42_code
def yJ10_indexOf_2 : MethodName := ⟨RJ10, "indexOf", "([BI[BII)I"⟩
abbrev cJ10_indexOfUnsafe : ByteArray := prog_24_method_43_code
def yJ10_indexOfUnsafe : MethodName := ⟨RJ10, "indexOfUnsafe", "([BI[BII)I"⟩
abbrev cJ10_indexOfLatin1 : ByteArray := prog_24_method_45_code
def yJ10_indexOfLatin1 : MethodName := ⟨RJ10, "indexOfLatin1", "([BI[BII)I"⟩
abbrev cJ10_indexOfLatin1Unsafe : ByteArray := prog_24_method_46_code
def yJ10_indexOfLatin1Unsafe : MethodName := ⟨RJ10, "indexOfLatin1Unsafe", "([BI[BII)I"⟩
abbrev cJ10_lastIndexOf : ByteArray := prog_24_method_51_code
def yJ10_lastIndexOf : MethodName := ⟨RJ10, "lastIndexOf", "([BII)I"⟩
abbrev cJ10_lastIndexOfSupplementary : ByteArray := prog_24_method_52_code
def yJ10_lastIndexOfSupplementary : MethodName := ⟨RJ10, "lastIndexOfSupplementary", "([BII)I"⟩
abbrev cJ10_reverse : ByteArray := prog_24_method_84_code
def yJ10_reverse : MethodName := ⟨RJ10, "reverse", "([BI)V"⟩
abbrev cJ10_checkOffset : ByteArray := prog_24_method_92_code
def yJ10_checkOffset : MethodName := ⟨RJ10, "checkOffset", "(I[B)V"⟩
abbrev cJ10_reverseAllValidSurrogatePairs : ByteArray := prog_24_method_85_code
def yJ10_reverseAllValidSurrogatePairs : MethodName := ⟨RJ10, "reverseAllValidSurrogatePairs", "([BI)V"⟩
theorem q70 : (Jvm.Cond.initialized "java/lang/StringUTF16") ∈ lw_all := lw_g (lw_at lw_m1 12 rfl) rfl
theorem q232 : (Jvm.Cond.static ({ cls := "java/lang/StringUTF16", name := "newBytesFor", desc := "(I)[B" } : Jvm.MethodName)) ∈ lw_all := lw_g (lw_at lw_m1 174 rfl) rfl
theorem q233 : (Jvm.Cond.code ({ cls := "java/lang/StringUTF16", name := "newBytesFor", desc := "(I)[B" } : Jvm.MethodName) prog_24_method_2_code (1 : Nat) (Option.some (Jvm.ClassFile.FieldType.array Jvm.ClassFile.FieldType.byte))) ∈ lw_all := lw_g (lw_at lw_m1 175 rfl) rfl
theorem q234 : (Jvm.Cond.methodLink "java/lang/StringUTF16" (11 : Nat) ({ cls := "java/lang/StringUTF16", name := "newBytesLength", desc := "(I)I" } : Jvm.MethodName)) ∈ lw_all := lw_g (lw_at lw_m1 176 rfl) rfl
theorem q235 : (Jvm.Cond.static ({ cls := "java/lang/StringUTF16", name := "newBytesLength", desc := "(I)I" } : Jvm.MethodName)) ∈ lw_all := lw_g (lw_at lw_m1 177 rfl) rfl
theorem q236 : (Jvm.Cond.code ({ cls := "java/lang/StringUTF16", name := "newBytesLength", desc := "(I)I" } : Jvm.MethodName) prog_24_method_3_code (1 : Nat) (Option.some Jvm.ClassFile.FieldType.int)) ∈ lw_all := lw_g (lw_at lw_m1 178 rfl) rfl
theorem q237 : (Jvm.Cond.constant "java/lang/StringUTF16" (20 : Nat) (1073741823 : Int32)) ∈ lw_all := lw_g (lw_at lw_m1 179 rfl) rfl
theorem q296 : (Jvm.Cond.static ({ cls := "java/lang/StringUTF16", name := "putCharsAt", desc := "([BICCCC)I" } : Jvm.MethodName)) ∈ lw_all := lw_g (lw_at lw_m1 238 rfl) rfl
theorem q297 : (Jvm.Cond.code ({ cls := "java/lang/StringUTF16", name := "putCharsAt", desc := "([BICCCC)I" } : Jvm.MethodName) prog_24_method_81_code (7 : Nat) (Option.some Jvm.ClassFile.FieldType.int)) ∈ lw_all := lw_g (lw_at lw_m1 239 rfl) rfl
theorem q298 : (Jvm.Cond.methodLink "java/lang/StringUTF16" (96 : Nat) ({ cls := "java/lang/StringUTF16", name := "checkBoundsBeginEnd", desc := "(II[B)V" } : Jvm.MethodName)) ∈ lw_all := lw_g (lw_at lw_m2 0 rfl) rfl
theorem q299 : (Jvm.Cond.static ({ cls := "java/lang/StringUTF16", name := "checkBoundsBeginEnd", desc := "(II[B)V" } : Jvm.MethodName)) ∈ lw_all := lw_g (lw_at lw_m2 1 rfl) rfl
theorem q300 : (Jvm.Cond.code ({ cls := "java/lang/StringUTF16", name := "checkBoundsBeginEnd", desc := "(II[B)V" } : Jvm.MethodName) prog_24_method_93_code (3 : Nat) (Option.none : Option Jvm.ClassFile.FieldType)) ∈ lw_all := lw_g (lw_at lw_m2 2 rfl) rfl
theorem q301 : (Jvm.Cond.methodLink "java/lang/StringUTF16" (48 : Nat) ({ cls := "java/lang/StringUTF16", name := "length", desc := "([B)I" } : Jvm.MethodName)) ∈ lw_all := lw_g (lw_at lw_m2 3 rfl) rfl
theorem q302 : (Jvm.Cond.static ({ cls := "java/lang/StringUTF16", name := "length", desc := "([B)I" } : Jvm.MethodName)) ∈ lw_all := lw_g (lw_at lw_m2 4 rfl) rfl
theorem q303 : (Jvm.Cond.code ({ cls := "java/lang/StringUTF16", name := "length", desc := "([B)I" } : Jvm.MethodName) prog_24_method_6_code (1 : Nat) (Option.some Jvm.ClassFile.FieldType.int)) ∈ lw_all := lw_g (lw_at lw_m2 5 rfl) rfl
theorem q304 : (Jvm.Cond.methodLink "java/lang/StringUTF16" (241 : Nat) ({ cls := "java/lang/String", name := "checkBoundsBeginEnd", desc := "(III)V" } : Jvm.MethodName)) ∈ lw_all := lw_g (lw_at lw_m2 6 rfl) rfl
theorem q312 : (Jvm.Cond.methodLink "java/lang/StringUTF16" (111 : Nat) ({ cls := "java/lang/StringUTF16", name := "putChar", desc := "([BII)V" } : Jvm.MethodName)) ∈ lw_all := lw_g (lw_at lw_m2 14 rfl) rfl
theorem q313 : (Jvm.Cond.static ({ cls := "java/lang/StringUTF16", name := "putChar", desc := "([BII)V" } : Jvm.MethodName)) ∈ lw_all := lw_g (lw_at lw_m2 15 rfl) rfl
theorem q314 : (Jvm.Cond.code ({ cls := "java/lang/StringUTF16", name := "putChar", desc := "([BII)V" } : Jvm.MethodName) prog_24_method_4_code (3 : Nat) (Option.none : Option Jvm.ClassFile.FieldType)) ∈ lw_all := lw_g (lw_at lw_m2 16 rfl) rfl
theorem q315 : (Jvm.Cond.fieldLink "java/lang/StringUTF16" (44 : Nat) "java/lang/StringUTF16" "$assertionsDisabled" "Z") ∈ lw_all := lw_g (lw_at lw_m2 17 rfl) rfl
theorem q316 : (Jvm.Cond.laysStatic "java/lang/StringUTF16" "$assertionsDisabled" "Z") ∈ lw_tbl := lw_at lw_m2 18 rfl
theorem q317 : (Jvm.Cond.fieldLink "java/lang/StringUTF16" (59 : Nat) "java/lang/StringUTF16" "HI_BYTE_SHIFT" "I") ∈ lw_all := lw_g (lw_at lw_m2 19 rfl) rfl
theorem q318 : (Jvm.Cond.laysStatic "java/lang/StringUTF16" "HI_BYTE_SHIFT" "I") ∈ lw_tbl := lw_at lw_m2 20 rfl
theorem q319 : (Jvm.Cond.fieldLink "java/lang/StringUTF16" (63 : Nat) "java/lang/StringUTF16" "LO_BYTE_SHIFT" "I") ∈ lw_all := lw_g (lw_at lw_m2 21 rfl) rfl
theorem q320 : (Jvm.Cond.laysStatic "java/lang/StringUTF16" "LO_BYTE_SHIFT" "I") ∈ lw_tbl := lw_at lw_m2 22 rfl
theorem q337 : (Jvm.Cond.static ({ cls := "java/lang/StringUTF16", name := "inflate", desc := "([BI[BII)V" } : Jvm.MethodName)) ∈ lw_all := lw_g (lw_at lw_m2 39 rfl) rfl
theorem q338 : (Jvm.Cond.code ({ cls := "java/lang/StringUTF16", name := "inflate", desc := "([BI[BII)V" } : Jvm.MethodName) prog_24_method_86_code (6 : Nat) (Option.none : Option Jvm.ClassFile.FieldType)) ∈ lw_all := lw_g (lw_at lw_m2 40 rfl) rfl
theorem q339 : (Jvm.Cond.methodLink "java/lang/StringUTF16" (173 : Nat) ({ cls := "java/lang/StringUTF16", name := "checkBoundsOffCount", desc := "(II[B)V" } : Jvm.MethodName)) ∈ lw_all := lw_g (lw_at lw_m2 41 rfl) rfl
theorem q340 : (Jvm.Cond.static ({ cls := "java/lang/StringUTF16", name := "checkBoundsOffCount", desc := "(II[B)V" } : Jvm.MethodName)) ∈ lw_all := lw_g (lw_at lw_m2 42 rfl) rfl
theorem q341 : (Jvm.Cond.code ({ cls := "java/lang/StringUTF16", name := "checkBoundsOffCount", desc := "(II[B)V" } : Jvm.MethodName) prog_24_method_94_code (3 : Nat) (Option.none : Option Jvm.ClassFile.FieldType)) ∈ lw_all := lw_g (lw_at lw_m2 43 rfl) rfl
theorem q342 : (Jvm.Cond.methodLink "java/lang/StringUTF16" (419 : Nat) ({ cls := "java/lang/String", name := "checkBoundsOffCount", desc := "(III)I" } : Jvm.MethodName)) ∈ lw_all := lw_g (lw_at lw_m2 44 rfl) rfl
theorem q413 : (Jvm.Cond.static ({ cls := "java/lang/StringUTF16", name := "getChars", desc := "(JII[B)I" } : Jvm.MethodName)) ∈ lw_all := lw_g (lw_at lw_m2 115 rfl) rfl
theorem q414 : (Jvm.Cond.code ({ cls := "java/lang/StringUTF16", name := "getChars", desc := "(JII[B)I" } : Jvm.MethodName) prog_24_method_78_code (6 : Nat) (Option.some Jvm.ClassFile.FieldType.int)) ∈ lw_all := lw_g (lw_at lw_m2 116 rfl) rfl
theorem q415 : (Jvm.Cond.methodLink "java/lang/StringUTF16" (396 : Nat) ({ cls := "java/lang/StringUTF16", name := "getChars", desc := "(JI[B)I" } : Jvm.MethodName)) ∈ lw_all := lw_g (lw_at lw_m2 117 rfl) rfl
theorem q416 : (Jvm.Cond.static ({ cls := "java/lang/StringUTF16", name := "getChars", desc := "(JI[B)I" } : Jvm.MethodName)) ∈ lw_all := lw_g (lw_at lw_m2 118 rfl) rfl
theorem q417 : (Jvm.Cond.code ({ cls := "java/lang/StringUTF16", name := "getChars", desc := "(JI[B)I" } : Jvm.MethodName) prog_24_method_90_code (11 : Nat) (Option.some Jvm.ClassFile.FieldType.int)) ∈ lw_all := lw_g (lw_at lw_m2 119 rfl) rfl
theorem q418 : (Jvm.Cond.constantLong "java/lang/StringUTF16" (410 : Nat) (-2147483648 : Int64)) ∈ lw_all := lw_g (lw_at lw_m2 120 rfl) rfl
theorem q419 : (Jvm.Cond.constantLong "java/lang/StringUTF16" (412 : Nat) (100 : Int64)) ∈ lw_all := lw_g (lw_at lw_m2 121 rfl) rfl
theorem q420 : (Jvm.Cond.fieldLink "java/lang/StringUTF16" (403 : Nat) "java/lang/Integer" "DigitOnes" "[B") ∈ lw_all := lw_g (lw_at lw_m2 122 rfl) rfl
theorem q421 : (Jvm.Cond.fieldLink "java/lang/StringUTF16" (407 : Nat) "java/lang/Integer" "DigitTens" "[B") ∈ lw_all := lw_g (lw_at lw_m2 123 rfl) rfl
theorem q444 : (Jvm.Cond.static ({ cls := "java/lang/StringUTF16", name := "getChars", desc := "(III[B)I" } : Jvm.MethodName)) ∈ lw_all := lw_g (lw_at lw_m2 146 rfl) rfl
theorem q445 : (Jvm.Cond.code ({ cls := "java/lang/StringUTF16", name := "getChars", desc := "(III[B)I" } : Jvm.MethodName) prog_24_method_77_code (5 : Nat) (Option.some Jvm.ClassFile.FieldType.int)) ∈ lw_all := lw_g (lw_at lw_m2 147 rfl) rfl
theorem q446 : (Jvm.Cond.methodLink "java/lang/StringUTF16" (393 : Nat) ({ cls := "java/lang/StringUTF16", name := "getChars", desc := "(II[B)I" } : Jvm.MethodName)) ∈ lw_all := lw_g (lw_at lw_m2 148 rfl) rfl
theorem q447 : (Jvm.Cond.static ({ cls := "java/lang/StringUTF16", name := "getChars", desc := "(II[B)I" } : Jvm.MethodName)) ∈ lw_all := lw_g (lw_at lw_m2 149 rfl) rfl
theorem q448 : (Jvm.Cond.code ({ cls := "java/lang/StringUTF16", name := "getChars", desc := "(II[B)I" } : Jvm.MethodName) prog_24_method_89_code (7 : Nat) (Option.some Jvm.ClassFile.FieldType.int)) ∈ lw_all := lw_g (lw_at lw_m2 150 rfl) rfl
theorem q511 : (Jvm.Cond.static ({ cls := "java/lang/StringUTF16", name := "compress", desc := "([BII)[B" } : Jvm.MethodName)) ∈ lw_all := lw_g (lw_at lw_m2 213 rfl) rfl
theorem q512 : (Jvm.Cond.code ({ cls := "java/lang/StringUTF16", name := "compress", desc := "([BII)[B" } : Jvm.MethodName) prog_24_method_17_code (6 : Nat) (Option.some (Jvm.ClassFile.FieldType.array Jvm.ClassFile.FieldType.byte))) ∈ lw_all := lw_g (lw_at lw_m2 214 rfl) rfl
theorem q513 : (Jvm.Cond.methodLink "java/lang/StringUTF16" (123 : Nat) ({ cls := "java/lang/StringUTF16", name := "compress", desc := "([BI[BII)I" } : Jvm.MethodName)) ∈ lw_all := lw_g (lw_at lw_m2 215 rfl) rfl
theorem q514 : (Jvm.Cond.static ({ cls := "java/lang/StringUTF16", name := "compress", desc := "([BI[BII)I" } : Jvm.MethodName)) ∈ lw_all := lw_g (lw_at lw_m2 216 rfl) rfl
theorem q515 : (Jvm.Cond.code ({ cls := "java/lang/StringUTF16", name := "compress", desc := "([BI[BII)I" } : Jvm.MethodName) prog_24_method_22_code (7 : Nat) (Option.some Jvm.ClassFile.FieldType.int)) ∈ lw_all := lw_g (lw_at lw_m2 217 rfl) rfl
theorem q516 : (Jvm.Cond.methodLink "java/lang/StringUTF16" (71 : Nat) ({ cls := "java/lang/StringUTF16", name := "getChar", desc := "([BI)C" } : Jvm.MethodName)) ∈ lw_all := lw_g (lw_at lw_m2 218 rfl) rfl
theorem q517 : (Jvm.Cond.static ({ cls := "java/lang/StringUTF16", name := "getChar", desc := "([BI)C" } : Jvm.MethodName)) ∈ lw_all := lw_g (lw_at lw_m2 219 rfl) rfl
theorem q518 : (Jvm.Cond.code ({ cls := "java/lang/StringUTF16", name := "getChar", desc := "([BI)C" } : Jvm.MethodName) prog_24_method_5_code (2 : Nat) (Option.some Jvm.ClassFile.FieldType.char)) ∈ lw_all := lw_g (lw_at lw_m2 220 rfl) rfl
theorem q519 : (Jvm.Cond.methodLink "java/lang/StringUTF16" (126 : Nat) ({ cls := "java/util/Arrays", name := "copyOfRange", desc := "([BII)[B" } : Jvm.MethodName)) ∈ lw_all := lw_g (lw_at lw_m2 221 rfl) rfl
theorem q521 : (Jvm.Cond.static ({ cls := "java/lang/StringUTF16", name := "coderFromArrayLen", desc := "([BI)B" } : Jvm.MethodName)) ∈ lw_all := lw_g (lw_at lw_m2 223 rfl) rfl
theorem q522 : (Jvm.Cond.code ({ cls := "java/lang/StringUTF16", name := "coderFromArrayLen", desc := "([BI)B" } : Jvm.MethodName) prog_24_method_15_code (2 : Nat) (Option.some Jvm.ClassFile.FieldType.byte)) ∈ lw_all := lw_g (lw_at lw_m2 224 rfl) rfl
theorem q556 : (Jvm.Cond.static ({ cls := "java/lang/StringUTF16", name := "charAt", desc := "([BI)C" } : Jvm.MethodName)) ∈ lw_all := lw_g (lw_at lw_m3 18 rfl) rfl
theorem q557 : (Jvm.Cond.code ({ cls := "java/lang/StringUTF16", name := "charAt", desc := "([BI)C" } : Jvm.MethodName) prog_24_method_83_code (2 : Nat) (Option.some Jvm.ClassFile.FieldType.char)) ∈ lw_all := lw_g (lw_at lw_m3 19 rfl) rfl
theorem q558 : (Jvm.Cond.methodLink "java/lang/StringUTF16" (67 : Nat) ({ cls := "java/lang/StringUTF16", name := "checkIndex", desc := "(I[B)V" } : Jvm.MethodName)) ∈ lw_all := lw_g (lw_at lw_m3 20 rfl) rfl
theorem q559 : (Jvm.Cond.static ({ cls := "java/lang/StringUTF16", name := "checkIndex", desc := "(I[B)V" } : Jvm.MethodName)) ∈ lw_all := lw_g (lw_at lw_m3 21 rfl) rfl
theorem q560 : (Jvm.Cond.code ({ cls := "java/lang/StringUTF16", name := "checkIndex", desc := "(I[B)V" } : Jvm.MethodName) prog_24_method_91_code (2 : Nat) (Option.none : Option Jvm.ClassFile.FieldType)) ∈ lw_all := lw_g (lw_at lw_m3 22 rfl) rfl
theorem q561 : (Jvm.Cond.methodLink "java/lang/StringUTF16" (414 : Nat) ({ cls := "java/lang/String", name := "checkIndex", desc := "(II)V" } : Jvm.MethodName)) ∈ lw_all := lw_g (lw_at lw_m3 23 rfl) rfl
theorem q586 : (Jvm.Cond.static ({ cls := "java/lang/StringUTF16", name := "indexOf", desc := "([BIII)I" } : Jvm.MethodName)) ∈ lw_all := lw_g (lw_at lw_m3 48 rfl) rfl
theorem q587 : (Jvm.Cond.code ({ cls := "java/lang/StringUTF16", name := "indexOf", desc := "([BIII)I" } : Jvm.MethodName) prog_24_method_40_code (4 : Nat) (Option.some Jvm.ClassFile.FieldType.int)) ∈ lw_all := lw_g (lw_at lw_m3 49 rfl) rfl
theorem q588 : (Jvm.Cond.methodLink "java/lang/StringUTF16" (224 : Nat) ({ cls := "java/lang/Math", name := "max", desc := "(II)I" } : Jvm.MethodName)) ∈ lw_all := lw_g (lw_at lw_m3 50 rfl) rfl
theorem q589 : (Jvm.Cond.methodLink "java/lang/StringUTF16" (183 : Nat) ({ cls := "java/lang/Math", name := "min", desc := "(II)I" } : Jvm.MethodName)) ∈ lw_all := lw_g (lw_at lw_m3 51 rfl) rfl
theorem q590 : (Jvm.Cond.constant "java/lang/StringUTF16" (227 : Nat) (65536 : Int32)) ∈ lw_all := lw_g (lw_at lw_m3 52 rfl) rfl
theorem q591 : (Jvm.Cond.methodLink "java/lang/StringUTF16" (228 : Nat) ({ cls := "java/lang/StringUTF16", name := "indexOfChar", desc := "([BIII)I" } : Jvm.MethodName)) ∈ lw_all := lw_g (lw_at lw_m3 53 rfl) rfl
theorem q592 : (Jvm.Cond.static ({ cls := "java/lang/StringUTF16", name := "indexOfChar", desc := "([BIII)I" } : Jvm.MethodName)) ∈ lw_all := lw_g (lw_at lw_m3 54 rfl) rfl
theorem q593 : (Jvm.Cond.code ({ cls := "java/lang/StringUTF16", name := "indexOfChar", desc := "([BIII)I" } : Jvm.MethodName) prog_24_method_47_code (4 : Nat) (Option.some Jvm.ClassFile.FieldType.int)) ∈ lw_all := lw_g (lw_at lw_m3 55 rfl) rfl
theorem q594 : (Jvm.Cond.methodLink "java/lang/StringUTF16" (244 : Nat) ({ cls := "java/lang/StringUTF16", name := "indexOfCharUnsafe", desc := "([BIII)I" } : Jvm.MethodName)) ∈ lw_all := lw_g (lw_at lw_m3 56 rfl) rfl
theorem q595 : (Jvm.Cond.static ({ cls := "java/lang/StringUTF16", name := "indexOfCharUnsafe", desc := "([BIII)I" } : Jvm.MethodName)) ∈ lw_all := lw_g (lw_at lw_m3 57 rfl) rfl
theorem q596 : (Jvm.Cond.code ({ cls := "java/lang/StringUTF16", name := "indexOfCharUnsafe", desc := "([BIII)I" } : Jvm.MethodName) prog_24_method_48_code (5 : Nat) (Option.some Jvm.ClassFile.FieldType.int)) ∈ lw_all := lw_g (lw_at lw_m3 58 rfl) rfl
theorem q597 : (Jvm.Cond.methodLink "java/lang/StringUTF16" (232 : Nat) ({ cls := "java/lang/StringUTF16", name := "indexOfSupplementary", desc := "([BIII)I" } : Jvm.MethodName)) ∈ lw_all := lw_g (lw_at lw_m3 59 rfl) rfl
theorem q598 : (Jvm.Cond.static ({ cls := "java/lang/StringUTF16", name := "indexOfSupplementary", desc := "([BIII)I" } : Jvm.MethodName)) ∈ lw_all := lw_g (lw_at lw_m3 60 rfl) rfl
theorem q599 : (Jvm.Cond.code ({ cls := "java/lang/StringUTF16", name := "indexOfSupplementary", desc := "([BIII)I" } : Jvm.MethodName) prog_24_method_49_code (7 : Nat) (Option.some Jvm.ClassFile.FieldType.int)) ∈ lw_all := lw_g (lw_at lw_m3 61 rfl) rfl
theorem q600 : (Jvm.Cond.methodLink "java/lang/StringUTF16" (164 : Nat) ({ cls := "java/lang/Character", name := "isValidCodePoint", desc := "(I)Z" } : Jvm.MethodName)) ∈ lw_all := lw_g (lw_at lw_m3 62 rfl) rfl
theorem q603 : (Jvm.Cond.methodLink "java/lang/StringUTF16" (157 : Nat) ({ cls := "java/lang/Character", name := "highSurrogate", desc := "(I)C" } : Jvm.MethodName)) ∈ lw_all := lw_g (lw_at lw_m3 65 rfl) rfl
theorem q607 : (Jvm.Cond.methodLink "java/lang/StringUTF16" (161 : Nat) ({ cls := "java/lang/Character", name := "lowSurrogate", desc := "(I)C" } : Jvm.MethodName)) ∈ lw_all := lw_g (lw_at lw_m3 69 rfl) rfl
theorem q712 : (Jvm.Cond.static ({ cls := "java/lang/StringUTF16", name := "newString", desc := "([BII)Ljava/lang/String;" } : Jvm.MethodName)) ∈ lw_all := lw_g (lw_at lw_m3 174 rfl) rfl
theorem q713 : (Jvm.Cond.code ({ cls := "java/lang/StringUTF16", name := "newString", desc := "([BII)Ljava/lang/String;" } : Jvm.MethodName) prog_24_method_69_code (5 : Nat) (Option.some (Jvm.ClassFile.FieldType.object "java/lang/String"))) ∈ lw_all := lw_g (lw_at lw_m3 175 rfl) rfl
theorem q714 : (Jvm.Cond.stringRef "java/lang/StringUTF16" (295 : Nat) "") ∈ lw_tbl := lw_at lw_m3 176 rfl
theorem q715 : (Jvm.Cond.fieldLink "java/lang/StringUTF16" (251 : Nat) "java/lang/String" "COMPACT_STRINGS" "Z") ∈ lw_all := lw_g (lw_at lw_m3 177 rfl) rfl
theorem q716 : (Jvm.Cond.methodLink "java/lang/StringUTF16" (257 : Nat) ({ cls := "java/lang/StringUTF16", name := "compress", desc := "([BII)[B" } : Jvm.MethodName)) ∈ lw_all := lw_g (lw_at lw_m3 178 rfl) rfl
theorem q717 : (Jvm.Cond.methodLink "java/lang/StringUTF16" (259 : Nat) ({ cls := "java/lang/StringUTF16", name := "coderFromArrayLen", desc := "([BI)B" } : Jvm.MethodName)) ∈ lw_all := lw_g (lw_at lw_m3 179 rfl) rfl
theorem q718 : (Jvm.Cond.classLink "java/lang/StringUTF16" (3 : Nat) "java/lang/String") ∈ lw_all := lw_g (lw_at lw_m3 180 rfl) rfl
theorem q719 : (Jvm.Cond.methodLink "java/lang/StringUTF16" (263 : Nat) ({ cls := "java/lang/String", name := "<init>", desc := "([BB)V" } : Jvm.MethodName)) ∈ lw_all := lw_g (lw_at lw_m3 181 rfl) rfl
theorem q913 : (Jvm.Cond.static ({ cls := "java/lang/StringUTF16", name := "putCharSB", desc := "([BII)V" } : Jvm.MethodName)) ∈ lw_all := lw_g (lw_at lw_m4 135 rfl) rfl
theorem q914 : (Jvm.Cond.code ({ cls := "java/lang/StringUTF16", name := "putCharSB", desc := "([BII)V" } : Jvm.MethodName) prog_24_method_71_code (3 : Nat) (Option.none : Option Jvm.ClassFile.FieldType)) ∈ lw_all := lw_g (lw_at lw_m4 136 rfl) rfl
theorem q961 : (Jvm.Cond.static ({ cls := "java/lang/StringUTF16", name := "putCharsSB", desc := "([BILjava/lang/CharSequence;II)V" } : Jvm.MethodName)) ∈ lw_all := lw_g (lw_at lw_m4 183 rfl) rfl
theorem q962 : (Jvm.Cond.code ({ cls := "java/lang/StringUTF16", name := "putCharsSB", desc := "([BILjava/lang/CharSequence;II)V" } : Jvm.MethodName) prog_24_method_73_code (6 : Nat) (Option.none : Option Jvm.ClassFile.FieldType)) ∈ lw_all := lw_g (lw_at lw_m4 184 rfl) rfl
theorem q963 : (Jvm.Cond.interfaceEntry "java/lang/StringUTF16" (388 : Nat)) ∈ lw_tbl := lw_at lw_m4 185 rfl
theorem q964 : (Jvm.Cond.methodLink "java/lang/StringUTF16" (388 : Nat) ({ cls := "java/lang/CharSequence", name := "charAt", desc := "(I)C" } : Jvm.MethodName)) ∈ lw_all := lw_g (lw_at lw_m4 186 rfl) rfl
theorem q1615 : (Jvm.Cond.static ({ cls := "java/lang/StringUTF16", name := "indexOf", desc := "([BI[BII)I" } : Jvm.MethodName)) ∈ lw_all := lw_g (lw_at lw_m7 117 rfl) rfl
theorem q1616 : (Jvm.Cond.code ({ cls := "java/lang/StringUTF16", name := "indexOf", desc := "([BI[BII)I" } : Jvm.MethodName) prog_24_method_42_code (5 : Nat) (Option.some Jvm.ClassFile.FieldType.int)) ∈ lw_all := lw_g (lw_at lw_m7 118 rfl) rfl
theorem q1617 : (Jvm.Cond.methodLink "java/lang/StringUTF16" (235 : Nat) ({ cls := "java/lang/StringUTF16", name := "indexOfUnsafe", desc := "([BI[BII)I" } : Jvm.MethodName)) ∈ lw_all := lw_g (lw_at lw_m7 119 rfl) rfl
theorem q1618 : (Jvm.Cond.static ({ cls := "java/lang/StringUTF16", name := "indexOfUnsafe", desc := "([BI[BII)I" } : Jvm.MethodName)) ∈ lw_all := lw_g (lw_at lw_m7 120 rfl) rfl
theorem q1619 : (Jvm.Cond.code ({ cls := "java/lang/StringUTF16", name := "indexOfUnsafe", desc := "([BI[BII)I" } : Jvm.MethodName) prog_24_method_43_code (11 : Nat) (Option.some Jvm.ClassFile.FieldType.int)) ∈ lw_all := lw_g (lw_at lw_m7 121 rfl) rfl
theorem q1621 : (Jvm.Cond.static ({ cls := "java/lang/StringUTF16", name := "indexOfLatin1", desc := "([BI[BII)I" } : Jvm.MethodName)) ∈ lw_all := lw_g (lw_at lw_m7 123 rfl) rfl
theorem q1622 : (Jvm.Cond.code ({ cls := "java/lang/StringUTF16", name := "indexOfLatin1", desc := "([BI[BII)I" } : Jvm.MethodName) prog_24_method_45_code (5 : Nat) (Option.some Jvm.ClassFile.FieldType.int)) ∈ lw_all := lw_g (lw_at lw_m7 124 rfl) rfl
theorem q1623 : (Jvm.Cond.methodLink "java/lang/StringUTF16" (238 : Nat) ({ cls := "java/lang/StringUTF16", name := "indexOfLatin1Unsafe", desc := "([BI[BII)I" } : Jvm.MethodName)) ∈ lw_all := lw_g (lw_at lw_m7 125 rfl) rfl
theorem q1624 : (Jvm.Cond.static ({ cls := "java/lang/StringUTF16", name := "indexOfLatin1Unsafe", desc := "([BI[BII)I" } : Jvm.MethodName)) ∈ lw_all := lw_g (lw_at lw_m7 126 rfl) rfl
theorem q1625 : (Jvm.Cond.code ({ cls := "java/lang/StringUTF16", name := "indexOfLatin1Unsafe", desc := "([BI[BII)I" } : Jvm.MethodName) prog_24_method_46_code (11 : Nat) (Option.some Jvm.ClassFile.FieldType.int)) ∈ lw_all := lw_g (lw_at lw_m7 127 rfl) rfl
theorem q1649 : (Jvm.Cond.static ({ cls := "java/lang/StringUTF16", name := "lastIndexOf", desc := "([BII)I" } : Jvm.MethodName)) ∈ lw_all := lw_g (lw_at lw_m7 151 rfl) rfl
theorem q1650 : (Jvm.Cond.code ({ cls := "java/lang/StringUTF16", name := "lastIndexOf", desc := "([BII)I" } : Jvm.MethodName) prog_24_method_51_code (4 : Nat) (Option.some Jvm.ClassFile.FieldType.int)) ∈ lw_all := lw_g (lw_at lw_m7 152 rfl) rfl
theorem q1651 : (Jvm.Cond.methodLink "java/lang/StringUTF16" (247 : Nat) ({ cls := "java/lang/StringUTF16", name := "lastIndexOfSupplementary", desc := "([BII)I" } : Jvm.MethodName)) ∈ lw_all := lw_g (lw_at lw_m7 153 rfl) rfl
theorem q1652 : (Jvm.Cond.static ({ cls := "java/lang/StringUTF16", name := "lastIndexOfSupplementary", desc := "([BII)I" } : Jvm.MethodName)) ∈ lw_all := lw_g (lw_at lw_m7 154 rfl) rfl
theorem q1653 : (Jvm.Cond.code ({ cls := "java/lang/StringUTF16", name := "lastIndexOfSupplementary", desc := "([BII)I" } : Jvm.MethodName) prog_24_method_52_code (6 : Nat) (Option.some Jvm.ClassFile.FieldType.int)) ∈ lw_all := lw_g (lw_at lw_m7 155 rfl) rfl
theorem q1968 : (Jvm.Cond.static ({ cls := "java/lang/StringUTF16", name := "reverse", desc := "([BI)V" } : Jvm.MethodName)) ∈ lw_all := lw_g (lw_at lw_m8 230 rfl) rfl
theorem q1969 : (Jvm.Cond.code ({ cls := "java/lang/StringUTF16", name := "reverse", desc := "([BI)V" } : Jvm.MethodName) prog_24_method_84_code (8 : Nat) (Option.none : Option Jvm.ClassFile.FieldType)) ∈ lw_all := lw_g (lw_at lw_m8 231 rfl) rfl
theorem q1970 : (Jvm.Cond.methodLink "java/lang/StringUTF16" (180 : Nat) ({ cls := "java/lang/StringUTF16", name := "checkOffset", desc := "(I[B)V" } : Jvm.MethodName)) ∈ lw_all := lw_g (lw_at lw_m8 232 rfl) rfl
theorem q1971 : (Jvm.Cond.static ({ cls := "java/lang/StringUTF16", name := "checkOffset", desc := "(I[B)V" } : Jvm.MethodName)) ∈ lw_all := lw_g (lw_at lw_m8 233 rfl) rfl
theorem q1972 : (Jvm.Cond.code ({ cls := "java/lang/StringUTF16", name := "checkOffset", desc := "(I[B)V" } : Jvm.MethodName) prog_24_method_92_code (2 : Nat) (Option.none : Option Jvm.ClassFile.FieldType)) ∈ lw_all := lw_g (lw_at lw_m8 234 rfl) rfl
theorem q1973 : (Jvm.Cond.methodLink "java/lang/StringUTF16" (417 : Nat) ({ cls := "java/lang/String", name := "checkOffset", desc := "(II)V" } : Jvm.MethodName)) ∈ lw_all := lw_g (lw_at lw_m8 235 rfl) rfl
theorem q1974 : (Jvm.Cond.methodLink "java/lang/StringUTF16" (212 : Nat) ({ cls := "java/lang/Character", name := "isSurrogate", desc := "(C)Z" } : Jvm.MethodName)) ∈ lw_all := lw_g (lw_at lw_m8 236 rfl) rfl
theorem q1979 : (Jvm.Cond.methodLink "java/lang/StringUTF16" (399 : Nat) ({ cls := "java/lang/StringUTF16", name := "reverseAllValidSurrogatePairs", desc := "([BI)V" } : Jvm.MethodName)) ∈ lw_all := lw_g (lw_at lw_m9 1 rfl) rfl
theorem q1980 : (Jvm.Cond.static ({ cls := "java/lang/StringUTF16", name := "reverseAllValidSurrogatePairs", desc := "([BI)V" } : Jvm.MethodName)) ∈ lw_all := lw_g (lw_at lw_m9 2 rfl) rfl
theorem q1981 : (Jvm.Cond.code ({ cls := "java/lang/StringUTF16", name := "reverseAllValidSurrogatePairs", desc := "([BI)V" } : Jvm.MethodName) prog_24_method_85_code (5 : Nat) (Option.none : Option Jvm.ClassFile.FieldType)) ∈ lw_all := lw_g (lw_at lw_m9 3 rfl) rfl
theorem q1982 : (Jvm.Cond.methodLink "java/lang/StringUTF16" (81 : Nat) ({ cls := "java/lang/Character", name := "isLowSurrogate", desc := "(C)Z" } : Jvm.MethodName)) ∈ lw_all := lw_g (lw_at lw_m9 4 rfl) rfl
theorem q1985 : (Jvm.Cond.methodLink "java/lang/StringUTF16" (75 : Nat) ({ cls := "java/lang/Character", name := "isHighSurrogate", desc := "(C)Z" } : Jvm.MethodName)) ∈ lw_all := lw_g (lw_at lw_m9 7 rfl) rfl
def RJ11 : String := "jdk/internal/util/ArraysSupport"
abbrev cJ11_newLength : ByteArray := prog_33_method_27_code
def yJ11_newLength : MethodName := ⟨RJ11, "newLength", "(III)I"⟩
abbrev cJ11_hugeLength : ByteArray := prog_33_method_28_code
def yJ11_hugeLength : MethodName := ⟨RJ11, "hugeLength", "(II)I"⟩
abbrev cJ11_mismatch : ByteArray := prog_33_method_14_code
def yJ11_mismatch : MethodName := ⟨RJ11, "mismatch", "([BI[BII)I"⟩
abbrev cJ11_vectorizedMismatch : ByteArray := prog_33_method_3_code
def yJ11_vectorizedMismatch : MethodName := ⟨RJ11, "vectorizedMismatch", "(Ljava/lang/Object;JLjava/lang/Object;JII)I"⟩
theorem q71 : (Jvm.Cond.initialized "jdk/internal/util/ArraysSupport") ∈ lw_all := lw_g (lw_at lw_m1 13 rfl) rfl
theorem q264 : (Jvm.Cond.static ({ cls := "jdk/internal/util/ArraysSupport", name := "newLength", desc := "(III)I" } : Jvm.MethodName)) ∈ lw_all := lw_g (lw_at lw_m1 206 rfl) rfl
theorem q265 : (Jvm.Cond.code ({ cls := "jdk/internal/util/ArraysSupport", name := "newLength", desc := "(III)I" } : Jvm.MethodName) prog_33_method_27_code (4 : Nat) (Option.some Jvm.ClassFile.FieldType.int)) ∈ lw_all := lw_g (lw_at lw_m1 207 rfl) rfl
theorem q266 : (Jvm.Cond.methodLink "jdk/internal/util/ArraysSupport" (194 : Nat) ({ cls := "java/lang/Math", name := "max", desc := "(II)I" } : Jvm.MethodName)) ∈ lw_all := lw_g (lw_at lw_m1 208 rfl) rfl
theorem q269 : (Jvm.Cond.constant "jdk/internal/util/ArraysSupport" (200 : Nat) (2147483639 : Int32)) ∈ lw_all := lw_g (lw_at lw_m1 211 rfl) rfl
theorem q270 : (Jvm.Cond.methodLink "jdk/internal/util/ArraysSupport" (201 : Nat) ({ cls := "jdk/internal/util/ArraysSupport", name := "hugeLength", desc := "(II)I" } : Jvm.MethodName)) ∈ lw_all := lw_g (lw_at lw_m1 212 rfl) rfl
theorem q271 : (Jvm.Cond.static ({ cls := "jdk/internal/util/ArraysSupport", name := "hugeLength", desc := "(II)I" } : Jvm.MethodName)) ∈ lw_all := lw_g (lw_at lw_m1 213 rfl) rfl
theorem q272 : (Jvm.Cond.code ({ cls := "jdk/internal/util/ArraysSupport", name := "hugeLength", desc := "(II)I" } : Jvm.MethodName) prog_33_method_28_code (3 : Nat) (Option.some Jvm.ClassFile.FieldType.int)) ∈ lw_all := lw_g (lw_at lw_m1 214 rfl) rfl
theorem q2250 : (Jvm.Cond.static ({ cls := "jdk/internal/util/ArraysSupport", name := "mismatch", desc := "([BI[BII)I" } : Jvm.MethodName)) ∈ lw_all := lw_g (lw_at lw_m10 32 rfl) rfl
theorem q2251 : (Jvm.Cond.code ({ cls := "jdk/internal/util/ArraysSupport", name := "mismatch", desc := "([BI[BII)I" } : Jvm.MethodName) prog_33_method_14_code (8 : Nat) (Option.some Jvm.ClassFile.FieldType.int)) ∈ lw_all := lw_g (lw_at lw_m10 33 rfl) rfl
theorem q2252 : (Jvm.Cond.fieldLink "jdk/internal/util/ArraysSupport" (126 : Nat) "jdk/internal/misc/Unsafe" "ARRAY_BYTE_BASE_OFFSET" "I") ∈ lw_all := lw_g (lw_at lw_m10 34 rfl) rfl
theorem q2254 : (Jvm.Cond.fieldLink "jdk/internal/util/ArraysSupport" (129 : Nat) "jdk/internal/util/ArraysSupport" "LOG2_ARRAY_BYTE_INDEX_SCALE" "I") ∈ lw_all := lw_g (lw_at lw_m10 36 rfl) rfl
theorem q2255 : (Jvm.Cond.laysStatic "jdk/internal/util/ArraysSupport" "LOG2_ARRAY_BYTE_INDEX_SCALE" "I") ∈ lw_tbl := lw_at lw_m10 37 rfl
theorem q2256 : (Jvm.Cond.methodLink "jdk/internal/util/ArraysSupport" (122 : Nat) ({ cls := "jdk/internal/util/ArraysSupport", name := "vectorizedMismatch", desc := "(Ljava/lang/Object;JLjava/lang/Object;JII)I" } : Jvm.MethodName)) ∈ lw_all := lw_g (lw_at lw_m10 38 rfl) rfl
theorem q2257 : (Jvm.Cond.static ({ cls := "jdk/internal/util/ArraysSupport", name := "vectorizedMismatch", desc := "(Ljava/lang/Object;JLjava/lang/Object;JII)I" } : Jvm.MethodName)) ∈ lw_all := lw_g (lw_at lw_m10 39 rfl) rfl
theorem q2258 : (Jvm.Cond.code ({ cls := "jdk/internal/util/ArraysSupport", name := "vectorizedMismatch", desc := "(Ljava/lang/Object;JLjava/lang/Object;JII)I" } : Jvm.MethodName) prog_33_method_3_code (19 : Nat) (Option.some Jvm.ClassFile.FieldType.int)) ∈ lw_all := lw_g (lw_at lw_m10 40 rfl) rfl
theorem q2259 : (Jvm.Cond.fieldLink "jdk/internal/util/ArraysSupport" (20 : Nat) "jdk/internal/util/ArraysSupport" "LOG2_ARRAY_LONG_INDEX_SCALE" "I") ∈ lw_all := lw_g (lw_at lw_m10 41 rfl) rfl
theorem q2260 : (Jvm.Cond.laysStatic "jdk/internal/util/ArraysSupport" "LOG2_ARRAY_LONG_INDEX_SCALE" "I") ∈ lw_tbl := lw_at lw_m10 42 rfl
theorem q2261 : (Jvm.Cond.fieldLink "jdk/internal/util/ArraysSupport" (26 : Nat) "jdk/internal/util/ArraysSupport" "U" "Ljdk/internal/misc/Unsafe;") ∈ lw_all := lw_g (lw_at lw_m10 43 rfl) rfl
theorem q2262 : (Jvm.Cond.laysStatic "jdk/internal/util/ArraysSupport" "U" "Ljdk/internal/misc/Unsafe;") ∈ lw_tbl := lw_at lw_m10 44 rfl
theorem q2263 : (Jvm.Cond.methodLink "jdk/internal/util/ArraysSupport" (30 : Nat) ({ cls := "jdk/internal/misc/Unsafe", name := "getLongUnaligned", desc := "(Ljava/lang/Object;J)J" } : Jvm.MethodName)) ∈ lw_all := lw_g (lw_at lw_m10 45 rfl) rfl
theorem q2315 : (Jvm.Cond.fieldLink "jdk/internal/util/ArraysSupport" (36 : Nat) "jdk/internal/util/ArraysSupport" "BIG_ENDIAN" "Z") ∈ lw_all := lw_g (lw_at lw_m10 97 rfl) rfl
theorem q2316 : (Jvm.Cond.laysStatic "jdk/internal/util/ArraysSupport" "BIG_ENDIAN" "Z") ∈ lw_tbl := lw_at lw_m10 98 rfl
theorem q2317 : (Jvm.Cond.methodLink "jdk/internal/util/ArraysSupport" (40 : Nat) ({ cls := "java/lang/Long", name := "numberOfLeadingZeros", desc := "(J)I" } : Jvm.MethodName)) ∈ lw_all := lw_g (lw_at lw_m10 99 rfl) rfl
theorem q2321 : (Jvm.Cond.fieldLink "jdk/internal/util/ArraysSupport" (46 : Nat) "jdk/internal/util/ArraysSupport" "LOG2_BYTE_BIT_SIZE" "I") ∈ lw_all := lw_g (lw_at lw_m10 103 rfl) rfl
theorem q2322 : (Jvm.Cond.laysStatic "jdk/internal/util/ArraysSupport" "LOG2_BYTE_BIT_SIZE" "I") ∈ lw_tbl := lw_at lw_m10 104 rfl
theorem q2323 : (Jvm.Cond.methodLink "jdk/internal/util/ArraysSupport" (49 : Nat) ({ cls := "java/lang/Long", name := "numberOfTrailingZeros", desc := "(J)I" } : Jvm.MethodName)) ∈ lw_all := lw_g (lw_at lw_m10 105 rfl) rfl
theorem q2324 : (Jvm.Cond.fieldLink "jdk/internal/util/ArraysSupport" (51 : Nat) "jdk/internal/util/ArraysSupport" "LOG2_ARRAY_INT_INDEX_SCALE" "I") ∈ lw_all := lw_g (lw_at lw_m10 106 rfl) rfl
theorem q2325 : (Jvm.Cond.laysStatic "jdk/internal/util/ArraysSupport" "LOG2_ARRAY_INT_INDEX_SCALE" "I") ∈ lw_tbl := lw_at lw_m10 107 rfl
theorem q2326 : (Jvm.Cond.methodLink "jdk/internal/util/ArraysSupport" (54 : Nat) ({ cls := "jdk/internal/misc/Unsafe", name := "getIntUnaligned", desc := "(Ljava/lang/Object;J)I" } : Jvm.MethodName)) ∈ lw_all := lw_g (lw_at lw_m10 108 rfl) rfl
theorem q2343 : (Jvm.Cond.methodLink "jdk/internal/util/ArraysSupport" (58 : Nat) ({ cls := "java/lang/Integer", name := "numberOfLeadingZeros", desc := "(I)I" } : Jvm.MethodName)) ∈ lw_all := lw_g (lw_at lw_m10 125 rfl) rfl
theorem q2344 : (Jvm.Cond.methodLink "jdk/internal/util/ArraysSupport" (11 : Nat) ({ cls := "java/lang/Integer", name := "numberOfTrailingZeros", desc := "(I)I" } : Jvm.MethodName)) ∈ lw_all := lw_g (lw_at lw_m10 126 rfl) rfl
def RJ12 : String := "java/lang/Math"
abbrev cJ12_max : ByteArray := prog_16_method_65_code
def yJ12_max : MethodName := ⟨RJ12, "max", "(II)I"⟩
abbrev cJ12_min : ByteArray := prog_16_method_69_code
def yJ12_min : MethodName := ⟨RJ12, "min", "(II)I"⟩
abbrev cJ12_floor : ByteArray := prog_16_method_17_code
def yJ12_floor : MethodName := ⟨RJ12, "floor", "(D)D"⟩
abbrev cJ12_getExponent : ByteArray := prog_16_method_92_code
def yJ12_getExponent : MethodName := ⟨RJ12, "getExponent", "(D)I"⟩
abbrev cJ12_max_2 : ByteArray := prog_16_method_66_code
def yJ12_max_2 : MethodName := ⟨RJ12, "max", "(JJ)J"⟩
abbrev cJ12_scalb : ByteArray := prog_16_method_99_code
def yJ12_scalb : MethodName := ⟨RJ12, "scalb", "(DI)D"⟩
abbrev cJ12_powerOfTwoD : ByteArray := prog_16_method_101_code
def yJ12_powerOfTwoD : MethodName := ⟨RJ12, "powerOfTwoD", "(I)D"⟩
abbrev cJ12_clamp : ByteArray := prog_16_method_73_code
def yJ12_clamp : MethodName := ⟨RJ12, "clamp", "(JII)I"⟩
abbrev cJ12_min_2 : ByteArray := prog_16_method_70_code
def yJ12_min_2 : MethodName := ⟨RJ12, "min", "(JJ)J"⟩
abbrev cJ12_nextUp : ByteArray := prog_16_method_95_code
def yJ12_nextUp : MethodName := ⟨RJ12, "nextUp", "(D)D"⟩
abbrev cJ12_abs : ByteArray := prog_16_method_64_code
def yJ12_abs : MethodName := ⟨RJ12, "abs", "(D)D"⟩
abbrev cJ12_nextDown : ByteArray := prog_16_method_97_code
def yJ12_nextDown : MethodName := ⟨RJ12, "nextDown", "(D)D"⟩
abbrev cJ12_nextAfter : ByteArray := prog_16_method_93_code
def yJ12_nextAfter : MethodName := ⟨RJ12, "nextAfter", "(DD)D"⟩
abbrev cJ12_ulp : ByteArray := prog_16_method_79_code
def yJ12_ulp : MethodName := ⟨RJ12, "ulp", "(D)D"⟩
theorem q72 : (Jvm.Cond.initialized "java/lang/Math") ∈ lw_all := lw_g (lw_at lw_m1 14 rfl) rfl
theorem q267 : (Jvm.Cond.static ({ cls := "java/lang/Math", name := "max", desc := "(II)I" } : Jvm.MethodName)) ∈ lw_all := lw_g (lw_at lw_m1 209 rfl) rfl
theorem q268 : (Jvm.Cond.code ({ cls := "java/lang/Math", name := "max", desc := "(II)I" } : Jvm.MethodName) prog_16_method_65_code (2 : Nat) (Option.some Jvm.ClassFile.FieldType.int)) ∈ lw_all := lw_g (lw_at lw_m1 210 rfl) rfl
theorem q284 : (Jvm.Cond.static ({ cls := "java/lang/Math", name := "min", desc := "(II)I" } : Jvm.MethodName)) ∈ lw_all := lw_g (lw_at lw_m1 226 rfl) rfl
theorem q285 : (Jvm.Cond.code ({ cls := "java/lang/Math", name := "min", desc := "(II)I" } : Jvm.MethodName) prog_16_method_69_code (2 : Nat) (Option.some Jvm.ClassFile.FieldType.int)) ∈ lw_all := lw_g (lw_at lw_m1 227 rfl) rfl
theorem q875 : (Jvm.Cond.static ({ cls := "java/lang/Math", name := "floor", desc := "(D)D" } : Jvm.MethodName)) ∈ lw_all := lw_g (lw_at lw_m4 97 rfl) rfl
theorem q876 : (Jvm.Cond.code ({ cls := "java/lang/Math", name := "floor", desc := "(D)D" } : Jvm.MethodName) prog_16_method_17_code (2 : Nat) (Option.some Jvm.ClassFile.FieldType.double)) ∈ lw_all := lw_g (lw_at lw_m4 98 rfl) rfl
theorem q877 : (Jvm.Cond.methodLink "java/lang/Math" (56 : Nat) ({ cls := "java/lang/StrictMath", name := "floor", desc := "(D)D" } : Jvm.MethodName)) ∈ lw_all := lw_g (lw_at lw_m4 99 rfl) rfl
theorem q885 : (Jvm.Cond.static ({ cls := "java/lang/Math", name := "getExponent", desc := "(D)I" } : Jvm.MethodName)) ∈ lw_all := lw_g (lw_at lw_m4 107 rfl) rfl
theorem q886 : (Jvm.Cond.code ({ cls := "java/lang/Math", name := "getExponent", desc := "(D)I" } : Jvm.MethodName) prog_16_method_92_code (2 : Nat) (Option.some Jvm.ClassFile.FieldType.int)) ∈ lw_all := lw_g (lw_at lw_m4 108 rfl) rfl
theorem q887 : (Jvm.Cond.methodLink "java/lang/Math" (79 : Nat) ({ cls := "java/lang/Double", name := "doubleToRawLongBits", desc := "(D)J" } : Jvm.MethodName)) ∈ lw_all := lw_g (lw_at lw_m4 109 rfl) rfl
theorem q888 : (Jvm.Cond.constantLong "java/lang/Math" (87 : Nat) (9218868437227405312 : Int64)) ∈ lw_all := lw_g (lw_at lw_m4 110 rfl) rfl
theorem q889 : (Jvm.Cond.constantLong "java/lang/Math" (322 : Nat) (1023 : Int64)) ∈ lw_all := lw_g (lw_at lw_m4 111 rfl) rfl
theorem q1114 : (Jvm.Cond.static ({ cls := "java/lang/Math", name := "max", desc := "(JJ)J" } : Jvm.MethodName)) ∈ lw_all := lw_g (lw_at lw_m5 96 rfl) rfl
theorem q1115 : (Jvm.Cond.code ({ cls := "java/lang/Math", name := "max", desc := "(JJ)J" } : Jvm.MethodName) prog_16_method_66_code (4 : Nat) (Option.some Jvm.ClassFile.FieldType.long)) ∈ lw_all := lw_g (lw_at lw_m5 97 rfl) rfl
theorem q1461 : (Jvm.Cond.static ({ cls := "java/lang/Math", name := "scalb", desc := "(DI)D" } : Jvm.MethodName)) ∈ lw_all := lw_g (lw_at lw_m6 203 rfl) rfl
theorem q1462 : (Jvm.Cond.code ({ cls := "java/lang/Math", name := "scalb", desc := "(DI)D" } : Jvm.MethodName) prog_16_method_99_code (9 : Nat) (Option.some Jvm.ClassFile.FieldType.double)) ∈ lw_all := lw_g (lw_at lw_m6 204 rfl) rfl
theorem q1463 : (Jvm.Cond.constantDouble "java/lang/Math" (238 : Nat) (9221120237041090560 : UInt64)) ∈ lw_all := lw_g (lw_at lw_m6 205 rfl) rfl
theorem q1464 : (Jvm.Cond.methodLink "java/lang/Math" (333 : Nat) ({ cls := "java/lang/Math", name := "max", desc := "(II)I" } : Jvm.MethodName)) ∈ lw_all := lw_g (lw_at lw_m6 206 rfl) rfl
theorem q1465 : (Jvm.Cond.fieldLink "java/lang/Math" (336 : Nat) "java/lang/Math" "twoToTheDoubleScaleDown" "D") ∈ lw_all := lw_g (lw_at lw_m6 207 rfl) rfl
theorem q1466 : (Jvm.Cond.laysStatic "java/lang/Math" "twoToTheDoubleScaleDown" "D") ∈ lw_tbl := lw_at lw_m6 208 rfl
theorem q1467 : (Jvm.Cond.methodLink "java/lang/Math" (340 : Nat) ({ cls := "java/lang/Math", name := "min", desc := "(II)I" } : Jvm.MethodName)) ∈ lw_all := lw_g (lw_at lw_m6 209 rfl) rfl
theorem q1468 : (Jvm.Cond.fieldLink "java/lang/Math" (342 : Nat) "java/lang/Math" "twoToTheDoubleScaleUp" "D") ∈ lw_all := lw_g (lw_at lw_m6 210 rfl) rfl
theorem q1469 : (Jvm.Cond.laysStatic "java/lang/Math" "twoToTheDoubleScaleUp" "D") ∈ lw_tbl := lw_at lw_m6 211 rfl
theorem q1470 : (Jvm.Cond.methodLink "java/lang/Math" (286 : Nat) ({ cls := "java/lang/Math", name := "powerOfTwoD", desc := "(I)D" } : Jvm.MethodName)) ∈ lw_all := lw_g (lw_at lw_m6 212 rfl) rfl
theorem q1471 : (Jvm.Cond.static ({ cls := "java/lang/Math", name := "powerOfTwoD", desc := "(I)D" } : Jvm.MethodName)) ∈ lw_all := lw_g (lw_at lw_m6 213 rfl) rfl
theorem q1472 : (Jvm.Cond.code ({ cls := "java/lang/Math", name := "powerOfTwoD", desc := "(I)D" } : Jvm.MethodName) prog_16_method_101_code (1 : Nat) (Option.some Jvm.ClassFile.FieldType.double)) ∈ lw_all := lw_g (lw_at lw_m6 214 rfl) rfl
theorem q1473 : (Jvm.Cond.fieldLink "java/lang/Math" (243 : Nat) "java/lang/Math" "$assertionsDisabled" "Z") ∈ lw_all := lw_g (lw_at lw_m6 215 rfl) rfl
theorem q1474 : (Jvm.Cond.laysStatic "java/lang/Math" "$assertionsDisabled" "Z") ∈ lw_tbl := lw_at lw_m6 216 rfl
theorem q1475 : (Jvm.Cond.methodLink "java/lang/Math" (166 : Nat) ({ cls := "java/lang/Double", name := "longBitsToDouble", desc := "(J)D" } : Jvm.MethodName)) ∈ lw_all := lw_g (lw_at lw_m6 217 rfl) rfl
theorem q1597 : (Jvm.Cond.static ({ cls := "java/lang/Math", name := "clamp", desc := "(JII)I" } : Jvm.MethodName)) ∈ lw_all := lw_g (lw_at lw_m7 99 rfl) rfl
theorem q1598 : (Jvm.Cond.code ({ cls := "java/lang/Math", name := "clamp", desc := "(JII)I" } : Jvm.MethodName) prog_16_method_73_code (4 : Nat) (Option.some Jvm.ClassFile.FieldType.int)) ∈ lw_all := lw_g (lw_at lw_m7 100 rfl) rfl
theorem q1599 : (Jvm.Cond.classLink "java/lang/Math" (177 : Nat) "java/lang/IllegalArgumentException") ∈ lw_all := lw_g (lw_at lw_m7 101 rfl) rfl
theorem q1600 : (Jvm.Cond.classLink "java/lang/Math" (179 : Nat) "java/lang/StringBuilder") ∈ lw_all := lw_g (lw_at lw_m7 102 rfl) rfl
theorem q1601 : (Jvm.Cond.methodLink "java/lang/Math" (181 : Nat) ({ cls := "java/lang/StringBuilder", name := "<init>", desc := "()V" } : Jvm.MethodName)) ∈ lw_all := lw_g (lw_at lw_m7 103 rfl) rfl
theorem q1602 : (Jvm.Cond.methodLink "java/lang/Math" (182 : Nat) ({ cls := "java/lang/StringBuilder", name := "append", desc := "(I)Ljava/lang/StringBuilder;" } : Jvm.MethodName)) ∈ lw_all := lw_g (lw_at lw_m7 104 rfl) rfl
theorem q1603 : (Jvm.Cond.stringRef "java/lang/Math" (186 : Nat) " > ") ∈ lw_tbl := lw_at lw_m7 105 rfl
theorem q1604 : (Jvm.Cond.methodLink "java/lang/Math" (188 : Nat) ({ cls := "java/lang/StringBuilder", name := "append", desc := "(Ljava/lang/String;)Ljava/lang/StringBuilder;" } : Jvm.MethodName)) ∈ lw_all := lw_g (lw_at lw_m7 106 rfl) rfl
theorem q1605 : (Jvm.Cond.methodLink "java/lang/Math" (191 : Nat) ({ cls := "java/lang/StringBuilder", name := "toString", desc := "()Ljava/lang/String;" } : Jvm.MethodName)) ∈ lw_all := lw_g (lw_at lw_m7 107 rfl) rfl
theorem q1606 : (Jvm.Cond.methodLink "java/lang/Math" (195 : Nat) ({ cls := "java/lang/IllegalArgumentException", name := "<init>", desc := "(Ljava/lang/String;)V" } : Jvm.MethodName)) ∈ lw_all := lw_g (lw_at lw_m7 108 rfl) rfl
theorem q1607 : (Jvm.Cond.methodLink "java/lang/Math" (196 : Nat) ({ cls := "java/lang/Math", name := "max", desc := "(JJ)J" } : Jvm.MethodName)) ∈ lw_all := lw_g (lw_at lw_m7 109 rfl) rfl
theorem q1608 : (Jvm.Cond.methodLink "java/lang/Math" (199 : Nat) ({ cls := "java/lang/Math", name := "min", desc := "(JJ)J" } : Jvm.MethodName)) ∈ lw_all := lw_g (lw_at lw_m7 110 rfl) rfl
theorem q1609 : (Jvm.Cond.static ({ cls := "java/lang/Math", name := "min", desc := "(JJ)J" } : Jvm.MethodName)) ∈ lw_all := lw_g (lw_at lw_m7 111 rfl) rfl
theorem q1610 : (Jvm.Cond.code ({ cls := "java/lang/Math", name := "min", desc := "(JJ)J" } : Jvm.MethodName) prog_16_method_70_code (4 : Nat) (Option.some Jvm.ClassFile.FieldType.long)) ∈ lw_all := lw_g (lw_at lw_m7 112 rfl) rfl
theorem q2000 : (Jvm.Cond.static ({ cls := "java/lang/Math", name := "nextUp", desc := "(D)D" } : Jvm.MethodName)) ∈ lw_all := lw_g (lw_at lw_m9 22 rfl) rfl
theorem q2001 : (Jvm.Cond.code ({ cls := "java/lang/Math", name := "nextUp", desc := "(D)D" } : Jvm.MethodName) prog_16_method_95_code (4 : Nat) (Option.some Jvm.ClassFile.FieldType.double)) ∈ lw_all := lw_g (lw_at lw_m9 23 rfl) rfl
theorem q2002 : (Jvm.Cond.constantDouble "java/lang/Math" (327 : Nat) (9218868437227405312 : UInt64)) ∈ lw_all := lw_g (lw_at lw_m9 24 rfl) rfl
theorem q2003 : (Jvm.Cond.constantLong "java/lang/Math" (130 : Nat) (-1 : Int64)) ∈ lw_all := lw_g (lw_at lw_m9 25 rfl) rfl
theorem q2012 : (Jvm.Cond.static ({ cls := "java/lang/Math", name := "abs", desc := "(D)D" } : Jvm.MethodName)) ∈ lw_all := lw_g (lw_at lw_m9 34 rfl) rfl
theorem q2013 : (Jvm.Cond.code ({ cls := "java/lang/Math", name := "abs", desc := "(D)D" } : Jvm.MethodName) prog_16_method_64_code (2 : Nat) (Option.some Jvm.ClassFile.FieldType.double)) ∈ lw_all := lw_g (lw_at lw_m9 35 rfl) rfl
theorem q2014 : (Jvm.Cond.constantLong "java/lang/Math" (135 : Nat) (9223372036854775807 : Int64)) ∈ lw_all := lw_g (lw_at lw_m9 36 rfl) rfl
theorem q2026 : (Jvm.Cond.static ({ cls := "java/lang/Math", name := "nextDown", desc := "(D)D" } : Jvm.MethodName)) ∈ lw_all := lw_g (lw_at lw_m9 48 rfl) rfl
theorem q2027 : (Jvm.Cond.code ({ cls := "java/lang/Math", name := "nextDown", desc := "(D)D" } : Jvm.MethodName) prog_16_method_97_code (2 : Nat) (Option.some Jvm.ClassFile.FieldType.double)) ∈ lw_all := lw_g (lw_at lw_m9 49 rfl) rfl
theorem q2028 : (Jvm.Cond.methodLink "java/lang/Math" (205 : Nat) ({ cls := "java/lang/Double", name := "isNaN", desc := "(D)Z" } : Jvm.MethodName)) ∈ lw_all := lw_g (lw_at lw_m9 50 rfl) rfl
theorem q2029 : (Jvm.Cond.constantDouble "java/lang/Math" (330 : Nat) (18442240474082181120 : UInt64)) ∈ lw_all := lw_g (lw_at lw_m9 51 rfl) rfl
theorem q2030 : (Jvm.Cond.constantDouble "java/lang/Math" (324 : Nat) (9223372036854775809 : UInt64)) ∈ lw_all := lw_g (lw_at lw_m9 52 rfl) rfl
theorem q2096 : (Jvm.Cond.static ({ cls := "java/lang/Math", name := "nextAfter", desc := "(DD)D" } : Jvm.MethodName)) ∈ lw_all := lw_g (lw_at lw_m9 118 rfl) rfl
theorem q2097 : (Jvm.Cond.code ({ cls := "java/lang/Math", name := "nextAfter", desc := "(DD)D" } : Jvm.MethodName) prog_16_method_93_code (6 : Nat) (Option.some Jvm.ClassFile.FieldType.double)) ∈ lw_all := lw_g (lw_at lw_m9 119 rfl) rfl
theorem q2145 : (Jvm.Cond.static ({ cls := "java/lang/Math", name := "ulp", desc := "(D)D" } : Jvm.MethodName)) ∈ lw_all := lw_g (lw_at lw_m9 167 rfl) rfl
theorem q2146 : (Jvm.Cond.code ({ cls := "java/lang/Math", name := "ulp", desc := "(D)D" } : Jvm.MethodName) prog_16_method_79_code (3 : Nat) (Option.some Jvm.ClassFile.FieldType.double)) ∈ lw_all := lw_g (lw_at lw_m9 168 rfl) rfl
theorem q2147 : (Jvm.Cond.methodLink "java/lang/Math" (278 : Nat) ({ cls := "java/lang/Math", name := "getExponent", desc := "(D)I" } : Jvm.MethodName)) ∈ lw_all := lw_g (lw_at lw_m9 169 rfl) rfl
theorem q2148 : (Jvm.Cond.methodLink "java/lang/Math" (282 : Nat) ({ cls := "java/lang/Math", name := "abs", desc := "(D)D" } : Jvm.MethodName)) ∈ lw_all := lw_g (lw_at lw_m9 170 rfl) rfl
theorem q2149 : (Jvm.Cond.constantDouble "java/lang/Math" (284 : Nat) (1 : UInt64)) ∈ lw_all := lw_g (lw_at lw_m9 171 rfl) rfl
def RJ13 : String := "java/util/Arrays"
abbrev cJ13_copyOf : ByteArray := prog_29_method_121_code
def yJ13_copyOf : MethodName := ⟨RJ13, "copyOf", "([BI)[B"⟩
abbrev cJ13_copyOfRange : ByteArray := prog_29_method_132_code
def yJ13_copyOfRange : MethodName := ⟨RJ13, "copyOfRange", "([BII)[B"⟩
abbrev cJ13_copyOfRangeByte : ByteArray := prog_29_method_133_code
def yJ13_copyOfRangeByte : MethodName := ⟨RJ13, "copyOfRangeByte", "([BII)[B"⟩
abbrev cJ13_checkLength : ByteArray := prog_29_method_131_code
def yJ13_checkLength : MethodName := ⟨RJ13, "checkLength", "(II)V"⟩
abbrev cJ13_copyOfRange_2 : ByteArray := prog_29_method_136_code
def yJ13_copyOfRange_2 : MethodName := ⟨RJ13, "copyOfRange", "([III)[I"⟩
abbrev cJ13_copyOfRangeInt : ByteArray := prog_29_method_137_code
def yJ13_copyOfRangeInt : MethodName := ⟨RJ13, "copyOfRangeInt", "([III)[I"⟩
abbrev cJ13_fill : ByteArray := prog_29_method_104_code
def yJ13_fill : MethodName := ⟨RJ13, "fill", "([IIII)V"⟩
abbrev cJ13_rangeCheck : ByteArray := prog_29_method_30_code
def yJ13_rangeCheck : MethodName := ⟨RJ13, "rangeCheck", "(III)V"⟩
abbrev cJ13_fill_2 : ByteArray := prog_29_method_103_code
def yJ13_fill_2 : MethodName := ⟨RJ13, "fill", "([II)V"⟩
abbrev cJ13_copyOf_2 : ByteArray := prog_29_method_123_code
def yJ13_copyOf_2 : MethodName := ⟨RJ13, "copyOf", "([II)[I"⟩
abbrev cJ13_fill_3 : ByteArray := prog_29_method_109_code
def yJ13_fill_3 : MethodName := ⟨RJ13, "fill", "([BB)V"⟩
theorem q73 : (Jvm.Cond.initialized "java/util/Arrays") ∈ lw_all := lw_g (lw_at lw_m1 15 rfl) rfl
theorem q274 : (Jvm.Cond.static ({ cls := "java/util/Arrays", name := "copyOf", desc := "([BI)[B" } : Jvm.MethodName)) ∈ lw_all := lw_g (lw_at lw_m1 216 rfl) rfl
theorem q275 : (Jvm.Cond.code ({ cls := "java/util/Arrays", name := "copyOf", desc := "([BI)[B" } : Jvm.MethodName) prog_29_method_121_code (3 : Nat) (Option.some (Jvm.ClassFile.FieldType.array Jvm.ClassFile.FieldType.byte))) ∈ lw_all := lw_g (lw_at lw_m1 217 rfl) rfl
theorem q276 : (Jvm.Cond.methodLink "java/util/Arrays" (310 : Nat) ({ cls := "[B", name := "clone", desc := "()Ljava/lang/Object;" } : Jvm.MethodName)) ∈ lw_all := lw_g (lw_at lw_m1 218 rfl) rfl
theorem q282 : (Jvm.Cond.classLink "java/util/Arrays" (311 : Nat) "[B") ∈ lw_all := lw_g (lw_at lw_m1 224 rfl) rfl
theorem q283 : (Jvm.Cond.methodLink "java/util/Arrays" (304 : Nat) ({ cls := "java/lang/Math", name := "min", desc := "(II)I" } : Jvm.MethodName)) ∈ lw_all := lw_g (lw_at lw_m1 225 rfl) rfl
theorem q286 : (Jvm.Cond.methodLink "java/util/Arrays" (150 : Nat) ({ cls := "java/lang/System", name := "arraycopy", desc := "(Ljava/lang/Object;ILjava/lang/Object;II)V" } : Jvm.MethodName)) ∈ lw_all := lw_g (lw_at lw_m1 228 rfl) rfl
theorem q476 : (Jvm.Cond.static ({ cls := "java/util/Arrays", name := "copyOfRange", desc := "([BII)[B" } : Jvm.MethodName)) ∈ lw_all := lw_g (lw_at lw_m2 178 rfl) rfl
theorem q477 : (Jvm.Cond.code ({ cls := "java/util/Arrays", name := "copyOfRange", desc := "([BII)[B" } : Jvm.MethodName) prog_29_method_132_code (3 : Nat) (Option.some (Jvm.ClassFile.FieldType.array Jvm.ClassFile.FieldType.byte))) ∈ lw_all := lw_g (lw_at lw_m2 179 rfl) rfl
theorem q478 : (Jvm.Cond.methodLink "java/util/Arrays" (339 : Nat) ({ cls := "java/util/Arrays", name := "copyOfRangeByte", desc := "([BII)[B" } : Jvm.MethodName)) ∈ lw_all := lw_g (lw_at lw_m2 180 rfl) rfl
theorem q479 : (Jvm.Cond.static ({ cls := "java/util/Arrays", name := "copyOfRangeByte", desc := "([BII)[B" } : Jvm.MethodName)) ∈ lw_all := lw_g (lw_at lw_m2 181 rfl) rfl
theorem q480 : (Jvm.Cond.code ({ cls := "java/util/Arrays", name := "copyOfRangeByte", desc := "([BII)[B" } : Jvm.MethodName) prog_29_method_133_code (5 : Nat) (Option.some (Jvm.ClassFile.FieldType.array Jvm.ClassFile.FieldType.byte))) ∈ lw_all := lw_g (lw_at lw_m2 182 rfl) rfl
theorem q481 : (Jvm.Cond.methodLink "java/util/Arrays" (343 : Nat) ({ cls := "java/util/Arrays", name := "checkLength", desc := "(II)V" } : Jvm.MethodName)) ∈ lw_all := lw_g (lw_at lw_m2 183 rfl) rfl
theorem q482 : (Jvm.Cond.static ({ cls := "java/util/Arrays", name := "checkLength", desc := "(II)V" } : Jvm.MethodName)) ∈ lw_all := lw_g (lw_at lw_m2 184 rfl) rfl
theorem q483 : (Jvm.Cond.code ({ cls := "java/util/Arrays", name := "checkLength", desc := "(II)V" } : Jvm.MethodName) prog_29_method_131_code (2 : Nat) (Option.none : Option Jvm.ClassFile.FieldType)) ∈ lw_all := lw_g (lw_at lw_m2 185 rfl) rfl
theorem q484 : (Jvm.Cond.classLink "java/util/Arrays" (43 : Nat) "java/lang/IllegalArgumentException") ∈ lw_all := lw_g (lw_at lw_m2 186 rfl) rfl
theorem q493 : (Jvm.Cond.classLink "java/util/Arrays" (45 : Nat) "java/lang/StringBuilder") ∈ lw_all := lw_g (lw_at lw_m2 195 rfl) rfl
theorem q494 : (Jvm.Cond.methodLink "java/util/Arrays" (47 : Nat) ({ cls := "java/lang/StringBuilder", name := "<init>", desc := "()V" } : Jvm.MethodName)) ∈ lw_all := lw_g (lw_at lw_m2 196 rfl) rfl
theorem q500 : (Jvm.Cond.methodLink "java/util/Arrays" (54 : Nat) ({ cls := "java/lang/StringBuilder", name := "append", desc := "(I)Ljava/lang/StringBuilder;" } : Jvm.MethodName)) ∈ lw_all := lw_g (lw_at lw_m2 202 rfl) rfl
theorem q501 : (Jvm.Cond.stringRef "java/util/Arrays" (337 : Nat) " > ") ∈ lw_tbl := lw_at lw_m2 203 rfl
theorem q502 : (Jvm.Cond.methodLink "java/util/Arrays" (50 : Nat) ({ cls := "java/lang/StringBuilder", name := "append", desc := "(Ljava/lang/String;)Ljava/lang/StringBuilder;" } : Jvm.MethodName)) ∈ lw_all := lw_g (lw_at lw_m2 204 rfl) rfl
theorem q503 : (Jvm.Cond.methodLink "java/util/Arrays" (61 : Nat) ({ cls := "java/lang/StringBuilder", name := "toString", desc := "()Ljava/lang/String;" } : Jvm.MethodName)) ∈ lw_all := lw_g (lw_at lw_m2 205 rfl) rfl
theorem q504 : (Jvm.Cond.methodLink "java/util/Arrays" (65 : Nat) ({ cls := "java/lang/IllegalArgumentException", name := "<init>", desc := "(Ljava/lang/String;)V" } : Jvm.MethodName)) ∈ lw_all := lw_g (lw_at lw_m2 206 rfl) rfl
theorem q1017 : (Jvm.Cond.static ({ cls := "java/util/Arrays", name := "copyOfRange", desc := "([III)[I" } : Jvm.MethodName)) ∈ lw_all := lw_g (lw_at lw_m4 239 rfl) rfl
theorem q1018 : (Jvm.Cond.code ({ cls := "java/util/Arrays", name := "copyOfRange", desc := "([III)[I" } : Jvm.MethodName) prog_29_method_136_code (3 : Nat) (Option.some (Jvm.ClassFile.FieldType.array Jvm.ClassFile.FieldType.int))) ∈ lw_all := lw_g (lw_at lw_m5 0 rfl) rfl
theorem q1019 : (Jvm.Cond.methodLink "java/util/Arrays" (351 : Nat) ({ cls := "java/util/Arrays", name := "copyOfRangeInt", desc := "([III)[I" } : Jvm.MethodName)) ∈ lw_all := lw_g (lw_at lw_m5 1 rfl) rfl
theorem q1020 : (Jvm.Cond.static ({ cls := "java/util/Arrays", name := "copyOfRangeInt", desc := "([III)[I" } : Jvm.MethodName)) ∈ lw_all := lw_g (lw_at lw_m5 2 rfl) rfl
theorem q1021 : (Jvm.Cond.code ({ cls := "java/util/Arrays", name := "copyOfRangeInt", desc := "([III)[I" } : Jvm.MethodName) prog_29_method_137_code (5 : Nat) (Option.some (Jvm.ClassFile.FieldType.array Jvm.ClassFile.FieldType.int))) ∈ lw_all := lw_g (lw_at lw_m5 3 rfl) rfl
theorem q1022 : (Jvm.Cond.methodLink "java/util/Arrays" (316 : Nat) ({ cls := "[I", name := "clone", desc := "()Ljava/lang/Object;" } : Jvm.MethodName)) ∈ lw_all := lw_g (lw_at lw_m5 4 rfl) rfl
theorem q1026 : (Jvm.Cond.classLink "java/util/Arrays" (317 : Nat) "[I") ∈ lw_all := lw_g (lw_at lw_m5 8 rfl) rfl
theorem q1133 : (Jvm.Cond.static ({ cls := "java/util/Arrays", name := "fill", desc := "([IIII)V" } : Jvm.MethodName)) ∈ lw_all := lw_g (lw_at lw_m5 115 rfl) rfl
theorem q1134 : (Jvm.Cond.code ({ cls := "java/util/Arrays", name := "fill", desc := "([IIII)V" } : Jvm.MethodName) prog_29_method_104_code (5 : Nat) (Option.none : Option Jvm.ClassFile.FieldType)) ∈ lw_all := lw_g (lw_at lw_m5 116 rfl) rfl
theorem q1135 : (Jvm.Cond.methodLink "java/util/Arrays" (13 : Nat) ({ cls := "java/util/Arrays", name := "rangeCheck", desc := "(III)V" } : Jvm.MethodName)) ∈ lw_all := lw_g (lw_at lw_m5 117 rfl) rfl
theorem q1136 : (Jvm.Cond.static ({ cls := "java/util/Arrays", name := "rangeCheck", desc := "(III)V" } : Jvm.MethodName)) ∈ lw_all := lw_g (lw_at lw_m5 118 rfl) rfl
theorem q1137 : (Jvm.Cond.code ({ cls := "java/util/Arrays", name := "rangeCheck", desc := "(III)V" } : Jvm.MethodName) prog_29_method_30_code (3 : Nat) (Option.none : Option Jvm.ClassFile.FieldType)) ∈ lw_all := lw_g (lw_at lw_m5 119 rfl) rfl
theorem q1138 : (Jvm.Cond.stringRef "java/util/Arrays" (48 : Nat) "fromIndex(") ∈ lw_tbl := lw_at lw_m5 120 rfl
theorem q1139 : (Jvm.Cond.stringRef "java/util/Arrays" (57 : Nat) ") > toIndex(") ∈ lw_tbl := lw_at lw_m5 121 rfl
theorem q1140 : (Jvm.Cond.stringRef "java/util/Arrays" (59 : Nat) ")") ∈ lw_tbl := lw_at lw_m5 122 rfl
theorem q1141 : (Jvm.Cond.classLink "java/util/Arrays" (68 : Nat) "java/lang/ArrayIndexOutOfBoundsException") ∈ lw_all := lw_g (lw_at lw_m5 123 rfl) rfl
theorem q1142 : (Jvm.Cond.methodLink "java/util/Arrays" (70 : Nat) ({ cls := "java/lang/ArrayIndexOutOfBoundsException", name := "<init>", desc := "(I)V" } : Jvm.MethodName)) ∈ lw_all := lw_g (lw_at lw_m5 124 rfl) rfl
theorem q1187 : (Jvm.Cond.static ({ cls := "java/util/Arrays", name := "fill", desc := "([II)V" } : Jvm.MethodName)) ∈ lw_all := lw_g (lw_at lw_m5 169 rfl) rfl
theorem q1188 : (Jvm.Cond.code ({ cls := "java/util/Arrays", name := "fill", desc := "([II)V" } : Jvm.MethodName) prog_29_method_103_code (4 : Nat) (Option.none : Option Jvm.ClassFile.FieldType)) ∈ lw_all := lw_g (lw_at lw_m5 170 rfl) rfl
theorem q1287 : (Jvm.Cond.static ({ cls := "java/util/Arrays", name := "copyOf", desc := "([II)[I" } : Jvm.MethodName)) ∈ lw_all := lw_g (lw_at lw_m6 29 rfl) rfl
theorem q1288 : (Jvm.Cond.code ({ cls := "java/util/Arrays", name := "copyOf", desc := "([II)[I" } : Jvm.MethodName) prog_29_method_123_code (3 : Nat) (Option.some (Jvm.ClassFile.FieldType.array Jvm.ClassFile.FieldType.int))) ∈ lw_all := lw_g (lw_at lw_m6 30 rfl) rfl
theorem q1546 : (Jvm.Cond.static ({ cls := "java/util/Arrays", name := "fill", desc := "([BB)V" } : Jvm.MethodName)) ∈ lw_all := lw_g (lw_at lw_m7 48 rfl) rfl
theorem q1547 : (Jvm.Cond.code ({ cls := "java/util/Arrays", name := "fill", desc := "([BB)V" } : Jvm.MethodName) prog_29_method_109_code (4 : Nat) (Option.none : Option Jvm.ClassFile.FieldType)) ∈ lw_all := lw_g (lw_at lw_m7 49 rfl) rfl
def RJ14 : String := "jdk/internal/util/Preconditions"
abbrev cJ14_checkFromToIndex : ByteArray := prog_34_method_12_code
def yJ14_checkFromToIndex : MethodName := ⟨RJ14, "checkFromToIndex", "(IIILjava/util/function/BiFunction;)I"⟩
abbrev cJ14_checkFromIndexSize : ByteArray := prog_34_method_13_code
def yJ14_checkFromIndexSize : MethodName := ⟨RJ14, "checkFromIndexSize", "(IIILjava/util/function/BiFunction;)I"⟩
abbrev cJ14_checkIndex : ByteArray := prog_34_method_11_code
def yJ14_checkIndex : MethodName := ⟨RJ14, "checkIndex", "(IILjava/util/function/BiFunction;)I"⟩
theorem q75 : (Jvm.Cond.initialized "jdk/internal/util/Preconditions") ∈ lw_all := lw_g (lw_at lw_m1 17 rfl) rfl
theorem q308 : (Jvm.Cond.laysStatic "jdk/internal/util/Preconditions" "SIOOBE_FORMATTER" "Ljava/util/function/BiFunction;") ∈ lw_tbl := lw_at lw_m2 10 rfl
theorem q310 : (Jvm.Cond.static ({ cls := "jdk/internal/util/Preconditions", name := "checkFromToIndex", desc := "(IIILjava/util/function/BiFunction;)I" } : Jvm.MethodName)) ∈ lw_all := lw_g (lw_at lw_m2 12 rfl) rfl
theorem q311 : (Jvm.Cond.code ({ cls := "jdk/internal/util/Preconditions", name := "checkFromToIndex", desc := "(IIILjava/util/function/BiFunction;)I" } : Jvm.MethodName) prog_34_method_12_code (4 : Nat) (Option.some Jvm.ClassFile.FieldType.int)) ∈ lw_all := lw_g (lw_at lw_m2 13 rfl) rfl
theorem q346 : (Jvm.Cond.static ({ cls := "jdk/internal/util/Preconditions", name := "checkFromIndexSize", desc := "(IIILjava/util/function/BiFunction;)I" } : Jvm.MethodName)) ∈ lw_all := lw_g (lw_at lw_m2 48 rfl) rfl
theorem q347 : (Jvm.Cond.code ({ cls := "jdk/internal/util/Preconditions", name := "checkFromIndexSize", desc := "(IIILjava/util/function/BiFunction;)I" } : Jvm.MethodName) prog_34_method_13_code (4 : Nat) (Option.some Jvm.ClassFile.FieldType.int)) ∈ lw_all := lw_g (lw_at lw_m2 49 rfl) rfl
theorem q553 : (Jvm.Cond.static ({ cls := "jdk/internal/util/Preconditions", name := "checkIndex", desc := "(IILjava/util/function/BiFunction;)I" } : Jvm.MethodName)) ∈ lw_all := lw_g (lw_at lw_m3 15 rfl) rfl
theorem q554 : (Jvm.Cond.code ({ cls := "jdk/internal/util/Preconditions", name := "checkIndex", desc := "(IILjava/util/function/BiFunction;)I" } : Jvm.MethodName) prog_34_method_11_code (3 : Nat) (Option.some Jvm.ClassFile.FieldType.int)) ∈ lw_all := lw_g (lw_at lw_m3 16 rfl) rfl
theorem q947 : (Jvm.Cond.laysStatic "jdk/internal/util/Preconditions" "IOOBE_FORMATTER" "Ljava/util/function/BiFunction;") ∈ lw_tbl := lw_at lw_m4 169 rfl
def RJ15 : String := "java/lang/StringLatin1"
abbrev cJ15_inflate : ByteArray := prog_23_method_50_code
def yJ15_inflate : MethodName := ⟨RJ15, "inflate", "([BI[BII)V"⟩
abbrev cJ15_charAt : ByteArray := prog_23_method_2_code
def yJ15_charAt : MethodName := ⟨RJ15, "charAt", "([BI)C"⟩
abbrev cJ15_indexOf : ByteArray := prog_23_method_22_code
def yJ15_indexOf : MethodName := ⟨RJ15, "indexOf", "([BIII)I"⟩
abbrev cJ15_canEncode : ByteArray := prog_23_method_4_code
def yJ15_canEncode : MethodName := ⟨RJ15, "canEncode", "(I)Z"⟩
abbrev cJ15_indexOfChar : ByteArray := prog_23_method_23_code
def yJ15_indexOfChar : MethodName := ⟨RJ15, "indexOfChar", "([BIII)I"⟩
abbrev cJ15_newString : ByteArray := prog_23_method_47_code
def yJ15_newString : MethodName := ⟨RJ15, "newString", "([BII)Ljava/lang/String;"⟩
abbrev cJ15_canEncode_2 : ByteArray := prog_23_method_3_code
def yJ15_canEncode_2 : MethodName := ⟨RJ15, "canEncode", "(C)Z"⟩
abbrev cJ15_indexOf_2 : ByteArray := prog_23_method_25_code
def yJ15_indexOf_2 : MethodName := ⟨RJ15, "indexOf", "([BI[BII)I"⟩
abbrev cJ15_lastIndexOf : ByteArray := prog_23_method_27_code
def yJ15_lastIndexOf : MethodName := ⟨RJ15, "lastIndexOf", "([BII)I"⟩
abbrev cJ15_equals : ByteArray := prog_23_method_13_code
def yJ15_equals : MethodName := ⟨RJ15, "equals", "([B[B)Z"⟩
theorem q76 : (Jvm.Cond.initialized "java/lang/StringLatin1") ∈ lw_all := lw_g (lw_at lw_m1 18 rfl) rfl
theorem q334 : (Jvm.Cond.static ({ cls := "java/lang/StringLatin1", name := "inflate", desc := "([BI[BII)V" } : Jvm.MethodName)) ∈ lw_all := lw_g (lw_at lw_m2 36 rfl) rfl
theorem q335 : (Jvm.Cond.code ({ cls := "java/lang/StringLatin1", name := "inflate", desc := "([BI[BII)V" } : Jvm.MethodName) prog_23_method_50_code (5 : Nat) (Option.none : Option Jvm.ClassFile.FieldType)) ∈ lw_all := lw_g (lw_at lw_m2 37 rfl) rfl
theorem q336 : (Jvm.Cond.methodLink "java/lang/StringLatin1" (240 : Nat) ({ cls := "java/lang/StringUTF16", name := "inflate", desc := "([BI[BII)V" } : Jvm.MethodName)) ∈ lw_all := lw_g (lw_at lw_m2 38 rfl) rfl
theorem q547 : (Jvm.Cond.static ({ cls := "java/lang/StringLatin1", name := "charAt", desc := "([BI)C" } : Jvm.MethodName)) ∈ lw_all := lw_g (lw_at lw_m3 9 rfl) rfl
theorem q548 : (Jvm.Cond.code ({ cls := "java/lang/StringLatin1", name := "charAt", desc := "([BI)C" } : Jvm.MethodName) prog_23_method_2_code (2 : Nat) (Option.some Jvm.ClassFile.FieldType.char)) ∈ lw_all := lw_g (lw_at lw_m3 10 rfl) rfl
theorem q549 : (Jvm.Cond.methodLink "java/lang/StringLatin1" (9 : Nat) ({ cls := "java/lang/String", name := "checkIndex", desc := "(II)V" } : Jvm.MethodName)) ∈ lw_all := lw_g (lw_at lw_m3 11 rfl) rfl
theorem q575 : (Jvm.Cond.static ({ cls := "java/lang/StringLatin1", name := "indexOf", desc := "([BIII)I" } : Jvm.MethodName)) ∈ lw_all := lw_g (lw_at lw_m3 37 rfl) rfl
theorem q576 : (Jvm.Cond.code ({ cls := "java/lang/StringLatin1", name := "indexOf", desc := "([BIII)I" } : Jvm.MethodName) prog_23_method_22_code (4 : Nat) (Option.some Jvm.ClassFile.FieldType.int)) ∈ lw_all := lw_g (lw_at lw_m3 38 rfl) rfl
theorem q577 : (Jvm.Cond.methodLink "java/lang/StringLatin1" (88 : Nat) ({ cls := "java/lang/StringLatin1", name := "canEncode", desc := "(I)Z" } : Jvm.MethodName)) ∈ lw_all := lw_g (lw_at lw_m3 39 rfl) rfl
theorem q578 : (Jvm.Cond.static ({ cls := "java/lang/StringLatin1", name := "canEncode", desc := "(I)Z" } : Jvm.MethodName)) ∈ lw_all := lw_g (lw_at lw_m3 40 rfl) rfl
theorem q579 : (Jvm.Cond.code ({ cls := "java/lang/StringLatin1", name := "canEncode", desc := "(I)Z" } : Jvm.MethodName) prog_23_method_4_code (1 : Nat) (Option.some Jvm.ClassFile.FieldType.boolean)) ∈ lw_all := lw_g (lw_at lw_m3 41 rfl) rfl
theorem q580 : (Jvm.Cond.methodLink "java/lang/StringLatin1" (92 : Nat) ({ cls := "java/lang/Math", name := "max", desc := "(II)I" } : Jvm.MethodName)) ∈ lw_all := lw_g (lw_at lw_m3 42 rfl) rfl
theorem q581 : (Jvm.Cond.methodLink "java/lang/StringLatin1" (38 : Nat) ({ cls := "java/lang/Math", name := "min", desc := "(II)I" } : Jvm.MethodName)) ∈ lw_all := lw_g (lw_at lw_m3 43 rfl) rfl
theorem q582 : (Jvm.Cond.methodLink "java/lang/StringLatin1" (95 : Nat) ({ cls := "java/lang/StringLatin1", name := "indexOfChar", desc := "([BIII)I" } : Jvm.MethodName)) ∈ lw_all := lw_g (lw_at lw_m3 44 rfl) rfl
theorem q583 : (Jvm.Cond.static ({ cls := "java/lang/StringLatin1", name := "indexOfChar", desc := "([BIII)I" } : Jvm.MethodName)) ∈ lw_all := lw_g (lw_at lw_m3 45 rfl) rfl
theorem q584 : (Jvm.Cond.code ({ cls := "java/lang/StringLatin1", name := "indexOfChar", desc := "([BIII)I" } : Jvm.MethodName) prog_23_method_23_code (6 : Nat) (Option.some Jvm.ClassFile.FieldType.int)) ∈ lw_all := lw_g (lw_at lw_m3 46 rfl) rfl
theorem q703 : (Jvm.Cond.static ({ cls := "java/lang/StringLatin1", name := "newString", desc := "([BII)Ljava/lang/String;" } : Jvm.MethodName)) ∈ lw_all := lw_g (lw_at lw_m3 165 rfl) rfl
theorem q704 : (Jvm.Cond.code ({ cls := "java/lang/StringLatin1", name := "newString", desc := "([BII)Ljava/lang/String;" } : Jvm.MethodName) prog_23_method_47_code (3 : Nat) (Option.some (Jvm.ClassFile.FieldType.object "java/lang/String"))) ∈ lw_all := lw_g (lw_at lw_m3 166 rfl) rfl
theorem q705 : (Jvm.Cond.stringRef "java/lang/StringLatin1" (151 : Nat) "") ∈ lw_tbl := lw_at lw_m3 167 rfl
theorem q706 : (Jvm.Cond.classLink "java/lang/StringLatin1" (1 : Nat) "java/lang/String") ∈ lw_all := lw_g (lw_at lw_m3 168 rfl) rfl
theorem q707 : (Jvm.Cond.methodLink "java/lang/StringLatin1" (232 : Nat) ({ cls := "java/util/Arrays", name := "copyOfRange", desc := "([BII)[B" } : Jvm.MethodName)) ∈ lw_all := lw_g (lw_at lw_m3 169 rfl) rfl
theorem q708 : (Jvm.Cond.methodLink "java/lang/StringLatin1" (112 : Nat) ({ cls := "java/lang/String", name := "<init>", desc := "([BB)V" } : Jvm.MethodName)) ∈ lw_all := lw_g (lw_at lw_m3 170 rfl) rfl
theorem q910 : (Jvm.Cond.static ({ cls := "java/lang/StringLatin1", name := "canEncode", desc := "(C)Z" } : Jvm.MethodName)) ∈ lw_all := lw_g (lw_at lw_m4 132 rfl) rfl
theorem q911 : (Jvm.Cond.code ({ cls := "java/lang/StringLatin1", name := "canEncode", desc := "(C)Z" } : Jvm.MethodName) prog_23_method_3_code (1 : Nat) (Option.some Jvm.ClassFile.FieldType.boolean)) ∈ lw_all := lw_g (lw_at lw_m4 133 rfl) rfl
theorem q1612 : (Jvm.Cond.static ({ cls := "java/lang/StringLatin1", name := "indexOf", desc := "([BI[BII)I" } : Jvm.MethodName)) ∈ lw_all := lw_g (lw_at lw_m7 114 rfl) rfl
theorem q1613 : (Jvm.Cond.code ({ cls := "java/lang/StringLatin1", name := "indexOf", desc := "([BI[BII)I" } : Jvm.MethodName) prog_23_method_25_code (11 : Nat) (Option.some Jvm.ClassFile.FieldType.int)) ∈ lw_all := lw_g (lw_at lw_m7 115 rfl) rfl
theorem q1646 : (Jvm.Cond.static ({ cls := "java/lang/StringLatin1", name := "lastIndexOf", desc := "([BII)I" } : Jvm.MethodName)) ∈ lw_all := lw_g (lw_at lw_m7 148 rfl) rfl
theorem q1647 : (Jvm.Cond.code ({ cls := "java/lang/StringLatin1", name := "lastIndexOf", desc := "([BII)I" } : Jvm.MethodName) prog_23_method_27_code (4 : Nat) (Option.some Jvm.ClassFile.FieldType.int)) ∈ lw_all := lw_g (lw_at lw_m7 149 rfl) rfl
theorem q1949 : (Jvm.Cond.static ({ cls := "java/lang/StringLatin1", name := "equals", desc := "([B[B)Z" } : Jvm.MethodName)) ∈ lw_all := lw_g (lw_at lw_m8 211 rfl) rfl
theorem q1950 : (Jvm.Cond.code ({ cls := "java/lang/StringLatin1", name := "equals", desc := "([B[B)Z" } : Jvm.MethodName) prog_23_method_13_code (3 : Nat) (Option.some Jvm.ClassFile.FieldType.boolean)) ∈ lw_all := lw_g (lw_at lw_m8 212 rfl) rfl
def RJ16 : String := "java/lang/Long"
abbrev cJ16_numberOfTrailingZeros : ByteArray := prog_15_method_49_code
def yJ16_numberOfTrailingZeros : MethodName := ⟨RJ16, "numberOfTrailingZeros", "(J)I"⟩
abbrev cJ16_stringSize : ByteArray := prog_15_method_15_code
def yJ16_stringSize : MethodName := ⟨RJ16, "stringSize", "(J)I"⟩
abbrev cJ16_getChars : ByteArray := prog_15_method_14_code
def yJ16_getChars : MethodName := ⟨RJ16, "getChars", "(JI[B)I"⟩
abbrev cJ16_parseLong : ByteArray := prog_15_method_17_code
def yJ16_parseLong : MethodName := ⟨RJ16, "parseLong", "(Ljava/lang/CharSequence;III)J"⟩
abbrev cJ16_toString : ByteArray := prog_15_method_1_code
def yJ16_toString : MethodName := ⟨RJ16, "toString", "(JI)Ljava/lang/String;"⟩
abbrev cJ16_toString_2 : ByteArray := prog_15_method_12_code
def yJ16_toString_2 : MethodName := ⟨RJ16, "toString", "(J)Ljava/lang/String;"⟩
abbrev cJ16_toStringUTF16 : ByteArray := prog_15_method_2_code
def yJ16_toStringUTF16 : MethodName := ⟨RJ16, "toStringUTF16", "(JI)Ljava/lang/String;"⟩
abbrev cJ16_parseLong_2 : ByteArray := prog_15_method_18_code
def yJ16_parseLong_2 : MethodName := ⟨RJ16, "parseLong", "(Ljava/lang/String;)J"⟩
abbrev cJ16_parseLong_3 : ByteArray := prog_15_method_16_code
def yJ16_parseLong_3 : MethodName := ⟨RJ16, "parseLong", "(Ljava/lang/String;I)J"⟩
abbrev cJ16_numberOfLeadingZeros : ByteArray := prog_15_method_48_code
def yJ16_numberOfLeadingZeros : MethodName := ⟨RJ16, "numberOfLeadingZeros", "(J)I"⟩
theorem q77 : (Jvm.Cond.initialized "java/lang/Long") ∈ lw_all := lw_g (lw_at lw_m1 19 rfl) rfl
theorem q385 : (Jvm.Cond.static ({ cls := "java/lang/Long", name := "numberOfTrailingZeros", desc := "(J)I" } : Jvm.MethodName)) ∈ lw_all := lw_g (lw_at lw_m2 87 rfl) rfl
theorem q386 : (Jvm.Cond.code ({ cls := "java/lang/Long", name := "numberOfTrailingZeros", desc := "(J)I" } : Jvm.MethodName) prog_15_method_49_code (3 : Nat) (Option.some Jvm.ClassFile.FieldType.int)) ∈ lw_all := lw_g (lw_at lw_m2 88 rfl) rfl
theorem q387 : (Jvm.Cond.methodLink "java/lang/Long" (311 : Nat) ({ cls := "java/lang/Integer", name := "numberOfTrailingZeros", desc := "(I)I" } : Jvm.MethodName)) ∈ lw_all := lw_g (lw_at lw_m2 89 rfl) rfl
theorem q399 : (Jvm.Cond.static ({ cls := "java/lang/Long", name := "stringSize", desc := "(J)I" } : Jvm.MethodName)) ∈ lw_all := lw_g (lw_at lw_m2 101 rfl) rfl
theorem q400 : (Jvm.Cond.code ({ cls := "java/lang/Long", name := "stringSize", desc := "(J)I" } : Jvm.MethodName) prog_15_method_15_code (6 : Nat) (Option.some Jvm.ClassFile.FieldType.int)) ∈ lw_all := lw_g (lw_at lw_m2 102 rfl) rfl
theorem q401 : (Jvm.Cond.constantLong "java/lang/Long" (140 : Nat) (-10 : Int64)) ∈ lw_all := lw_g (lw_at lw_m2 103 rfl) rfl
theorem q402 : (Jvm.Cond.constantLong "java/lang/Long" (53 : Nat) (10 : Int64)) ∈ lw_all := lw_g (lw_at lw_m2 104 rfl) rfl
theorem q404 : (Jvm.Cond.static ({ cls := "java/lang/Long", name := "getChars", desc := "(JI[B)I" } : Jvm.MethodName)) ∈ lw_all := lw_g (lw_at lw_m2 106 rfl) rfl
theorem q405 : (Jvm.Cond.code ({ cls := "java/lang/Long", name := "getChars", desc := "(JI[B)I" } : Jvm.MethodName) prog_15_method_14_code (11 : Nat) (Option.some Jvm.ClassFile.FieldType.int)) ∈ lw_all := lw_g (lw_at lw_m2 107 rfl) rfl
theorem q406 : (Jvm.Cond.constantLong "java/lang/Long" (129 : Nat) (-2147483648 : Int64)) ∈ lw_all := lw_g (lw_at lw_m2 108 rfl) rfl
theorem q407 : (Jvm.Cond.constantLong "java/lang/Long" (131 : Nat) (100 : Int64)) ∈ lw_all := lw_g (lw_at lw_m2 109 rfl) rfl
theorem q408 : (Jvm.Cond.fieldLink "java/lang/Long" (133 : Nat) "java/lang/Integer" "DigitOnes" "[B") ∈ lw_all := lw_g (lw_at lw_m2 110 rfl) rfl
theorem q410 : (Jvm.Cond.fieldLink "java/lang/Long" (137 : Nat) "java/lang/Integer" "DigitTens" "[B") ∈ lw_all := lw_g (lw_at lw_m2 112 rfl) rfl
theorem q612 : (Jvm.Cond.static ({ cls := "java/lang/Long", name := "parseLong", desc := "(Ljava/lang/CharSequence;III)J" } : Jvm.MethodName)) ∈ lw_all := lw_g (lw_at lw_m3 74 rfl) rfl
theorem q613 : (Jvm.Cond.code ({ cls := "java/lang/Long", name := "parseLong", desc := "(Ljava/lang/CharSequence;III)J" } : Jvm.MethodName) prog_15_method_17_code (14 : Nat) (Option.some Jvm.ClassFile.FieldType.long)) ∈ lw_all := lw_g (lw_at lw_m3 75 rfl) rfl
theorem q614 : (Jvm.Cond.methodLink "java/lang/Long" (178 : Nat) ({ cls := "java/util/Objects", name := "requireNonNull", desc := "(Ljava/lang/Object;)Ljava/lang/Object;" } : Jvm.MethodName)) ∈ lw_all := lw_g (lw_at lw_m3 76 rfl) rfl
theorem q617 : (Jvm.Cond.interfaceEntry "java/lang/Long" (184 : Nat)) ∈ lw_tbl := lw_at lw_m3 79 rfl
theorem q618 : (Jvm.Cond.methodLink "java/lang/Long" (184 : Nat) ({ cls := "java/lang/CharSequence", name := "length", desc := "()I" } : Jvm.MethodName)) ∈ lw_all := lw_g (lw_at lw_m3 80 rfl) rfl
theorem q629 : (Jvm.Cond.methodLink "java/lang/Long" (187 : Nat) ({ cls := "java/util/Objects", name := "checkFromToIndex", desc := "(III)I" } : Jvm.MethodName)) ∈ lw_all := lw_g (lw_at lw_m3 91 rfl) rfl
theorem q633 : (Jvm.Cond.classLink "java/lang/Long" (142 : Nat) "java/lang/NumberFormatException") ∈ lw_all := lw_g (lw_at lw_m3 95 rfl) rfl
theorem q644 : (Jvm.Cond.classLink "java/lang/Long" (55 : Nat) "java/lang/StringBuilder") ∈ lw_all := lw_g (lw_at lw_m3 106 rfl) rfl
theorem q645 : (Jvm.Cond.methodLink "java/lang/Long" (57 : Nat) ({ cls := "java/lang/StringBuilder", name := "<init>", desc := "()V" } : Jvm.MethodName)) ∈ lw_all := lw_g (lw_at lw_m3 107 rfl) rfl
theorem q646 : (Jvm.Cond.stringRef "java/lang/Long" (149 : Nat) "radix ") ∈ lw_tbl := lw_at lw_m3 108 rfl
theorem q647 : (Jvm.Cond.methodLink "java/lang/Long" (61 : Nat) ({ cls := "java/lang/StringBuilder", name := "append", desc := "(Ljava/lang/String;)Ljava/lang/StringBuilder;" } : Jvm.MethodName)) ∈ lw_all := lw_g (lw_at lw_m3 109 rfl) rfl
theorem q648 : (Jvm.Cond.methodLink "java/lang/Long" (151 : Nat) ({ cls := "java/lang/StringBuilder", name := "append", desc := "(I)Ljava/lang/StringBuilder;" } : Jvm.MethodName)) ∈ lw_all := lw_g (lw_at lw_m3 110 rfl) rfl
theorem q649 : (Jvm.Cond.stringRef "java/lang/Long" (154 : Nat) " less than Character.MIN_RADIX") ∈ lw_tbl := lw_at lw_m3 111 rfl
theorem q650 : (Jvm.Cond.methodLink "java/lang/Long" (68 : Nat) ({ cls := "java/lang/StringBuilder", name := "toString", desc := "()Ljava/lang/String;" } : Jvm.MethodName)) ∈ lw_all := lw_g (lw_at lw_m3 112 rfl) rfl
theorem q651 : (Jvm.Cond.methodLink "java/lang/Long" (146 : Nat) ({ cls := "java/lang/NumberFormatException", name := "<init>", desc := "(Ljava/lang/String;)V" } : Jvm.MethodName)) ∈ lw_all := lw_g (lw_at lw_m3 113 rfl) rfl
theorem q657 : (Jvm.Cond.stringRef "java/lang/Long" (156 : Nat) " greater than Character.MAX_RADIX") ∈ lw_tbl := lw_at lw_m3 119 rfl
theorem q658 : (Jvm.Cond.constantLong "java/lang/Long" (162 : Nat) (-9223372036854775807 : Int64)) ∈ lw_all := lw_g (lw_at lw_m3 120 rfl) rfl
theorem q659 : (Jvm.Cond.interfaceEntry "java/lang/Long" (191 : Nat)) ∈ lw_tbl := lw_at lw_m3 121 rfl
theorem q660 : (Jvm.Cond.methodLink "java/lang/Long" (191 : Nat) ({ cls := "java/lang/CharSequence", name := "charAt", desc := "(I)C" } : Jvm.MethodName)) ∈ lw_all := lw_g (lw_at lw_m3 122 rfl) rfl
theorem q677 : (Jvm.Cond.constantLong "java/lang/Long" (168 : Nat) (-9223372036854775808 : Int64)) ∈ lw_all := lw_g (lw_at lw_m3 139 rfl) rfl
theorem q678 : (Jvm.Cond.methodLink "java/lang/Long" (192 : Nat) ({ cls := "java/lang/NumberFormatException", name := "forCharSequence", desc := "(Ljava/lang/CharSequence;III)Ljava/lang/NumberFormatException;" } : Jvm.MethodName)) ∈ lw_all := lw_g (lw_at lw_m3 140 rfl) rfl
theorem q1379 : (Jvm.Cond.static ({ cls := "java/lang/Long", name := "toString", desc := "(JI)Ljava/lang/String;" } : Jvm.MethodName)) ∈ lw_all := lw_g (lw_at lw_m6 121 rfl) rfl
theorem q1380 : (Jvm.Cond.code ({ cls := "java/lang/Long", name := "toString", desc := "(JI)Ljava/lang/String;" } : Jvm.MethodName) prog_15_method_1_code (6 : Nat) (Option.some (Jvm.ClassFile.FieldType.object "java/lang/String"))) ∈ lw_all := lw_g (lw_at lw_m6 122 rfl) rfl
theorem q1381 : (Jvm.Cond.methodLink "java/lang/Long" (9 : Nat) ({ cls := "java/lang/Long", name := "toString", desc := "(J)Ljava/lang/String;" } : Jvm.MethodName)) ∈ lw_all := lw_g (lw_at lw_m6 123 rfl) rfl
theorem q1382 : (Jvm.Cond.static ({ cls := "java/lang/Long", name := "toString", desc := "(J)Ljava/lang/String;" } : Jvm.MethodName)) ∈ lw_all := lw_g (lw_at lw_m6 124 rfl) rfl
theorem q1383 : (Jvm.Cond.code ({ cls := "java/lang/Long", name := "toString", desc := "(J)Ljava/lang/String;" } : Jvm.MethodName) prog_15_method_12_code (4 : Nat) (Option.some (Jvm.ClassFile.FieldType.object "java/lang/String"))) ∈ lw_all := lw_g (lw_at lw_m6 125 rfl) rfl
theorem q1384 : (Jvm.Cond.methodLink "java/lang/Long" (118 : Nat) ({ cls := "java/lang/Long", name := "stringSize", desc := "(J)I" } : Jvm.MethodName)) ∈ lw_all := lw_g (lw_at lw_m6 126 rfl) rfl
theorem q1385 : (Jvm.Cond.fieldLink "java/lang/Long" (13 : Nat) "java/lang/String" "COMPACT_STRINGS" "Z") ∈ lw_all := lw_g (lw_at lw_m6 127 rfl) rfl
theorem q1386 : (Jvm.Cond.methodLink "java/lang/Long" (121 : Nat) ({ cls := "java/lang/Long", name := "getChars", desc := "(JI[B)I" } : Jvm.MethodName)) ∈ lw_all := lw_g (lw_at lw_m6 128 rfl) rfl
theorem q1387 : (Jvm.Cond.classLink "java/lang/Long" (5 : Nat) "java/lang/String") ∈ lw_all := lw_g (lw_at lw_m6 129 rfl) rfl
theorem q1388 : (Jvm.Cond.methodLink "java/lang/Long" (112 : Nat) ({ cls := "java/lang/String", name := "<init>", desc := "([BB)V" } : Jvm.MethodName)) ∈ lw_all := lw_g (lw_at lw_m6 130 rfl) rfl
theorem q1389 : (Jvm.Cond.methodLink "java/lang/Long" (125 : Nat) ({ cls := "java/lang/StringUTF16", name := "getChars", desc := "(JI[B)I" } : Jvm.MethodName)) ∈ lw_all := lw_g (lw_at lw_m6 131 rfl) rfl
theorem q1390 : (Jvm.Cond.fieldLink "java/lang/Long" (17 : Nat) "java/lang/Integer" "digits" "[C") ∈ lw_all := lw_g (lw_at lw_m6 132 rfl) rfl
theorem q1392 : (Jvm.Cond.methodLink "java/lang/Long" (23 : Nat) ({ cls := "java/lang/StringLatin1", name := "newString", desc := "([BII)Ljava/lang/String;" } : Jvm.MethodName)) ∈ lw_all := lw_g (lw_at lw_m6 134 rfl) rfl
theorem q1393 : (Jvm.Cond.methodLink "java/lang/Long" (29 : Nat) ({ cls := "java/lang/Long", name := "toStringUTF16", desc := "(JI)Ljava/lang/String;" } : Jvm.MethodName)) ∈ lw_all := lw_g (lw_at lw_m6 135 rfl) rfl
theorem q1394 : (Jvm.Cond.static ({ cls := "java/lang/Long", name := "toStringUTF16", desc := "(JI)Ljava/lang/String;" } : Jvm.MethodName)) ∈ lw_all := lw_g (lw_at lw_m6 136 rfl) rfl
theorem q1395 : (Jvm.Cond.code ({ cls := "java/lang/Long", name := "toStringUTF16", desc := "(JI)Ljava/lang/String;" } : Jvm.MethodName) prog_15_method_2_code (6 : Nat) (Option.some (Jvm.ClassFile.FieldType.object "java/lang/String"))) ∈ lw_all := lw_g (lw_at lw_m6 137 rfl) rfl
theorem q1396 : (Jvm.Cond.methodLink "java/lang/Long" (33 : Nat) ({ cls := "java/lang/StringUTF16", name := "putChar", desc := "([BII)V" } : Jvm.MethodName)) ∈ lw_all := lw_g (lw_at lw_m6 138 rfl) rfl
theorem q1397 : (Jvm.Cond.methodLink "java/lang/Long" (39 : Nat) ({ cls := "java/lang/StringUTF16", name := "newString", desc := "([BII)Ljava/lang/String;" } : Jvm.MethodName)) ∈ lw_all := lw_g (lw_at lw_m6 139 rfl) rfl
theorem q1409 : (Jvm.Cond.methodLink "java/lang/Long" (174 : Nat) ({ cls := "java/lang/Character", name := "digit", desc := "(CI)I" } : Jvm.MethodName)) ∈ lw_all := lw_g (lw_at lw_m6 151 rfl) rfl
theorem q1428 : (Jvm.Cond.stringRef "java/lang/Long" (196 : Nat) "") ∈ lw_tbl := lw_at lw_m6 170 rfl
theorem q1845 : (Jvm.Cond.static ({ cls := "java/lang/Long", name := "parseLong", desc := "(Ljava/lang/String;)J" } : Jvm.MethodName)) ∈ lw_all := lw_g (lw_at lw_m8 107 rfl) rfl
theorem q1846 : (Jvm.Cond.code ({ cls := "java/lang/Long", name := "parseLong", desc := "(Ljava/lang/String;)J" } : Jvm.MethodName) prog_15_method_18_code (1 : Nat) (Option.some Jvm.ClassFile.FieldType.long)) ∈ lw_all := lw_g (lw_at lw_m8 108 rfl) rfl
theorem q1847 : (Jvm.Cond.methodLink "java/lang/Long" (198 : Nat) ({ cls := "java/lang/Long", name := "parseLong", desc := "(Ljava/lang/String;I)J" } : Jvm.MethodName)) ∈ lw_all := lw_g (lw_at lw_m8 109 rfl) rfl
theorem q1848 : (Jvm.Cond.static ({ cls := "java/lang/Long", name := "parseLong", desc := "(Ljava/lang/String;I)J" } : Jvm.MethodName)) ∈ lw_all := lw_g (lw_at lw_m8 110 rfl) rfl
theorem q1849 : (Jvm.Cond.code ({ cls := "java/lang/Long", name := "parseLong", desc := "(Ljava/lang/String;I)J" } : Jvm.MethodName) prog_15_method_16_code (13 : Nat) (Option.some Jvm.ClassFile.FieldType.long)) ∈ lw_all := lw_g (lw_at lw_m8 111 rfl) rfl
theorem q1850 : (Jvm.Cond.stringRef "java/lang/Long" (144 : Nat) "Cannot parse null string") ∈ lw_tbl := lw_at lw_m8 112 rfl
theorem q1851 : (Jvm.Cond.methodLink "java/lang/Long" (158 : Nat) ({ cls := "java/lang/String", name := "length", desc := "()I" } : Jvm.MethodName)) ∈ lw_all := lw_g (lw_at lw_m8 113 rfl) rfl
theorem q1852 : (Jvm.Cond.methodLink "java/lang/Long" (164 : Nat) ({ cls := "java/lang/String", name := "charAt", desc := "(I)C" } : Jvm.MethodName)) ∈ lw_all := lw_g (lw_at lw_m8 114 rfl) rfl
theorem q1853 : (Jvm.Cond.methodLink "java/lang/Long" (170 : Nat) ({ cls := "java/lang/NumberFormatException", name := "forInputString", desc := "(Ljava/lang/String;I)Ljava/lang/NumberFormatException;" } : Jvm.MethodName)) ∈ lw_all := lw_g (lw_at lw_m8 115 rfl) rfl
theorem q2318 : (Jvm.Cond.static ({ cls := "java/lang/Long", name := "numberOfLeadingZeros", desc := "(J)I" } : Jvm.MethodName)) ∈ lw_all := lw_g (lw_at lw_m10 100 rfl) rfl
theorem q2319 : (Jvm.Cond.code ({ cls := "java/lang/Long", name := "numberOfLeadingZeros", desc := "(J)I" } : Jvm.MethodName) prog_15_method_48_code (3 : Nat) (Option.some Jvm.ClassFile.FieldType.int)) ∈ lw_all := lw_g (lw_at lw_m10 101 rfl) rfl
theorem q2320 : (Jvm.Cond.methodLink "java/lang/Long" (308 : Nat) ({ cls := "java/lang/Integer", name := "numberOfLeadingZeros", desc := "(I)I" } : Jvm.MethodName)) ∈ lw_all := lw_g (lw_at lw_m10 102 rfl) rfl
def RJ17 : String := "java/lang/Integer"
abbrev cJ17_numberOfTrailingZeros : ByteArray := prog_14_method_48_code
def yJ17_numberOfTrailingZeros : MethodName := ⟨RJ17, "numberOfTrailingZeros", "(I)I"⟩
abbrev cJ17_stringSize : ByteArray := prog_14_method_13_code
def yJ17_stringSize : MethodName := ⟨RJ17, "stringSize", "(I)I"⟩
abbrev cJ17_getChars : ByteArray := prog_14_method_12_code
def yJ17_getChars : MethodName := ⟨RJ17, "getChars", "(II[B)I"⟩
abbrev cJ17_numberOfLeadingZeros : ByteArray := prog_14_method_47_code
def yJ17_numberOfLeadingZeros : MethodName := ⟨RJ17, "numberOfLeadingZeros", "(I)I"⟩
abbrev cJ17_bitCount : ByteArray := prog_14_method_49_code
def yJ17_bitCount : MethodName := ⟨RJ17, "bitCount", "(I)I"⟩
abbrev cJ17_parseInt : ByteArray := prog_14_method_15_code
def yJ17_parseInt : MethodName := ⟨RJ17, "parseInt", "(Ljava/lang/CharSequence;III)I"⟩
abbrev cJ17_parseInt_2 : ByteArray := prog_14_method_14_code
def yJ17_parseInt_2 : MethodName := ⟨RJ17, "parseInt", "(Ljava/lang/String;I)I"⟩
abbrev cJ17_signum : ByteArray := prog_14_method_56_code
def yJ17_signum : MethodName := ⟨RJ17, "signum", "(I)I"⟩
theorem q78 : (Jvm.Cond.initialized "java/lang/Integer") ∈ lw_all := lw_g (lw_at lw_m1 20 rfl) rfl
theorem q388 : (Jvm.Cond.static ({ cls := "java/lang/Integer", name := "numberOfTrailingZeros", desc := "(I)I" } : Jvm.MethodName)) ∈ lw_all := lw_g (lw_at lw_m2 90 rfl) rfl
theorem q389 : (Jvm.Cond.code ({ cls := "java/lang/Integer", name := "numberOfTrailingZeros", desc := "(I)I" } : Jvm.MethodName) prog_14_method_48_code (2 : Nat) (Option.some Jvm.ClassFile.FieldType.int)) ∈ lw_all := lw_g (lw_at lw_m2 91 rfl) rfl
theorem q390 : (Jvm.Cond.constant "java/lang/Integer" (264 : Nat) (65536 : Int32)) ∈ lw_all := lw_g (lw_at lw_m2 92 rfl) rfl
theorem q409 : (Jvm.Cond.laysStatic "java/lang/Integer" "DigitOnes" "[B") ∈ lw_tbl := lw_at lw_m2 111 rfl
theorem q411 : (Jvm.Cond.laysStatic "java/lang/Integer" "DigitTens" "[B") ∈ lw_tbl := lw_at lw_m2 113 rfl
theorem q436 : (Jvm.Cond.static ({ cls := "java/lang/Integer", name := "stringSize", desc := "(I)I" } : Jvm.MethodName)) ∈ lw_all := lw_g (lw_at lw_m2 138 rfl) rfl
theorem q437 : (Jvm.Cond.code ({ cls := "java/lang/Integer", name := "stringSize", desc := "(I)I" } : Jvm.MethodName) prog_14_method_13_code (4 : Nat) (Option.some Jvm.ClassFile.FieldType.int)) ∈ lw_all := lw_g (lw_at lw_m2 139 rfl) rfl
theorem q439 : (Jvm.Cond.static ({ cls := "java/lang/Integer", name := "getChars", desc := "(II[B)I" } : Jvm.MethodName)) ∈ lw_all := lw_g (lw_at lw_m2 141 rfl) rfl
theorem q440 : (Jvm.Cond.code ({ cls := "java/lang/Integer", name := "getChars", desc := "(II[B)I" } : Jvm.MethodName) prog_14_method_12_code (7 : Nat) (Option.some Jvm.ClassFile.FieldType.int)) ∈ lw_all := lw_g (lw_at lw_m2 142 rfl) rfl
theorem q441 : (Jvm.Cond.fieldLink "java/lang/Integer" (83 : Nat) "java/lang/Integer" "DigitOnes" "[B") ∈ lw_all := lw_g (lw_at lw_m2 143 rfl) rfl
theorem q442 : (Jvm.Cond.fieldLink "java/lang/Integer" (87 : Nat) "java/lang/Integer" "DigitTens" "[B") ∈ lw_all := lw_g (lw_at lw_m2 144 rfl) rfl
theorem q862 : (Jvm.Cond.static ({ cls := "java/lang/Integer", name := "numberOfLeadingZeros", desc := "(I)I" } : Jvm.MethodName)) ∈ lw_all := lw_g (lw_at lw_m4 84 rfl) rfl
theorem q863 : (Jvm.Cond.code ({ cls := "java/lang/Integer", name := "numberOfLeadingZeros", desc := "(I)I" } : Jvm.MethodName) prog_14_method_47_code (2 : Nat) (Option.some Jvm.ClassFile.FieldType.int)) ∈ lw_all := lw_g (lw_at lw_m4 85 rfl) rfl
theorem q865 : (Jvm.Cond.static ({ cls := "java/lang/Integer", name := "bitCount", desc := "(I)I" } : Jvm.MethodName)) ∈ lw_all := lw_g (lw_at lw_m4 87 rfl) rfl
theorem q866 : (Jvm.Cond.code ({ cls := "java/lang/Integer", name := "bitCount", desc := "(I)I" } : Jvm.MethodName) prog_14_method_49_code (1 : Nat) (Option.some Jvm.ClassFile.FieldType.int)) ∈ lw_all := lw_g (lw_at lw_m4 88 rfl) rfl
theorem q867 : (Jvm.Cond.constant "java/lang/Integer" (265 : Nat) (1431655765 : Int32)) ∈ lw_all := lw_g (lw_at lw_m4 89 rfl) rfl
theorem q868 : (Jvm.Cond.constant "java/lang/Integer" (266 : Nat) (858993459 : Int32)) ∈ lw_all := lw_g (lw_at lw_m4 90 rfl) rfl
theorem q869 : (Jvm.Cond.constant "java/lang/Integer" (267 : Nat) (252645135 : Int32)) ∈ lw_all := lw_g (lw_at lw_m4 91 rfl) rfl
theorem q1391 : (Jvm.Cond.laysStatic "java/lang/Integer" "digits" "[C") ∈ lw_tbl := lw_at lw_m6 133 rfl
theorem q1431 : (Jvm.Cond.static ({ cls := "java/lang/Integer", name := "parseInt", desc := "(Ljava/lang/CharSequence;III)I" } : Jvm.MethodName)) ∈ lw_all := lw_g (lw_at lw_m6 173 rfl) rfl
theorem q1432 : (Jvm.Cond.code ({ cls := "java/lang/Integer", name := "parseInt", desc := "(Ljava/lang/CharSequence;III)I" } : Jvm.MethodName) prog_14_method_15_code (11 : Nat) (Option.some Jvm.ClassFile.FieldType.int)) ∈ lw_all := lw_g (lw_at lw_m6 174 rfl) rfl
theorem q1433 : (Jvm.Cond.methodLink "java/lang/Integer" (136 : Nat) ({ cls := "java/util/Objects", name := "requireNonNull", desc := "(Ljava/lang/Object;)Ljava/lang/Object;" } : Jvm.MethodName)) ∈ lw_all := lw_g (lw_at lw_m6 175 rfl) rfl
theorem q1434 : (Jvm.Cond.interfaceEntry "java/lang/Integer" (142 : Nat)) ∈ lw_tbl := lw_at lw_m6 176 rfl
theorem q1435 : (Jvm.Cond.methodLink "java/lang/Integer" (142 : Nat) ({ cls := "java/lang/CharSequence", name := "length", desc := "()I" } : Jvm.MethodName)) ∈ lw_all := lw_g (lw_at lw_m6 177 rfl) rfl
theorem q1436 : (Jvm.Cond.methodLink "java/lang/Integer" (145 : Nat) ({ cls := "java/util/Objects", name := "checkFromToIndex", desc := "(III)I" } : Jvm.MethodName)) ∈ lw_all := lw_g (lw_at lw_m6 178 rfl) rfl
theorem q1437 : (Jvm.Cond.classLink "java/lang/Integer" (90 : Nat) "java/lang/NumberFormatException") ∈ lw_all := lw_g (lw_at lw_m6 179 rfl) rfl
theorem q1438 : (Jvm.Cond.classLink "java/lang/Integer" (97 : Nat) "java/lang/StringBuilder") ∈ lw_all := lw_g (lw_at lw_m6 180 rfl) rfl
theorem q1439 : (Jvm.Cond.methodLink "java/lang/Integer" (99 : Nat) ({ cls := "java/lang/StringBuilder", name := "<init>", desc := "()V" } : Jvm.MethodName)) ∈ lw_all := lw_g (lw_at lw_m6 181 rfl) rfl
theorem q1440 : (Jvm.Cond.stringRef "java/lang/Integer" (102 : Nat) "radix ") ∈ lw_tbl := lw_at lw_m6 182 rfl
theorem q1441 : (Jvm.Cond.methodLink "java/lang/Integer" (104 : Nat) ({ cls := "java/lang/StringBuilder", name := "append", desc := "(Ljava/lang/String;)Ljava/lang/StringBuilder;" } : Jvm.MethodName)) ∈ lw_all := lw_g (lw_at lw_m6 183 rfl) rfl
theorem q1442 : (Jvm.Cond.methodLink "java/lang/Integer" (108 : Nat) ({ cls := "java/lang/StringBuilder", name := "append", desc := "(I)Ljava/lang/StringBuilder;" } : Jvm.MethodName)) ∈ lw_all := lw_g (lw_at lw_m6 184 rfl) rfl
theorem q1443 : (Jvm.Cond.stringRef "java/lang/Integer" (111 : Nat) " less than Character.MIN_RADIX") ∈ lw_tbl := lw_at lw_m6 185 rfl
theorem q1444 : (Jvm.Cond.methodLink "java/lang/Integer" (113 : Nat) ({ cls := "java/lang/StringBuilder", name := "toString", desc := "()Ljava/lang/String;" } : Jvm.MethodName)) ∈ lw_all := lw_g (lw_at lw_m6 186 rfl) rfl
theorem q1445 : (Jvm.Cond.methodLink "java/lang/Integer" (94 : Nat) ({ cls := "java/lang/NumberFormatException", name := "<init>", desc := "(Ljava/lang/String;)V" } : Jvm.MethodName)) ∈ lw_all := lw_g (lw_at lw_m6 187 rfl) rfl
theorem q1446 : (Jvm.Cond.stringRef "java/lang/Integer" (116 : Nat) " greater than Character.MAX_RADIX") ∈ lw_tbl := lw_at lw_m6 188 rfl
theorem q1447 : (Jvm.Cond.constant "java/lang/Integer" (122 : Nat) (-2147483647 : Int32)) ∈ lw_all := lw_g (lw_at lw_m6 189 rfl) rfl
theorem q1448 : (Jvm.Cond.interfaceEntry "java/lang/Integer" (149 : Nat)) ∈ lw_tbl := lw_at lw_m6 190 rfl
theorem q1449 : (Jvm.Cond.methodLink "java/lang/Integer" (149 : Nat) ({ cls := "java/lang/CharSequence", name := "charAt", desc := "(I)C" } : Jvm.MethodName)) ∈ lw_all := lw_g (lw_at lw_m6 191 rfl) rfl
theorem q1450 : (Jvm.Cond.constant "java/lang/Integer" (127 : Nat) (-2147483648 : Int32)) ∈ lw_all := lw_g (lw_at lw_m6 192 rfl) rfl
theorem q1451 : (Jvm.Cond.methodLink "java/lang/Integer" (150 : Nat) ({ cls := "java/lang/NumberFormatException", name := "forCharSequence", desc := "(Ljava/lang/CharSequence;III)Ljava/lang/NumberFormatException;" } : Jvm.MethodName)) ∈ lw_all := lw_g (lw_at lw_m6 193 rfl) rfl
theorem q1452 : (Jvm.Cond.methodLink "java/lang/Integer" (132 : Nat) ({ cls := "java/lang/Character", name := "digit", desc := "(CI)I" } : Jvm.MethodName)) ∈ lw_all := lw_g (lw_at lw_m6 194 rfl) rfl
theorem q1453 : (Jvm.Cond.stringRef "java/lang/Integer" (154 : Nat) "") ∈ lw_tbl := lw_at lw_m6 195 rfl
theorem q1454 : (Jvm.Cond.methodLink "java/lang/Integer" (128 : Nat) ({ cls := "java/lang/NumberFormatException", name := "forInputString", desc := "(Ljava/lang/String;I)Ljava/lang/NumberFormatException;" } : Jvm.MethodName)) ∈ lw_all := lw_g (lw_at lw_m6 196 rfl) rfl
theorem q1665 : (Jvm.Cond.static ({ cls := "java/lang/Integer", name := "parseInt", desc := "(Ljava/lang/String;I)I" } : Jvm.MethodName)) ∈ lw_all := lw_g (lw_at lw_m7 167 rfl) rfl
theorem q1666 : (Jvm.Cond.code ({ cls := "java/lang/Integer", name := "parseInt", desc := "(Ljava/lang/String;I)I" } : Jvm.MethodName) prog_14_method_14_code (10 : Nat) (Option.some Jvm.ClassFile.FieldType.int)) ∈ lw_all := lw_g (lw_at lw_m7 168 rfl) rfl
theorem q1667 : (Jvm.Cond.stringRef "java/lang/Integer" (92 : Nat) "Cannot parse null string") ∈ lw_tbl := lw_at lw_m7 169 rfl
theorem q1668 : (Jvm.Cond.methodLink "java/lang/Integer" (118 : Nat) ({ cls := "java/lang/String", name := "length", desc := "()I" } : Jvm.MethodName)) ∈ lw_all := lw_g (lw_at lw_m7 170 rfl) rfl
theorem q1669 : (Jvm.Cond.methodLink "java/lang/Integer" (123 : Nat) ({ cls := "java/lang/String", name := "charAt", desc := "(I)C" } : Jvm.MethodName)) ∈ lw_all := lw_g (lw_at lw_m7 171 rfl) rfl
theorem q2052 : (Jvm.Cond.static ({ cls := "java/lang/Integer", name := "signum", desc := "(I)I" } : Jvm.MethodName)) ∈ lw_all := lw_g (lw_at lw_m9 74 rfl) rfl
theorem q2053 : (Jvm.Cond.code ({ cls := "java/lang/Integer", name := "signum", desc := "(I)I" } : Jvm.MethodName) prog_14_method_56_code (1 : Nat) (Option.some Jvm.ClassFile.FieldType.int)) ∈ lw_all := lw_g (lw_at lw_m9 75 rfl) rfl
def RJ18 : String := "java/lang/IllegalArgumentException"
def TJ18 : u_T := fun k => match k with
  | 0 => ("java/lang/Throwable", "cause", "Ljava/lang/Throwable;", false)
  | 1 => ("java/lang/Throwable", "stackTrace", "[Ljava/lang/StackTraceElement;", false)
  | 2 => ("java/lang/Throwable", "suppressedExceptions", "Ljava/util/List;", false)
  | 3 => ("java/lang/Throwable", "detailMessage", "Ljava/lang/String;", false)
  | 4 => ("java/lang/Throwable", "backtrace", "Ljava/lang/Object;", false)
  | _ => ("java/lang/Throwable", "depth", "I", false)
def tyJ18 : Nat → FieldType := fun k => match k with
  | 0 => .object "java/lang/Throwable"
  | 1 => .array (.object "java/lang/StackTraceElement")
  | 2 => .object "java/util/List"
  | 3 => .object "java/lang/String"
  | 4 => .object "java/lang/Object"
  | _ => .int
abbrev wsJ180 : List Cond := u_ws RJ18 TJ18 6
theorem nmJ18 : ∀ a, a < 6 → ∀ b, b < 6 → a ≠ b → (TJ18 a).2.1 ≠ (TJ18 b).2.1 := by decide +kernel
theorem tyJ18_ok : ∀ k, k < 6 → parseFieldDescriptor (TJ18 k).2.2.1 = some (tyJ18 k) := by decide +kernel
abbrev cJ18_init : ByteArray := prog_12_method_2_code
def yJ18_init : MethodName := ⟨RJ18, "<init>", "(Ljava/lang/String;)V"⟩
abbrev cJ18_init_2 : ByteArray := prog_12_method_1_code
def yJ18_init_2 : MethodName := ⟨RJ18, "<init>", "()V"⟩
theorem q79 : (Jvm.Cond.initialized "java/lang/IllegalArgumentException") ∈ lw_all := lw_g (lw_at lw_m1 21 rfl) rfl
theorem q120 : (Jvm.Cond.selects "java/lang/IllegalArgumentException" ({ cls := "java/lang/Throwable", name := "fillInStackTrace", desc := "()Ljava/lang/Throwable;" } : Jvm.MethodName) ({ cls := "java/lang/Throwable", name := "fillInStackTrace", desc := "()Ljava/lang/Throwable;" } : Jvm.MethodName)) ∈ lw_all := lw_g (lw_at lw_m1 62 rfl) rfl
theorem q485 : (Jvm.Cond.instantiable "java/lang/IllegalArgumentException" (6 : Nat)) ∈ lw_all := lw_g (lw_at lw_m2 187 rfl) rfl
theorem q486 : (Jvm.Cond.castable "java/lang/IllegalArgumentException" "java/lang/IllegalArgumentException") ∈ lw_tbl := lw_at lw_m2 188 rfl
theorem q487 : (Jvm.Cond.selects "java/lang/IllegalArgumentException" ({ cls := "java/lang/Throwable", name := "fillInStackTrace", desc := "(I)Ljava/lang/Throwable;" } : Jvm.MethodName) ({ cls := "java/lang/Throwable", name := "fillInStackTrace", desc := "(I)Ljava/lang/Throwable;" } : Jvm.MethodName)) ∈ lw_all := lw_g (lw_at lw_m2 189 rfl) rfl
theorem q488 : (Jvm.Cond.lays "java/lang/IllegalArgumentException" "java/lang/Throwable" "cause" "Ljava/lang/Throwable;") ∈ lw_all := lw_g (lw_at lw_m2 190 rfl) rfl
theorem q489 : (Jvm.Cond.lays "java/lang/IllegalArgumentException" "java/lang/Throwable" "stackTrace" "[Ljava/lang/StackTraceElement;") ∈ lw_all := lw_g (lw_at lw_m2 191 rfl) rfl
theorem q490 : (Jvm.Cond.lays "java/lang/IllegalArgumentException" "java/lang/Throwable" "suppressedExceptions" "Ljava/util/List;") ∈ lw_all := lw_g (lw_at lw_m2 192 rfl) rfl
theorem q491 : (Jvm.Cond.lays "java/lang/IllegalArgumentException" "java/lang/Throwable" "detailMessage" "Ljava/lang/String;") ∈ lw_all := lw_g (lw_at lw_m2 193 rfl) rfl
theorem q492 : (Jvm.Cond.lays "java/lang/IllegalArgumentException" "java/lang/Throwable" "backtrace" "Ljava/lang/Object;") ∈ lw_all := lw_g (lw_at lw_m2 194 rfl) rfl
theorem q505 : (Jvm.Cond.instanceMethod ({ cls := "java/lang/IllegalArgumentException", name := "<init>", desc := "(Ljava/lang/String;)V" } : Jvm.MethodName)) ∈ lw_all := lw_g (lw_at lw_m2 207 rfl) rfl
theorem q506 : (Jvm.Cond.code ({ cls := "java/lang/IllegalArgumentException", name := "<init>", desc := "(Ljava/lang/String;)V" } : Jvm.MethodName) prog_12_method_2_code (2 : Nat) (Option.none : Option Jvm.ClassFile.FieldType)) ∈ lw_all := lw_g (lw_at lw_m2 208 rfl) rfl
theorem q507 : (Jvm.Cond.methodLink "java/lang/IllegalArgumentException" (7 : Nat) ({ cls := "java/lang/RuntimeException", name := "<init>", desc := "(Ljava/lang/String;)V" } : Jvm.MethodName)) ∈ lw_all := lw_g (lw_at lw_m2 209 rfl) rfl
theorem q508 : (Jvm.Cond.lays "java/lang/IllegalArgumentException" "java/lang/Throwable" "depth" "I") ∈ lw_all := lw_g (lw_at lw_m2 210 rfl) rfl
theorem q509 : (Jvm.Cond.superclass "java/lang/IllegalArgumentException" "java/lang/RuntimeException") ∈ lw_all := lw_g (lw_at lw_m2 211 rfl) rfl
theorem q636 : (Jvm.Cond.declares ({ cls := "java/lang/IllegalArgumentException", name := "<init>", desc := "()V" } : Jvm.MethodName)) ∈ lw_tbl := lw_at lw_m3 98 rfl
theorem q637 : (Jvm.Cond.declares ({ cls := "java/lang/IllegalArgumentException", name := "<init>", desc := "(Ljava/lang/String;)V" } : Jvm.MethodName)) ∈ lw_tbl := lw_at lw_m3 99 rfl
theorem q764 : (Jvm.Cond.selects "java/lang/IllegalArgumentException" ({ cls := "java/lang/Object", name := "getClass", desc := "()Ljava/lang/Class;" } : Jvm.MethodName) ({ cls := "java/lang/Object", name := "getClass", desc := "()Ljava/lang/Class;" } : Jvm.MethodName)) ∈ lw_all := lw_g (lw_at lw_m3 226 rfl) rfl
theorem q777 : (Jvm.Cond.selects "java/lang/IllegalArgumentException" ({ cls := "java/lang/Throwable", name := "getLocalizedMessage", desc := "()Ljava/lang/String;" } : Jvm.MethodName) ({ cls := "java/lang/Throwable", name := "getLocalizedMessage", desc := "()Ljava/lang/String;" } : Jvm.MethodName)) ∈ lw_all := lw_g (lw_at lw_m3 239 rfl) rfl
theorem q785 : (Jvm.Cond.selects "java/lang/IllegalArgumentException" ({ cls := "java/lang/Throwable", name := "getMessage", desc := "()Ljava/lang/String;" } : Jvm.MethodName) ({ cls := "java/lang/Throwable", name := "getMessage", desc := "()Ljava/lang/String;" } : Jvm.MethodName)) ∈ lw_all := lw_g (lw_at lw_m4 7 rfl) rfl
theorem q795 : (Jvm.Cond.selects "java/lang/IllegalArgumentException" ({ cls := "java/lang/Object", name := "toString", desc := "()Ljava/lang/String;" } : Jvm.MethodName) ({ cls := "java/lang/Throwable", name := "toString", desc := "()Ljava/lang/String;" } : Jvm.MethodName)) ∈ lw_all := lw_g (lw_at lw_m4 17 rfl) rfl
theorem q1754 : (Jvm.Cond.instanceMethod ({ cls := "java/lang/IllegalArgumentException", name := "<init>", desc := "()V" } : Jvm.MethodName)) ∈ lw_all := lw_g (lw_at lw_m8 16 rfl) rfl
theorem q1755 : (Jvm.Cond.code ({ cls := "java/lang/IllegalArgumentException", name := "<init>", desc := "()V" } : Jvm.MethodName) prog_12_method_1_code (1 : Nat) (Option.none : Option Jvm.ClassFile.FieldType)) ∈ lw_all := lw_g (lw_at lw_m8 17 rfl) rfl
theorem q1756 : (Jvm.Cond.methodLink "java/lang/IllegalArgumentException" (1 : Nat) ({ cls := "java/lang/RuntimeException", name := "<init>", desc := "()V" } : Jvm.MethodName)) ∈ lw_all := lw_g (lw_at lw_m8 18 rfl) rfl
def RJ19 : String := "java/lang/Character"
abbrev cJ19_isValidCodePoint : ByteArray := prog_6_method_11_code
def yJ19_isValidCodePoint : MethodName := ⟨RJ19, "isValidCodePoint", "(I)Z"⟩
abbrev cJ19_highSurrogate : ByteArray := prog_6_method_28_code
def yJ19_highSurrogate : MethodName := ⟨RJ19, "highSurrogate", "(I)C"⟩
abbrev cJ19_lowSurrogate : ByteArray := prog_6_method_29_code
def yJ19_lowSurrogate : MethodName := ⟨RJ19, "lowSurrogate", "(I)C"⟩
abbrev cJ19_digit : ByteArray := prog_6_method_79_code
def yJ19_digit : MethodName := ⟨RJ19, "digit", "(CI)I"⟩
abbrev cJ19_digit_2 : ByteArray := prog_6_method_80_code
def yJ19_digit_2 : MethodName := ⟨RJ19, "digit", "(II)I"⟩
abbrev cJ19_isSurrogate : ByteArray := prog_6_method_16_code
def yJ19_isSurrogate : MethodName := ⟨RJ19, "isSurrogate", "(C)Z"⟩
abbrev cJ19_isLowSurrogate : ByteArray := prog_6_method_15_code
def yJ19_isLowSurrogate : MethodName := ⟨RJ19, "isLowSurrogate", "(C)Z"⟩
abbrev cJ19_isHighSurrogate : ByteArray := prog_6_method_14_code
def yJ19_isHighSurrogate : MethodName := ⟨RJ19, "isHighSurrogate", "(C)Z"⟩
theorem q80 : (Jvm.Cond.initialized "java/lang/Character") ∈ lw_all := lw_g (lw_at lw_m1 22 rfl) rfl
theorem q601 : (Jvm.Cond.static ({ cls := "java/lang/Character", name := "isValidCodePoint", desc := "(I)Z" } : Jvm.MethodName)) ∈ lw_all := lw_g (lw_at lw_m3 63 rfl) rfl
theorem q602 : (Jvm.Cond.code ({ cls := "java/lang/Character", name := "isValidCodePoint", desc := "(I)Z" } : Jvm.MethodName) prog_6_method_11_code (2 : Nat) (Option.some Jvm.ClassFile.FieldType.boolean)) ∈ lw_all := lw_g (lw_at lw_m3 64 rfl) rfl
theorem q604 : (Jvm.Cond.static ({ cls := "java/lang/Character", name := "highSurrogate", desc := "(I)C" } : Jvm.MethodName)) ∈ lw_all := lw_g (lw_at lw_m3 66 rfl) rfl
theorem q605 : (Jvm.Cond.code ({ cls := "java/lang/Character", name := "highSurrogate", desc := "(I)C" } : Jvm.MethodName) prog_6_method_28_code (1 : Nat) (Option.some Jvm.ClassFile.FieldType.char)) ∈ lw_all := lw_g (lw_at lw_m3 67 rfl) rfl
theorem q606 : (Jvm.Cond.constant "java/lang/Character" (110 : Nat) (55232 : Int32)) ∈ lw_all := lw_g (lw_at lw_m3 68 rfl) rfl
theorem q608 : (Jvm.Cond.static ({ cls := "java/lang/Character", name := "lowSurrogate", desc := "(I)C" } : Jvm.MethodName)) ∈ lw_all := lw_g (lw_at lw_m3 70 rfl) rfl
theorem q609 : (Jvm.Cond.code ({ cls := "java/lang/Character", name := "lowSurrogate", desc := "(I)C" } : Jvm.MethodName) prog_6_method_29_code (1 : Nat) (Option.some Jvm.ClassFile.FieldType.char)) ∈ lw_all := lw_g (lw_at lw_m3 71 rfl) rfl
theorem q610 : (Jvm.Cond.constant "java/lang/Character" (76 : Nat) (56320 : Int32)) ∈ lw_all := lw_g (lw_at lw_m3 72 rfl) rfl
theorem q1410 : (Jvm.Cond.static ({ cls := "java/lang/Character", name := "digit", desc := "(CI)I" } : Jvm.MethodName)) ∈ lw_all := lw_g (lw_at lw_m6 152 rfl) rfl
theorem q1411 : (Jvm.Cond.code ({ cls := "java/lang/Character", name := "digit", desc := "(CI)I" } : Jvm.MethodName) prog_6_method_79_code (2 : Nat) (Option.some Jvm.ClassFile.FieldType.int)) ∈ lw_all := lw_g (lw_at lw_m6 153 rfl) rfl
theorem q1412 : (Jvm.Cond.methodLink "java/lang/Character" (248 : Nat) ({ cls := "java/lang/Character", name := "digit", desc := "(II)I" } : Jvm.MethodName)) ∈ lw_all := lw_g (lw_at lw_m6 154 rfl) rfl
theorem q1413 : (Jvm.Cond.static ({ cls := "java/lang/Character", name := "digit", desc := "(II)I" } : Jvm.MethodName)) ∈ lw_all := lw_g (lw_at lw_m6 155 rfl) rfl
theorem q1414 : (Jvm.Cond.code ({ cls := "java/lang/Character", name := "digit", desc := "(II)I" } : Jvm.MethodName) prog_6_method_80_code (2 : Nat) (Option.some Jvm.ClassFile.FieldType.int)) ∈ lw_all := lw_g (lw_at lw_m6 156 rfl) rfl
theorem q1415 : (Jvm.Cond.methodLink "java/lang/Character" (158 : Nat) ({ cls := "java/lang/CharacterData", name := "of", desc := "(I)Ljava/lang/CharacterData;" } : Jvm.MethodName)) ∈ lw_all := lw_g (lw_at lw_m6 157 rfl) rfl
theorem q1420 : (Jvm.Cond.methodLink "java/lang/Character" (252 : Nat) ({ cls := "java/lang/CharacterData", name := "digit", desc := "(II)I" } : Jvm.MethodName)) ∈ lw_all := lw_g (lw_at lw_m6 162 rfl) rfl
theorem q1975 : (Jvm.Cond.static ({ cls := "java/lang/Character", name := "isSurrogate", desc := "(C)Z" } : Jvm.MethodName)) ∈ lw_all := lw_g (lw_at lw_m8 237 rfl) rfl
theorem q1976 : (Jvm.Cond.code ({ cls := "java/lang/Character", name := "isSurrogate", desc := "(C)Z" } : Jvm.MethodName) prog_6_method_16_code (1 : Nat) (Option.some Jvm.ClassFile.FieldType.boolean)) ∈ lw_all := lw_g (lw_at lw_m8 238 rfl) rfl
theorem q1977 : (Jvm.Cond.constant "java/lang/Character" (75 : Nat) (55296 : Int32)) ∈ lw_all := lw_g (lw_at lw_m8 239 rfl) rfl
theorem q1978 : (Jvm.Cond.constant "java/lang/Character" (77 : Nat) (57344 : Int32)) ∈ lw_all := lw_g (lw_at lw_m9 0 rfl) rfl
theorem q1983 : (Jvm.Cond.static ({ cls := "java/lang/Character", name := "isLowSurrogate", desc := "(C)Z" } : Jvm.MethodName)) ∈ lw_all := lw_g (lw_at lw_m9 5 rfl) rfl
theorem q1984 : (Jvm.Cond.code ({ cls := "java/lang/Character", name := "isLowSurrogate", desc := "(C)Z" } : Jvm.MethodName) prog_6_method_15_code (1 : Nat) (Option.some Jvm.ClassFile.FieldType.boolean)) ∈ lw_all := lw_g (lw_at lw_m9 6 rfl) rfl
theorem q1986 : (Jvm.Cond.static ({ cls := "java/lang/Character", name := "isHighSurrogate", desc := "(C)Z" } : Jvm.MethodName)) ∈ lw_all := lw_g (lw_at lw_m9 8 rfl) rfl
theorem q1987 : (Jvm.Cond.code ({ cls := "java/lang/Character", name := "isHighSurrogate", desc := "(C)Z" } : Jvm.MethodName) prog_6_method_14_code (1 : Nat) (Option.some Jvm.ClassFile.FieldType.boolean)) ∈ lw_all := lw_g (lw_at lw_m9 9 rfl) rfl
def RJ2 : String := "java/lang/RuntimeException"
abbrev cJ2_init : ByteArray := prog_19_method_2_code
def yJ2_init : MethodName := ⟨RJ2, "<init>", "(Ljava/lang/String;)V"⟩
abbrev cJ2_init_2 : ByteArray := prog_19_method_1_code
def yJ2_init_2 : MethodName := ⟨RJ2, "<init>", "()V"⟩
theorem q61 : (Jvm.Cond.initialized "java/lang/RuntimeException") ∈ lw_all := lw_g (lw_at lw_m1 3 rfl) rfl
theorem q101 : (Jvm.Cond.instanceMethod ({ cls := "java/lang/RuntimeException", name := "<init>", desc := "(Ljava/lang/String;)V" } : Jvm.MethodName)) ∈ lw_all := lw_g (lw_at lw_m1 43 rfl) rfl
theorem q102 : (Jvm.Cond.code ({ cls := "java/lang/RuntimeException", name := "<init>", desc := "(Ljava/lang/String;)V" } : Jvm.MethodName) prog_19_method_2_code (2 : Nat) (Option.none : Option Jvm.ClassFile.FieldType)) ∈ lw_all := lw_g (lw_at lw_m1 44 rfl) rfl
theorem q103 : (Jvm.Cond.methodLink "java/lang/RuntimeException" (7 : Nat) ({ cls := "java/lang/Exception", name := "<init>", desc := "(Ljava/lang/String;)V" } : Jvm.MethodName)) ∈ lw_all := lw_g (lw_at lw_m1 45 rfl) rfl
theorem q150 : (Jvm.Cond.declares ({ cls := "java/lang/RuntimeException", name := "<init>", desc := "()V" } : Jvm.MethodName)) ∈ lw_tbl := lw_at lw_m1 92 rfl
theorem q151 : (Jvm.Cond.declares ({ cls := "java/lang/RuntimeException", name := "<init>", desc := "(Ljava/lang/String;)V" } : Jvm.MethodName)) ∈ lw_tbl := lw_at lw_m1 93 rfl
theorem q1757 : (Jvm.Cond.instanceMethod ({ cls := "java/lang/RuntimeException", name := "<init>", desc := "()V" } : Jvm.MethodName)) ∈ lw_all := lw_g (lw_at lw_m8 19 rfl) rfl
theorem q1758 : (Jvm.Cond.code ({ cls := "java/lang/RuntimeException", name := "<init>", desc := "()V" } : Jvm.MethodName) prog_19_method_1_code (1 : Nat) (Option.none : Option Jvm.ClassFile.FieldType)) ∈ lw_all := lw_g (lw_at lw_m8 20 rfl) rfl
theorem q1759 : (Jvm.Cond.methodLink "java/lang/RuntimeException" (1 : Nat) ({ cls := "java/lang/Exception", name := "<init>", desc := "()V" } : Jvm.MethodName)) ∈ lw_all := lw_g (lw_at lw_m8 21 rfl) rfl
def RJ20 : String := "java/util/Objects"
abbrev cJ20_requireNonNull : ByteArray := prog_30_method_10_code
def yJ20_requireNonNull : MethodName := ⟨RJ20, "requireNonNull", "(Ljava/lang/Object;)Ljava/lang/Object;"⟩
abbrev cJ20_checkFromToIndex : ByteArray := prog_30_method_18_code
def yJ20_checkFromToIndex : MethodName := ⟨RJ20, "checkFromToIndex", "(III)I"⟩
theorem q81 : (Jvm.Cond.initialized "java/util/Objects") ∈ lw_all := lw_g (lw_at lw_m1 23 rfl) rfl
theorem q615 : (Jvm.Cond.static ({ cls := "java/util/Objects", name := "requireNonNull", desc := "(Ljava/lang/Object;)Ljava/lang/Object;" } : Jvm.MethodName)) ∈ lw_all := lw_g (lw_at lw_m3 77 rfl) rfl
theorem q616 : (Jvm.Cond.code ({ cls := "java/util/Objects", name := "requireNonNull", desc := "(Ljava/lang/Object;)Ljava/lang/Object;" } : Jvm.MethodName) prog_30_method_10_code (1 : Nat) (Option.some (Jvm.ClassFile.FieldType.object "java/lang/Object"))) ∈ lw_all := lw_g (lw_at lw_m3 78 rfl) rfl
theorem q630 : (Jvm.Cond.static ({ cls := "java/util/Objects", name := "checkFromToIndex", desc := "(III)I" } : Jvm.MethodName)) ∈ lw_all := lw_g (lw_at lw_m3 92 rfl) rfl
theorem q631 : (Jvm.Cond.code ({ cls := "java/util/Objects", name := "checkFromToIndex", desc := "(III)I" } : Jvm.MethodName) prog_30_method_18_code (3 : Nat) (Option.some Jvm.ClassFile.FieldType.int)) ∈ lw_all := lw_g (lw_at lw_m3 93 rfl) rfl
theorem q632 : (Jvm.Cond.methodLink "java/util/Objects" (111 : Nat) ({ cls := "jdk/internal/util/Preconditions", name := "checkFromToIndex", desc := "(IIILjava/util/function/BiFunction;)I" } : Jvm.MethodName)) ∈ lw_all := lw_g (lw_at lw_m3 94 rfl) rfl
def RJ21 : String := "java/lang/NumberFormatException"
def TJ21 : u_T := fun k => match k with
  | 0 => ("java/lang/Throwable", "cause", "Ljava/lang/Throwable;", false)
  | 1 => ("java/lang/Throwable", "stackTrace", "[Ljava/lang/StackTraceElement;", false)
  | 2 => ("java/lang/Throwable", "suppressedExceptions", "Ljava/util/List;", false)
  | 3 => ("java/lang/Throwable", "detailMessage", "Ljava/lang/String;", false)
  | 4 => ("java/lang/Throwable", "backtrace", "Ljava/lang/Object;", false)
  | _ => ("java/lang/Throwable", "depth", "I", false)
def tyJ21 : Nat → FieldType := fun k => match k with
  | 0 => .object "java/lang/Throwable"
  | 1 => .array (.object "java/lang/StackTraceElement")
  | 2 => .object "java/util/List"
  | 3 => .object "java/lang/String"
  | 4 => .object "java/lang/Object"
  | _ => .int
abbrev wsJ210 : List Cond := u_ws RJ21 TJ21 6
theorem nmJ21 : ∀ a, a < 6 → ∀ b, b < 6 → a ≠ b → (TJ21 a).2.1 ≠ (TJ21 b).2.1 := by decide +kernel
theorem tyJ21_ok : ∀ k, k < 6 → parseFieldDescriptor (TJ21 k).2.2.1 = some (tyJ21 k) := by decide +kernel
abbrev cJ21_init : ByteArray := prog_18_method_2_code
def yJ21_init : MethodName := ⟨RJ21, "<init>", "(Ljava/lang/String;)V"⟩
abbrev cJ21_forCharSequence : ByteArray := prog_18_method_4_code
def yJ21_forCharSequence : MethodName := ⟨RJ21, "forCharSequence", "(Ljava/lang/CharSequence;III)Ljava/lang/NumberFormatException;"⟩
abbrev cJ21_forInputString : ByteArray := prog_18_method_3_code
def yJ21_forInputString : MethodName := ⟨RJ21, "forInputString", "(Ljava/lang/String;I)Ljava/lang/NumberFormatException;"⟩
theorem q82 : (Jvm.Cond.initialized "java/lang/NumberFormatException") ∈ lw_all := lw_g (lw_at lw_m1 24 rfl) rfl
theorem q122 : (Jvm.Cond.selects "java/lang/NumberFormatException" ({ cls := "java/lang/Throwable", name := "fillInStackTrace", desc := "()Ljava/lang/Throwable;" } : Jvm.MethodName) ({ cls := "java/lang/Throwable", name := "fillInStackTrace", desc := "()Ljava/lang/Throwable;" } : Jvm.MethodName)) ∈ lw_all := lw_g (lw_at lw_m1 64 rfl) rfl
theorem q634 : (Jvm.Cond.instantiable "java/lang/NumberFormatException" (6 : Nat)) ∈ lw_all := lw_g (lw_at lw_m3 96 rfl) rfl
theorem q635 : (Jvm.Cond.castable "java/lang/NumberFormatException" "java/lang/NumberFormatException") ∈ lw_tbl := lw_at lw_m3 97 rfl
theorem q638 : (Jvm.Cond.selects "java/lang/NumberFormatException" ({ cls := "java/lang/Throwable", name := "fillInStackTrace", desc := "(I)Ljava/lang/Throwable;" } : Jvm.MethodName) ({ cls := "java/lang/Throwable", name := "fillInStackTrace", desc := "(I)Ljava/lang/Throwable;" } : Jvm.MethodName)) ∈ lw_all := lw_g (lw_at lw_m3 100 rfl) rfl
theorem q639 : (Jvm.Cond.lays "java/lang/NumberFormatException" "java/lang/Throwable" "cause" "Ljava/lang/Throwable;") ∈ lw_all := lw_g (lw_at lw_m3 101 rfl) rfl
theorem q640 : (Jvm.Cond.lays "java/lang/NumberFormatException" "java/lang/Throwable" "stackTrace" "[Ljava/lang/StackTraceElement;") ∈ lw_all := lw_g (lw_at lw_m3 102 rfl) rfl
theorem q641 : (Jvm.Cond.lays "java/lang/NumberFormatException" "java/lang/Throwable" "suppressedExceptions" "Ljava/util/List;") ∈ lw_all := lw_g (lw_at lw_m3 103 rfl) rfl
theorem q642 : (Jvm.Cond.lays "java/lang/NumberFormatException" "java/lang/Throwable" "detailMessage" "Ljava/lang/String;") ∈ lw_all := lw_g (lw_at lw_m3 104 rfl) rfl
theorem q643 : (Jvm.Cond.lays "java/lang/NumberFormatException" "java/lang/Throwable" "backtrace" "Ljava/lang/Object;") ∈ lw_all := lw_g (lw_at lw_m3 105 rfl) rfl
theorem q652 : (Jvm.Cond.instanceMethod ({ cls := "java/lang/NumberFormatException", name := "<init>", desc := "(Ljava/lang/String;)V" } : Jvm.MethodName)) ∈ lw_all := lw_g (lw_at lw_m3 114 rfl) rfl
theorem q653 : (Jvm.Cond.code ({ cls := "java/lang/NumberFormatException", name := "<init>", desc := "(Ljava/lang/String;)V" } : Jvm.MethodName) prog_18_method_2_code (2 : Nat) (Option.none : Option Jvm.ClassFile.FieldType)) ∈ lw_all := lw_g (lw_at lw_m3 115 rfl) rfl
theorem q654 : (Jvm.Cond.methodLink "java/lang/NumberFormatException" (7 : Nat) ({ cls := "java/lang/IllegalArgumentException", name := "<init>", desc := "(Ljava/lang/String;)V" } : Jvm.MethodName)) ∈ lw_all := lw_g (lw_at lw_m3 116 rfl) rfl
theorem q655 : (Jvm.Cond.lays "java/lang/NumberFormatException" "java/lang/Throwable" "depth" "I") ∈ lw_all := lw_g (lw_at lw_m3 117 rfl) rfl
theorem q656 : (Jvm.Cond.superclass "java/lang/NumberFormatException" "java/lang/IllegalArgumentException") ∈ lw_all := lw_g (lw_at lw_m3 118 rfl) rfl
theorem q679 : (Jvm.Cond.static ({ cls := "java/lang/NumberFormatException", name := "forCharSequence", desc := "(Ljava/lang/CharSequence;III)Ljava/lang/NumberFormatException;" } : Jvm.MethodName)) ∈ lw_all := lw_g (lw_at lw_m3 141 rfl) rfl
theorem q680 : (Jvm.Cond.code ({ cls := "java/lang/NumberFormatException", name := "forCharSequence", desc := "(Ljava/lang/CharSequence;III)Ljava/lang/NumberFormatException;" } : Jvm.MethodName) prog_18_method_4_code (4 : Nat) (Option.some (Jvm.ClassFile.FieldType.object "java/lang/NumberFormatException"))) ∈ lw_all := lw_g (lw_at lw_m3 142 rfl) rfl
theorem q681 : (Jvm.Cond.classLink "java/lang/NumberFormatException" (10 : Nat) "java/lang/NumberFormatException") ∈ lw_all := lw_g (lw_at lw_m3 143 rfl) rfl
theorem q682 : (Jvm.Cond.classLink "java/lang/NumberFormatException" (12 : Nat) "java/lang/StringBuilder") ∈ lw_all := lw_g (lw_at lw_m3 144 rfl) rfl
theorem q683 : (Jvm.Cond.methodLink "java/lang/NumberFormatException" (14 : Nat) ({ cls := "java/lang/StringBuilder", name := "<init>", desc := "()V" } : Jvm.MethodName)) ∈ lw_all := lw_g (lw_at lw_m3 145 rfl) rfl
theorem q684 : (Jvm.Cond.stringRef "java/lang/NumberFormatException" (35 : Nat) "Error at index ") ∈ lw_tbl := lw_at lw_m3 146 rfl
theorem q685 : (Jvm.Cond.methodLink "java/lang/NumberFormatException" (17 : Nat) ({ cls := "java/lang/StringBuilder", name := "append", desc := "(Ljava/lang/String;)Ljava/lang/StringBuilder;" } : Jvm.MethodName)) ∈ lw_all := lw_g (lw_at lw_m3 147 rfl) rfl
theorem q686 : (Jvm.Cond.methodLink "java/lang/NumberFormatException" (27 : Nat) ({ cls := "java/lang/StringBuilder", name := "append", desc := "(I)Ljava/lang/StringBuilder;" } : Jvm.MethodName)) ∈ lw_all := lw_g (lw_at lw_m3 148 rfl) rfl
theorem q687 : (Jvm.Cond.stringRef "java/lang/NumberFormatException" (37 : Nat) " in: \"") ∈ lw_tbl := lw_at lw_m3 149 rfl
theorem q688 : (Jvm.Cond.interfaceEntry "java/lang/NumberFormatException" (39 : Nat)) ∈ lw_tbl := lw_at lw_m3 150 rfl
theorem q689 : (Jvm.Cond.methodLink "java/lang/NumberFormatException" (39 : Nat) ({ cls := "java/lang/CharSequence", name := "subSequence", desc := "(II)Ljava/lang/CharSequence;" } : Jvm.MethodName)) ∈ lw_all := lw_g (lw_at lw_m3 151 rfl) rfl
theorem q740 : (Jvm.Cond.methodLink "java/lang/NumberFormatException" (45 : Nat) ({ cls := "java/lang/StringBuilder", name := "append", desc := "(Ljava/lang/Object;)Ljava/lang/StringBuilder;" } : Jvm.MethodName)) ∈ lw_all := lw_g (lw_at lw_m3 202 rfl) rfl
theorem q766 : (Jvm.Cond.selects "java/lang/NumberFormatException" ({ cls := "java/lang/Object", name := "getClass", desc := "()Ljava/lang/Class;" } : Jvm.MethodName) ({ cls := "java/lang/Object", name := "getClass", desc := "()Ljava/lang/Class;" } : Jvm.MethodName)) ∈ lw_all := lw_g (lw_at lw_m3 228 rfl) rfl
theorem q779 : (Jvm.Cond.selects "java/lang/NumberFormatException" ({ cls := "java/lang/Throwable", name := "getLocalizedMessage", desc := "()Ljava/lang/String;" } : Jvm.MethodName) ({ cls := "java/lang/Throwable", name := "getLocalizedMessage", desc := "()Ljava/lang/String;" } : Jvm.MethodName)) ∈ lw_all := lw_g (lw_at lw_m4 1 rfl) rfl
theorem q787 : (Jvm.Cond.selects "java/lang/NumberFormatException" ({ cls := "java/lang/Throwable", name := "getMessage", desc := "()Ljava/lang/String;" } : Jvm.MethodName) ({ cls := "java/lang/Throwable", name := "getMessage", desc := "()Ljava/lang/String;" } : Jvm.MethodName)) ∈ lw_all := lw_g (lw_at lw_m4 9 rfl) rfl
theorem q797 : (Jvm.Cond.selects "java/lang/NumberFormatException" ({ cls := "java/lang/Object", name := "toString", desc := "()Ljava/lang/String;" } : Jvm.MethodName) ({ cls := "java/lang/Throwable", name := "toString", desc := "()Ljava/lang/String;" } : Jvm.MethodName)) ∈ lw_all := lw_g (lw_at lw_m4 19 rfl) rfl
theorem q1406 : (Jvm.Cond.stringRef "java/lang/NumberFormatException" (21 : Nat) "\"") ∈ lw_tbl := lw_at lw_m6 148 rfl
theorem q1407 : (Jvm.Cond.methodLink "java/lang/NumberFormatException" (30 : Nat) ({ cls := "java/lang/StringBuilder", name := "toString", desc := "()Ljava/lang/String;" } : Jvm.MethodName)) ∈ lw_all := lw_g (lw_at lw_m6 149 rfl) rfl
theorem q1408 : (Jvm.Cond.methodLink "java/lang/NumberFormatException" (34 : Nat) ({ cls := "java/lang/NumberFormatException", name := "<init>", desc := "(Ljava/lang/String;)V" } : Jvm.MethodName)) ∈ lw_all := lw_g (lw_at lw_m6 150 rfl) rfl
theorem q1455 : (Jvm.Cond.static ({ cls := "java/lang/NumberFormatException", name := "forInputString", desc := "(Ljava/lang/String;I)Ljava/lang/NumberFormatException;" } : Jvm.MethodName)) ∈ lw_all := lw_g (lw_at lw_m6 197 rfl) rfl
theorem q1456 : (Jvm.Cond.code ({ cls := "java/lang/NumberFormatException", name := "forInputString", desc := "(Ljava/lang/String;I)Ljava/lang/NumberFormatException;" } : Jvm.MethodName) prog_18_method_3_code (2 : Nat) (Option.some (Jvm.ClassFile.FieldType.object "java/lang/NumberFormatException"))) ∈ lw_all := lw_g (lw_at lw_m6 198 rfl) rfl
theorem q1457 : (Jvm.Cond.stringRef "java/lang/NumberFormatException" (15 : Nat) "For input string: \"") ∈ lw_tbl := lw_at lw_m6 199 rfl
theorem q1458 : (Jvm.Cond.stringRef "java/lang/NumberFormatException" (23 : Nat) "") ∈ lw_tbl := lw_at lw_m6 200 rfl
theorem q1459 : (Jvm.Cond.stringRef "java/lang/NumberFormatException" (25 : Nat) " under radix ") ∈ lw_tbl := lw_at lw_m6 201 rfl
theorem q2447 : (Jvm.Cond.castable "java/lang/NumberFormatException" "java/lang/IllegalArgumentException") ∈ lw_tbl := lw_at lw_m10 229 rfl
def RJ22 : String := "java/math/BigInteger"
def TJ22 : u_T := fun k => match k with
  | 0 => ("java/math/BigInteger", "signum", "I", true)
  | 1 => ("java/math/BigInteger", "mag", "[I", true)
  | 2 => ("java/math/BigInteger", "bitCountPlusOne", "I", false)
  | 3 => ("java/math/BigInteger", "bitLengthPlusOne", "I", false)
  | 4 => ("java/math/BigInteger", "lowestSetBitPlusTwo", "I", false)
  | _ => ("java/math/BigInteger", "firstNonzeroIntNumPlusTwo", "I", false)
def tyJ22 : Nat → FieldType := fun k => match k with
  | 0 => .int
  | 1 => .array .int
  | 2 => .int
  | 3 => .int
  | 4 => .int
  | _ => .int
abbrev wsJ220 : List Cond := u_ws RJ22 TJ22 6
theorem nmJ22 : ∀ a, a < 6 → ∀ b, b < 6 → a ≠ b → (TJ22 a).2.1 ≠ (TJ22 b).2.1 := by decide +kernel
theorem tyJ22_ok : ∀ k, k < 6 → parseFieldDescriptor (TJ22 k).2.2.1 = some (tyJ22 k) := by decide +kernel
abbrev cJ22_toString : ByteArray := prog_27_method_133_code
def yJ22_toString : MethodName := ⟨RJ22, "toString", "()Ljava/lang/String;"⟩
abbrev cJ22_toString_2 : ByteArray := prog_27_method_128_code
def yJ22_toString_2 : MethodName := ⟨RJ22, "toString", "(I)Ljava/lang/String;"⟩
abbrev cJ22_abs : ByteArray := prog_27_method_79_code
def yJ22_abs : MethodName := ⟨RJ22, "abs", "()Ljava/math/BigInteger;"⟩
abbrev cJ22_negate : ByteArray := prog_27_method_80_code
def yJ22_negate : MethodName := ⟨RJ22, "negate", "()Ljava/math/BigInteger;"⟩
abbrev cJ22_init : ByteArray := prog_27_method_25_code
def yJ22_init : MethodName := ⟨RJ22, "<init>", "([II)V"⟩
abbrev cJ22_checkRange : ByteArray := prog_27_method_27_code
def yJ22_checkRange : MethodName := ⟨RJ22, "checkRange", "()V"⟩
abbrev cJ22_reportOverflow : ByteArray := prog_27_method_28_code
def yJ22_reportOverflow : MethodName := ⟨RJ22, "reportOverflow", "()V"⟩
abbrev cJ22_bitLength : ByteArray := prog_27_method_118_code
def yJ22_bitLength : MethodName := ⟨RJ22, "bitLength", "()I"⟩
abbrev cJ22_bitLengthForInt : ByteArray := prog_27_method_74_code
def yJ22_bitLengthForInt : MethodName := ⟨RJ22, "bitLengthForInt", "(I)I"⟩
abbrev cJ22_toString_3 : ByteArray := prog_27_method_131_code
def yJ22_toString_3 : MethodName := ⟨RJ22, "toString", "(Ljava/math/BigInteger;Ljava/lang/StringBuilder;II)V"⟩
abbrev cJ22_signum : ByteArray := prog_27_method_81_code
def yJ22_signum : MethodName := ⟨RJ22, "signum", "()I"⟩
abbrev cJ22_smallToString : ByteArray := prog_27_method_130_code
def yJ22_smallToString : MethodName := ⟨RJ22, "smallToString", "(ILjava/lang/StringBuilder;I)V"⟩
abbrev cJ22_padWithZeros : ByteArray := prog_27_method_129_code
def yJ22_padWithZeros : MethodName := ⟨RJ22, "padWithZeros", "(Ljava/lang/StringBuilder;I)V"⟩
abbrev cJ22_multiply : ByteArray := prog_27_method_40_code
def yJ22_multiply : MethodName := ⟨RJ22, "multiply", "(Ljava/math/BigInteger;)Ljava/math/BigInteger;"⟩
abbrev cJ22_multiply_2 : ByteArray := prog_27_method_42_code
def yJ22_multiply_2 : MethodName := ⟨RJ22, "multiply", "(Ljava/math/BigInteger;ZZI)Ljava/math/BigInteger;"⟩
abbrev cJ22_square : ByteArray := prog_27_method_55_code
def yJ22_square : MethodName := ⟨RJ22, "square", "(ZZI)Ljava/math/BigInteger;"⟩
abbrev cJ22_squareToLen : ByteArray := prog_27_method_56_code
def yJ22_squareToLen : MethodName := ⟨RJ22, "squareToLen", "([II[I)[I"⟩
abbrev cJ22_implSquareToLenChecks : ByteArray := prog_27_method_57_code
def yJ22_implSquareToLenChecks : MethodName := ⟨RJ22, "implSquareToLenChecks", "([II[II)V"⟩
abbrev cJ22_implSquareToLen : ByteArray := prog_27_method_58_code
def yJ22_implSquareToLen : MethodName := ⟨RJ22, "implSquareToLen", "([II[II)[I"⟩
abbrev cJ22_mulAdd : ByteArray := prog_27_method_94_code
def yJ22_mulAdd : MethodName := ⟨RJ22, "mulAdd", "([I[IIII)I"⟩
abbrev cJ22_implMulAddCheck : ByteArray := prog_27_method_95_code
def yJ22_implMulAddCheck : MethodName := ⟨RJ22, "implMulAddCheck", "([I[IIII)V"⟩
abbrev cJ22_implMulAdd : ByteArray := prog_27_method_96_code
def yJ22_implMulAdd : MethodName := ⟨RJ22, "implMulAdd", "([I[IIII)I"⟩
abbrev cJ22_addOne : ByteArray := prog_27_method_97_code
def yJ22_addOne : MethodName := ⟨RJ22, "addOne", "([IIII)I"⟩
abbrev cJ22_primitiveLeftShift : ByteArray := prog_27_method_77_code
def yJ22_primitiveLeftShift : MethodName := ⟨RJ22, "primitiveLeftShift", "([III)V"⟩
abbrev cJ22_shiftLeftImplWorker : ByteArray := prog_27_method_103_code
def yJ22_shiftLeftImplWorker : MethodName := ⟨RJ22, "shiftLeftImplWorker", "([I[IIII)V"⟩
abbrev cJ22_trustedStripLeadingZeroInts : ByteArray := prog_27_method_140_code
def yJ22_trustedStripLeadingZeroInts : MethodName := ⟨RJ22, "trustedStripLeadingZeroInts", "([I)[I"⟩
abbrev cJ22_squareKaratsuba : ByteArray := prog_27_method_59_code
def yJ22_squareKaratsuba : MethodName := ⟨RJ22, "squareKaratsuba", "()Ljava/math/BigInteger;"⟩
abbrev cJ22_getLower : ByteArray := prog_27_method_52_code
def yJ22_getLower : MethodName := ⟨RJ22, "getLower", "(I)Ljava/math/BigInteger;"⟩
abbrev cJ22_getUpper : ByteArray := prog_27_method_53_code
def yJ22_getUpper : MethodName := ⟨RJ22, "getUpper", "(I)Ljava/math/BigInteger;"⟩
abbrev cJ22_square_2 : ByteArray := prog_27_method_54_code
def yJ22_square_2 : MethodName := ⟨RJ22, "square", "()Ljava/math/BigInteger;"⟩
abbrev cJ22_shiftLeft : ByteArray := prog_27_method_101_code
def yJ22_shiftLeft : MethodName := ⟨RJ22, "shiftLeft", "(I)Ljava/math/BigInteger;"⟩
abbrev cJ22_shiftLeft_2 : ByteArray := prog_27_method_102_code
def yJ22_shiftLeft_2 : MethodName := ⟨RJ22, "shiftLeft", "([II)[I"⟩
abbrev cJ22_shiftRightImpl : ByteArray := prog_27_method_105_code
def yJ22_shiftRightImpl : MethodName := ⟨RJ22, "shiftRightImpl", "(I)Ljava/math/BigInteger;"⟩
abbrev cJ22_shiftRightImplWorker : ByteArray := prog_27_method_106_code
def yJ22_shiftRightImplWorker : MethodName := ⟨RJ22, "shiftRightImplWorker", "([I[IIII)V"⟩
abbrev cJ22_javaIncrement : ByteArray := prog_27_method_107_code
def yJ22_javaIncrement : MethodName := ⟨RJ22, "javaIncrement", "([I)[I"⟩
abbrev cJ22_add : ByteArray := prog_27_method_32_code
def yJ22_add : MethodName := ⟨RJ22, "add", "(Ljava/math/BigInteger;)Ljava/math/BigInteger;"⟩
abbrev cJ22_add_2 : ByteArray := prog_27_method_35_code
def yJ22_add_2 : MethodName := ⟨RJ22, "add", "([I[I)[I"⟩
abbrev cJ22_compareMagnitude : ByteArray := prog_27_method_122_code
def yJ22_compareMagnitude : MethodName := ⟨RJ22, "compareMagnitude", "(Ljava/math/BigInteger;)I"⟩
abbrev cJ22_subtract : ByteArray := prog_27_method_39_code
def yJ22_subtract : MethodName := ⟨RJ22, "subtract", "([I[I)[I"⟩
abbrev cJ22_subtract_2 : ByteArray := prog_27_method_38_code
def yJ22_subtract_2 : MethodName := ⟨RJ22, "subtract", "(Ljava/math/BigInteger;)Ljava/math/BigInteger;"⟩
abbrev cJ22_multiplyByInt : ByteArray := prog_27_method_43_code
def yJ22_multiplyByInt : MethodName := ⟨RJ22, "multiplyByInt", "([III)Ljava/math/BigInteger;"⟩
abbrev cJ22_multiplyToLen : ByteArray := prog_27_method_45_code
def yJ22_multiplyToLen : MethodName := ⟨RJ22, "multiplyToLen", "([II[II[I)[I"⟩
abbrev cJ22_multiplyToLenCheck : ByteArray := prog_27_method_47_code
def yJ22_multiplyToLenCheck : MethodName := ⟨RJ22, "multiplyToLenCheck", "([II)V"⟩
abbrev cJ22_implMultiplyToLen : ByteArray := prog_27_method_46_code
def yJ22_implMultiplyToLen : MethodName := ⟨RJ22, "implMultiplyToLen", "([II[II[I)[I"⟩
abbrev cJ22_multiplyKaratsuba : ByteArray := prog_27_method_48_code
def yJ22_multiplyKaratsuba : MethodName := ⟨RJ22, "multiplyKaratsuba", "(Ljava/math/BigInteger;Ljava/math/BigInteger;)Ljava/math/BigInteger;"⟩
abbrev cJ22_longValue : ByteArray := prog_27_method_136_code
def yJ22_longValue : MethodName := ⟨RJ22, "longValue", "()J"⟩
abbrev cJ22_getInt : ByteArray := prog_27_method_148_code
def yJ22_getInt : MethodName := ⟨RJ22, "getInt", "(I)I"⟩
abbrev cJ22_signInt : ByteArray := prog_27_method_147_code
def yJ22_signInt : MethodName := ⟨RJ22, "signInt", "()I"⟩
abbrev cJ22_firstNonzeroIntNum : ByteArray := prog_27_method_149_code
def yJ22_firstNonzeroIntNum : MethodName := ⟨RJ22, "firstNonzeroIntNum", "()I"⟩
abbrev cJ22_valueOf : ByteArray := prog_27_method_29_code
def yJ22_valueOf : MethodName := ⟨RJ22, "valueOf", "(J)Ljava/math/BigInteger;"⟩
abbrev cJ22_init_2 : ByteArray := prog_27_method_30_code
def yJ22_init_2 : MethodName := ⟨RJ22, "<init>", "(J)V"⟩
abbrev cJ22_pow : ByteArray := prog_27_method_70_code
def yJ22_pow : MethodName := ⟨RJ22, "pow", "(I)Ljava/math/BigInteger;"⟩
abbrev cJ22_getLowestSetBit : ByteArray := prog_27_method_117_code
def yJ22_getLowestSetBit : MethodName := ⟨RJ22, "getLowestSetBit", "()I"⟩
abbrev cJ22_shiftRight : ByteArray := prog_27_method_104_code
def yJ22_shiftRight : MethodName := ⟨RJ22, "shiftRight", "(I)Ljava/math/BigInteger;"⟩
abbrev cJ22_init_3 : ByteArray := prog_27_method_11_code
def yJ22_init_3 : MethodName := ⟨RJ22, "<init>", "(Ljava/lang/String;)V"⟩
abbrev cJ22_init_4 : ByteArray := prog_27_method_7_code
def yJ22_init_4 : MethodName := ⟨RJ22, "<init>", "(Ljava/lang/String;I)V"⟩
abbrev cJ22_destructiveMulAdd : ByteArray := prog_27_method_10_code
def yJ22_destructiveMulAdd : MethodName := ⟨RJ22, "destructiveMulAdd", "([III)V"⟩
abbrev cJ22_divide : ByteArray := prog_27_method_61_code
def yJ22_divide : MethodName := ⟨RJ22, "divide", "(Ljava/math/BigInteger;)Ljava/math/BigInteger;"⟩
abbrev cJ22_divideKnuth : ByteArray := prog_27_method_62_code
def yJ22_divideKnuth : MethodName := ⟨RJ22, "divideKnuth", "(Ljava/math/BigInteger;)Ljava/math/BigInteger;"⟩
abbrev cJ22_divideBurnikelZiegler : ByteArray := prog_27_method_67_code
def yJ22_divideBurnikelZiegler : MethodName := ⟨RJ22, "divideBurnikelZiegler", "(Ljava/math/BigInteger;)Ljava/math/BigInteger;"⟩
abbrev cJ22_divideAndRemainderBurnikelZiegler : ByteArray := prog_27_method_69_code
def yJ22_divideAndRemainderBurnikelZiegler : MethodName := ⟨RJ22, "divideAndRemainderBurnikelZiegler", "(Ljava/math/BigInteger;)[Ljava/math/BigInteger;"⟩
theorem q83 : (Jvm.Cond.initialized "java/math/BigInteger") ∈ lw_all := lw_g (lw_at lw_m1 25 rfl) rfl
theorem q769 : (Jvm.Cond.selects "java/math/BigInteger" ({ cls := "java/lang/Object", name := "getClass", desc := "()Ljava/lang/Class;" } : Jvm.MethodName) ({ cls := "java/lang/Object", name := "getClass", desc := "()Ljava/lang/Class;" } : Jvm.MethodName)) ∈ lw_all := lw_g (lw_at lw_m3 231 rfl) rfl
theorem q802 : (Jvm.Cond.selects "java/math/BigInteger" ({ cls := "java/lang/Object", name := "toString", desc := "()Ljava/lang/String;" } : Jvm.MethodName) ({ cls := "java/math/BigInteger", name := "toString", desc := "()Ljava/lang/String;" } : Jvm.MethodName)) ∈ lw_all := lw_g (lw_at lw_m4 24 rfl) rfl
theorem q803 : (Jvm.Cond.instanceMethod ({ cls := "java/math/BigInteger", name := "toString", desc := "()Ljava/lang/String;" } : Jvm.MethodName)) ∈ lw_all := lw_g (lw_at lw_m4 25 rfl) rfl
theorem q804 : (Jvm.Cond.code ({ cls := "java/math/BigInteger", name := "toString", desc := "()Ljava/lang/String;" } : Jvm.MethodName) prog_27_method_133_code (1 : Nat) (Option.some (Jvm.ClassFile.FieldType.object "java/lang/String"))) ∈ lw_all := lw_g (lw_at lw_m4 26 rfl) rfl
theorem q805 : (Jvm.Cond.methodLink "java/math/BigInteger" (832 : Nat) ({ cls := "java/math/BigInteger", name := "toString", desc := "(I)Ljava/lang/String;" } : Jvm.MethodName)) ∈ lw_all := lw_g (lw_at lw_m4 27 rfl) rfl
theorem q806 : (Jvm.Cond.instanceMethod ({ cls := "java/math/BigInteger", name := "toString", desc := "(I)Ljava/lang/String;" } : Jvm.MethodName)) ∈ lw_all := lw_g (lw_at lw_m4 28 rfl) rfl
theorem q807 : (Jvm.Cond.selects "java/math/BigInteger" ({ cls := "java/math/BigInteger", name := "toString", desc := "(I)Ljava/lang/String;" } : Jvm.MethodName) ({ cls := "java/math/BigInteger", name := "toString", desc := "(I)Ljava/lang/String;" } : Jvm.MethodName)) ∈ lw_all := lw_g (lw_at lw_m4 29 rfl) rfl
theorem q808 : (Jvm.Cond.code ({ cls := "java/math/BigInteger", name := "toString", desc := "(I)Ljava/lang/String;" } : Jvm.MethodName) prog_27_method_128_code (6 : Nat) (Option.some (Jvm.ClassFile.FieldType.object "java/lang/String"))) ∈ lw_all := lw_g (lw_at lw_m4 30 rfl) rfl
theorem q809 : (Jvm.Cond.stringRef "java/math/BigInteger" (755 : Nat) "0") ∈ lw_tbl := lw_at lw_m4 31 rfl
theorem q810 : (Jvm.Cond.methodLink "java/math/BigInteger" (485 : Nat) ({ cls := "java/math/BigInteger", name := "abs", desc := "()Ljava/math/BigInteger;" } : Jvm.MethodName)) ∈ lw_all := lw_g (lw_at lw_m4 32 rfl) rfl
theorem q811 : (Jvm.Cond.instanceMethod ({ cls := "java/math/BigInteger", name := "abs", desc := "()Ljava/math/BigInteger;" } : Jvm.MethodName)) ∈ lw_all := lw_g (lw_at lw_m4 33 rfl) rfl
theorem q812 : (Jvm.Cond.selects "java/math/BigInteger" ({ cls := "java/math/BigInteger", name := "abs", desc := "()Ljava/math/BigInteger;" } : Jvm.MethodName) ({ cls := "java/math/BigInteger", name := "abs", desc := "()Ljava/math/BigInteger;" } : Jvm.MethodName)) ∈ lw_all := lw_g (lw_at lw_m4 34 rfl) rfl
theorem q813 : (Jvm.Cond.code ({ cls := "java/math/BigInteger", name := "abs", desc := "()Ljava/math/BigInteger;" } : Jvm.MethodName) prog_27_method_79_code (1 : Nat) (Option.some (Jvm.ClassFile.FieldType.object "java/math/BigInteger"))) ∈ lw_all := lw_g (lw_at lw_m4 35 rfl) rfl
theorem q814 : (Jvm.Cond.methodLink "java/math/BigInteger" (394 : Nat) ({ cls := "java/math/BigInteger", name := "negate", desc := "()Ljava/math/BigInteger;" } : Jvm.MethodName)) ∈ lw_all := lw_g (lw_at lw_m4 36 rfl) rfl
theorem q815 : (Jvm.Cond.instanceMethod ({ cls := "java/math/BigInteger", name := "negate", desc := "()Ljava/math/BigInteger;" } : Jvm.MethodName)) ∈ lw_all := lw_g (lw_at lw_m4 37 rfl) rfl
theorem q816 : (Jvm.Cond.selects "java/math/BigInteger" ({ cls := "java/math/BigInteger", name := "negate", desc := "()Ljava/math/BigInteger;" } : Jvm.MethodName) ({ cls := "java/math/BigInteger", name := "negate", desc := "()Ljava/math/BigInteger;" } : Jvm.MethodName)) ∈ lw_all := lw_g (lw_at lw_m4 38 rfl) rfl
theorem q817 : (Jvm.Cond.code ({ cls := "java/math/BigInteger", name := "negate", desc := "()Ljava/math/BigInteger;" } : Jvm.MethodName) prog_27_method_80_code (1 : Nat) (Option.some (Jvm.ClassFile.FieldType.object "java/math/BigInteger"))) ∈ lw_all := lw_g (lw_at lw_m4 39 rfl) rfl
theorem q818 : (Jvm.Cond.classLink "java/math/BigInteger" (23 : Nat) "java/math/BigInteger") ∈ lw_all := lw_g (lw_at lw_m4 40 rfl) rfl
theorem q819 : (Jvm.Cond.instantiable "java/math/BigInteger" (6 : Nat)) ∈ lw_all := lw_g (lw_at lw_m4 41 rfl) rfl
theorem q820 : (Jvm.Cond.methodLink "java/math/BigInteger" (175 : Nat) ({ cls := "java/math/BigInteger", name := "<init>", desc := "([II)V" } : Jvm.MethodName)) ∈ lw_all := lw_g (lw_at lw_m4 42 rfl) rfl
theorem q821 : (Jvm.Cond.instanceMethod ({ cls := "java/math/BigInteger", name := "<init>", desc := "([II)V" } : Jvm.MethodName)) ∈ lw_all := lw_g (lw_at lw_m4 43 rfl) rfl
theorem q822 : (Jvm.Cond.code ({ cls := "java/math/BigInteger", name := "<init>", desc := "([II)V" } : Jvm.MethodName) prog_27_method_25_code (3 : Nat) (Option.none : Option Jvm.ClassFile.FieldType)) ∈ lw_all := lw_g (lw_at lw_m4 44 rfl) rfl
theorem q823 : (Jvm.Cond.methodLink "java/math/BigInteger" (3 : Nat) ({ cls := "java/lang/Number", name := "<init>", desc := "()V" } : Jvm.MethodName)) ∈ lw_all := lw_g (lw_at lw_m4 45 rfl) rfl
theorem q827 : (Jvm.Cond.constant "java/math/BigInteger" (43 : Nat) (67108864 : Int32)) ∈ lw_all := lw_g (lw_at lw_m4 49 rfl) rfl
theorem q828 : (Jvm.Cond.methodLink "java/math/BigInteger" (44 : Nat) ({ cls := "java/math/BigInteger", name := "checkRange", desc := "()V" } : Jvm.MethodName)) ∈ lw_all := lw_g (lw_at lw_m4 50 rfl) rfl
theorem q829 : (Jvm.Cond.privateMethod ({ cls := "java/math/BigInteger", name := "checkRange", desc := "()V" } : Jvm.MethodName)) ∈ lw_tbl := lw_at lw_m4 51 rfl
theorem q830 : (Jvm.Cond.instanceMethod ({ cls := "java/math/BigInteger", name := "checkRange", desc := "()V" } : Jvm.MethodName)) ∈ lw_all := lw_g (lw_at lw_m4 52 rfl) rfl
theorem q831 : (Jvm.Cond.code ({ cls := "java/math/BigInteger", name := "checkRange", desc := "()V" } : Jvm.MethodName) prog_27_method_27_code (1 : Nat) (Option.none : Option Jvm.ClassFile.FieldType)) ∈ lw_all := lw_g (lw_at lw_m4 53 rfl) rfl
theorem q832 : (Jvm.Cond.methodLink "java/math/BigInteger" (101 : Nat) ({ cls := "java/math/BigInteger", name := "reportOverflow", desc := "()V" } : Jvm.MethodName)) ∈ lw_all := lw_g (lw_at lw_m4 54 rfl) rfl
theorem q833 : (Jvm.Cond.static ({ cls := "java/math/BigInteger", name := "reportOverflow", desc := "()V" } : Jvm.MethodName)) ∈ lw_all := lw_g (lw_at lw_m4 55 rfl) rfl
theorem q834 : (Jvm.Cond.code ({ cls := "java/math/BigInteger", name := "reportOverflow", desc := "()V" } : Jvm.MethodName) prog_27_method_28_code (0 : Nat) (Option.none : Option Jvm.ClassFile.FieldType)) ∈ lw_all := lw_g (lw_at lw_m4 56 rfl) rfl
theorem q835 : (Jvm.Cond.fieldLink "java/math/BigInteger" (32 : Nat) "java/math/BigInteger" "signum" "I") ∈ lw_all := lw_g (lw_at lw_m4 57 rfl) rfl
theorem q837 : (Jvm.Cond.fieldLink "java/math/BigInteger" (28 : Nat) "java/math/BigInteger" "mag" "[I") ∈ lw_all := lw_g (lw_at lw_m4 59 rfl) rfl
theorem q838 : (Jvm.Cond.fieldLink "java/math/BigInteger" (747 : Nat) "java/math/BigInteger" "bitLengthPlusOne" "I") ∈ lw_all := lw_g (lw_at lw_m4 60 rfl) rfl
theorem q839 : (Jvm.Cond.fieldLink "java/math/BigInteger" (744 : Nat) "java/math/BigInteger" "lowestSetBitPlusTwo" "I") ∈ lw_all := lw_g (lw_at lw_m4 61 rfl) rfl
theorem q840 : (Jvm.Cond.fieldLink "java/math/BigInteger" (866 : Nat) "java/math/BigInteger" "firstNonzeroIntNumPlusTwo" "I") ∈ lw_all := lw_g (lw_at lw_m4 62 rfl) rfl
theorem q841 : (Jvm.Cond.laysFinal "java/math/BigInteger" "java/math/BigInteger" "signum" "I") ∈ lw_all := lw_g (lw_at lw_m4 63 rfl) rfl
theorem q842 : (Jvm.Cond.soleField "java/math/BigInteger" "signum") ∈ lw_all := lw_g (lw_at lw_m4 64 rfl) rfl
theorem q843 : (Jvm.Cond.laysFinal "java/math/BigInteger" "java/math/BigInteger" "mag" "[I") ∈ lw_all := lw_g (lw_at lw_m4 65 rfl) rfl
theorem q844 : (Jvm.Cond.soleField "java/math/BigInteger" "mag") ∈ lw_all := lw_g (lw_at lw_m4 66 rfl) rfl
theorem q845 : (Jvm.Cond.lays "java/math/BigInteger" "java/math/BigInteger" "bitCountPlusOne" "I") ∈ lw_all := lw_g (lw_at lw_m4 67 rfl) rfl
theorem q846 : (Jvm.Cond.soleField "java/math/BigInteger" "bitCountPlusOne") ∈ lw_all := lw_g (lw_at lw_m4 68 rfl) rfl
theorem q847 : (Jvm.Cond.lays "java/math/BigInteger" "java/math/BigInteger" "bitLengthPlusOne" "I") ∈ lw_all := lw_g (lw_at lw_m4 69 rfl) rfl
theorem q848 : (Jvm.Cond.soleField "java/math/BigInteger" "bitLengthPlusOne") ∈ lw_all := lw_g (lw_at lw_m4 70 rfl) rfl
theorem q849 : (Jvm.Cond.lays "java/math/BigInteger" "java/math/BigInteger" "lowestSetBitPlusTwo" "I") ∈ lw_all := lw_g (lw_at lw_m4 71 rfl) rfl
theorem q850 : (Jvm.Cond.soleField "java/math/BigInteger" "lowestSetBitPlusTwo") ∈ lw_all := lw_g (lw_at lw_m4 72 rfl) rfl
theorem q851 : (Jvm.Cond.lays "java/math/BigInteger" "java/math/BigInteger" "firstNonzeroIntNumPlusTwo" "I") ∈ lw_all := lw_g (lw_at lw_m4 73 rfl) rfl
theorem q852 : (Jvm.Cond.soleField "java/math/BigInteger" "firstNonzeroIntNumPlusTwo") ∈ lw_all := lw_g (lw_at lw_m4 74 rfl) rfl
theorem q853 : (Jvm.Cond.superclass "java/math/BigInteger" "java/lang/Number") ∈ lw_all := lw_g (lw_at lw_m4 75 rfl) rfl
theorem q854 : (Jvm.Cond.methodLink "java/math/BigInteger" (232 : Nat) ({ cls := "java/math/BigInteger", name := "bitLength", desc := "()I" } : Jvm.MethodName)) ∈ lw_all := lw_g (lw_at lw_m4 76 rfl) rfl
theorem q855 : (Jvm.Cond.instanceMethod ({ cls := "java/math/BigInteger", name := "bitLength", desc := "()I" } : Jvm.MethodName)) ∈ lw_all := lw_g (lw_at lw_m4 77 rfl) rfl
theorem q856 : (Jvm.Cond.selects "java/math/BigInteger" ({ cls := "java/math/BigInteger", name := "bitLength", desc := "()I" } : Jvm.MethodName) ({ cls := "java/math/BigInteger", name := "bitLength", desc := "()I" } : Jvm.MethodName)) ∈ lw_all := lw_g (lw_at lw_m4 78 rfl) rfl
theorem q857 : (Jvm.Cond.code ({ cls := "java/math/BigInteger", name := "bitLength", desc := "()I" } : Jvm.MethodName) prog_27_method_118_code (7 : Nat) (Option.some Jvm.ClassFile.FieldType.int)) ∈ lw_all := lw_g (lw_at lw_m4 79 rfl) rfl
theorem q858 : (Jvm.Cond.methodLink "java/math/BigInteger" (605 : Nat) ({ cls := "java/math/BigInteger", name := "bitLengthForInt", desc := "(I)I" } : Jvm.MethodName)) ∈ lw_all := lw_g (lw_at lw_m4 80 rfl) rfl
theorem q859 : (Jvm.Cond.static ({ cls := "java/math/BigInteger", name := "bitLengthForInt", desc := "(I)I" } : Jvm.MethodName)) ∈ lw_all := lw_g (lw_at lw_m4 81 rfl) rfl
theorem q860 : (Jvm.Cond.code ({ cls := "java/math/BigInteger", name := "bitLengthForInt", desc := "(I)I" } : Jvm.MethodName) prog_27_method_74_code (1 : Nat) (Option.some Jvm.ClassFile.FieldType.int)) ∈ lw_all := lw_g (lw_at lw_m4 82 rfl) rfl
theorem q861 : (Jvm.Cond.methodLink "java/math/BigInteger" (602 : Nat) ({ cls := "java/lang/Integer", name := "numberOfLeadingZeros", desc := "(I)I" } : Jvm.MethodName)) ∈ lw_all := lw_g (lw_at lw_m4 83 rfl) rfl
theorem q864 : (Jvm.Cond.methodLink "java/math/BigInteger" (423 : Nat) ({ cls := "java/lang/Integer", name := "bitCount", desc := "(I)I" } : Jvm.MethodName)) ∈ lw_all := lw_g (lw_at lw_m4 86 rfl) rfl
theorem q870 : (Jvm.Cond.fieldLink "java/math/BigInteger" (757 : Nat) "java/math/BigInteger" "LOG_TWO" "D") ∈ lw_all := lw_g (lw_at lw_m4 92 rfl) rfl
theorem q871 : (Jvm.Cond.laysStatic "java/math/BigInteger" "LOG_TWO" "D") ∈ lw_tbl := lw_at lw_m4 93 rfl
theorem q872 : (Jvm.Cond.fieldLink "java/math/BigInteger" (761 : Nat) "java/math/BigInteger" "logCache" "[D") ∈ lw_all := lw_g (lw_at lw_m4 94 rfl) rfl
theorem q873 : (Jvm.Cond.laysStatic "java/math/BigInteger" "logCache" "[D") ∈ lw_tbl := lw_at lw_m4 95 rfl
theorem q874 : (Jvm.Cond.methodLink "java/math/BigInteger" (765 : Nat) ({ cls := "java/lang/Math", name := "floor", desc := "(D)D" } : Jvm.MethodName)) ∈ lw_all := lw_g (lw_at lw_m4 96 rfl) rfl
theorem q898 : (Jvm.Cond.classLink "java/math/BigInteger" (242 : Nat) "java/lang/StringBuilder") ∈ lw_all := lw_g (lw_at lw_m4 120 rfl) rfl
theorem q899 : (Jvm.Cond.methodLink "java/math/BigInteger" (769 : Nat) ({ cls := "java/lang/StringBuilder", name := "<init>", desc := "(I)V" } : Jvm.MethodName)) ∈ lw_all := lw_g (lw_at lw_m4 121 rfl) rfl
theorem q902 : (Jvm.Cond.methodLink "java/math/BigInteger" (770 : Nat) ({ cls := "java/lang/StringBuilder", name := "append", desc := "(C)Ljava/lang/StringBuilder;" } : Jvm.MethodName)) ∈ lw_all := lw_g (lw_at lw_m4 124 rfl) rfl
theorem q915 : (Jvm.Cond.methodLink "java/math/BigInteger" (773 : Nat) ({ cls := "java/math/BigInteger", name := "toString", desc := "(Ljava/math/BigInteger;Ljava/lang/StringBuilder;II)V" } : Jvm.MethodName)) ∈ lw_all := lw_g (lw_at lw_m4 137 rfl) rfl
theorem q916 : (Jvm.Cond.static ({ cls := "java/math/BigInteger", name := "toString", desc := "(Ljava/math/BigInteger;Ljava/lang/StringBuilder;II)V" } : Jvm.MethodName)) ∈ lw_all := lw_g (lw_at lw_m4 138 rfl) rfl
theorem q917 : (Jvm.Cond.code ({ cls := "java/math/BigInteger", name := "toString", desc := "(Ljava/math/BigInteger;Ljava/lang/StringBuilder;II)V" } : Jvm.MethodName) prog_27_method_131_code (9 : Nat) (Option.none : Option Jvm.ClassFile.FieldType)) ∈ lw_all := lw_g (lw_at lw_m4 139 rfl) rfl
theorem q918 : (Jvm.Cond.fieldLink "java/math/BigInteger" (309 : Nat) "java/math/BigInteger" "$assertionsDisabled" "Z") ∈ lw_all := lw_g (lw_at lw_m4 140 rfl) rfl
theorem q919 : (Jvm.Cond.laysStatic "java/math/BigInteger" "$assertionsDisabled" "Z") ∈ lw_tbl := lw_at lw_m4 141 rfl
theorem q920 : (Jvm.Cond.methodLink "java/math/BigInteger" (799 : Nat) ({ cls := "java/math/BigInteger", name := "signum", desc := "()I" } : Jvm.MethodName)) ∈ lw_all := lw_g (lw_at lw_m4 142 rfl) rfl
theorem q921 : (Jvm.Cond.instanceMethod ({ cls := "java/math/BigInteger", name := "signum", desc := "()I" } : Jvm.MethodName)) ∈ lw_all := lw_g (lw_at lw_m4 143 rfl) rfl
theorem q922 : (Jvm.Cond.selects "java/math/BigInteger" ({ cls := "java/math/BigInteger", name := "signum", desc := "()I" } : Jvm.MethodName) ({ cls := "java/math/BigInteger", name := "signum", desc := "()I" } : Jvm.MethodName)) ∈ lw_all := lw_g (lw_at lw_m4 144 rfl) rfl
theorem q923 : (Jvm.Cond.code ({ cls := "java/math/BigInteger", name := "signum", desc := "()I" } : Jvm.MethodName) prog_27_method_81_code (1 : Nat) (Option.some Jvm.ClassFile.FieldType.int)) ∈ lw_all := lw_g (lw_at lw_m4 145 rfl) rfl
theorem q924 : (Jvm.Cond.methodLink "java/math/BigInteger" (801 : Nat) ({ cls := "java/math/BigInteger", name := "smallToString", desc := "(ILjava/lang/StringBuilder;I)V" } : Jvm.MethodName)) ∈ lw_all := lw_g (lw_at lw_m4 146 rfl) rfl
theorem q925 : (Jvm.Cond.privateMethod ({ cls := "java/math/BigInteger", name := "smallToString", desc := "(ILjava/lang/StringBuilder;I)V" } : Jvm.MethodName)) ∈ lw_tbl := lw_at lw_m4 147 rfl
theorem q926 : (Jvm.Cond.instanceMethod ({ cls := "java/math/BigInteger", name := "smallToString", desc := "(ILjava/lang/StringBuilder;I)V" } : Jvm.MethodName)) ∈ lw_all := lw_g (lw_at lw_m4 148 rfl) rfl
theorem q927 : (Jvm.Cond.code ({ cls := "java/math/BigInteger", name := "smallToString", desc := "(ILjava/lang/StringBuilder;I)V" } : Jvm.MethodName) prog_27_method_130_code (15 : Nat) (Option.none : Option Jvm.ClassFile.FieldType)) ∈ lw_all := lw_g (lw_at lw_m4 149 rfl) rfl
theorem q928 : (Jvm.Cond.methodLink "java/math/BigInteger" (786 : Nat) ({ cls := "java/math/BigInteger", name := "padWithZeros", desc := "(Ljava/lang/StringBuilder;I)V" } : Jvm.MethodName)) ∈ lw_all := lw_g (lw_at lw_m4 150 rfl) rfl
theorem q929 : (Jvm.Cond.static ({ cls := "java/math/BigInteger", name := "padWithZeros", desc := "(Ljava/lang/StringBuilder;I)V" } : Jvm.MethodName)) ∈ lw_all := lw_g (lw_at lw_m4 151 rfl) rfl
theorem q930 : (Jvm.Cond.code ({ cls := "java/math/BigInteger", name := "padWithZeros", desc := "(Ljava/lang/StringBuilder;I)V" } : Jvm.MethodName) prog_27_method_129_code (2 : Nat) (Option.none : Option Jvm.ClassFile.FieldType)) ∈ lw_all := lw_g (lw_at lw_m4 152 rfl) rfl
theorem q931 : (Jvm.Cond.fieldLink "java/math/BigInteger" (776 : Nat) "java/math/BigInteger" "NUM_ZEROS" "I") ∈ lw_all := lw_g (lw_at lw_m4 153 rfl) rfl
theorem q932 : (Jvm.Cond.laysStatic "java/math/BigInteger" "NUM_ZEROS" "I") ∈ lw_tbl := lw_at lw_m4 154 rfl
theorem q933 : (Jvm.Cond.fieldLink "java/math/BigInteger" (779 : Nat) "java/math/BigInteger" "ZEROS" "Ljava/lang/String;") ∈ lw_all := lw_g (lw_at lw_m4 155 rfl) rfl
theorem q934 : (Jvm.Cond.laysStatic "java/math/BigInteger" "ZEROS" "Ljava/lang/String;") ∈ lw_tbl := lw_at lw_m4 156 rfl
theorem q935 : (Jvm.Cond.methodLink "java/math/BigInteger" (247 : Nat) ({ cls := "java/lang/StringBuilder", name := "append", desc := "(Ljava/lang/String;)Ljava/lang/StringBuilder;" } : Jvm.MethodName)) ∈ lw_all := lw_g (lw_at lw_m4 157 rfl) rfl
theorem q936 : (Jvm.Cond.methodLink "java/math/BigInteger" (783 : Nat) ({ cls := "java/lang/StringBuilder", name := "append", desc := "(Ljava/lang/CharSequence;II)Ljava/lang/StringBuilder;" } : Jvm.MethodName)) ∈ lw_all := lw_g (lw_at lw_m4 158 rfl) rfl
theorem q971 : (Jvm.Cond.fieldLink "java/math/BigInteger" (790 : Nat) "java/math/BigInteger" "longRadix" "[Ljava/math/BigInteger;") ∈ lw_all := lw_g (lw_at lw_m4 193 rfl) rfl
theorem q972 : (Jvm.Cond.laysStatic "java/math/BigInteger" "longRadix" "[Ljava/math/BigInteger;") ∈ lw_tbl := lw_at lw_m4 194 rfl
theorem q973 : (Jvm.Cond.classLink "java/math/BigInteger" (541 : Nat) "java/math/MutableBigInteger") ∈ lw_all := lw_g (lw_at lw_m4 195 rfl) rfl
theorem q975 : (Jvm.Cond.methodLink "java/math/BigInteger" (543 : Nat) ({ cls := "java/math/MutableBigInteger", name := "<init>", desc := "()V" } : Jvm.MethodName)) ∈ lw_all := lw_g (lw_at lw_m4 197 rfl) rfl
theorem q991 : (Jvm.Cond.methodLink "java/math/BigInteger" (544 : Nat) ({ cls := "java/math/MutableBigInteger", name := "<init>", desc := "([I)V" } : Jvm.MethodName)) ∈ lw_all := lw_g (lw_at lw_m4 213 rfl) rfl
theorem q994 : (Jvm.Cond.methodLink "java/math/BigInteger" (640 : Nat) ({ cls := "java/math/MutableBigInteger", name := "divide", desc := "(Ljava/math/MutableBigInteger;Ljava/math/MutableBigInteger;)Ljava/math/MutableBigInteger;" } : Jvm.MethodName)) ∈ lw_all := lw_g (lw_at lw_m4 216 rfl) rfl
theorem q1176 : (Jvm.Cond.laysStatic "java/math/BigInteger" "ZERO" "Ljava/math/BigInteger;") ∈ lw_tbl := lw_at lw_m5 158 rfl
theorem q1199 : (Jvm.Cond.instanceMethod ({ cls := "java/math/BigInteger", name := "multiply", desc := "(Ljava/math/BigInteger;)Ljava/math/BigInteger;" } : Jvm.MethodName)) ∈ lw_all := lw_g (lw_at lw_m5 181 rfl) rfl
theorem q1200 : (Jvm.Cond.selects "java/math/BigInteger" ({ cls := "java/math/BigInteger", name := "multiply", desc := "(Ljava/math/BigInteger;)Ljava/math/BigInteger;" } : Jvm.MethodName) ({ cls := "java/math/BigInteger", name := "multiply", desc := "(Ljava/math/BigInteger;)Ljava/math/BigInteger;" } : Jvm.MethodName)) ∈ lw_all := lw_g (lw_at lw_m5 182 rfl) rfl
theorem q1201 : (Jvm.Cond.code ({ cls := "java/math/BigInteger", name := "multiply", desc := "(Ljava/math/BigInteger;)Ljava/math/BigInteger;" } : Jvm.MethodName) prog_27_method_40_code (2 : Nat) (Option.some (Jvm.ClassFile.FieldType.object "java/math/BigInteger"))) ∈ lw_all := lw_g (lw_at lw_m5 183 rfl) rfl
theorem q1202 : (Jvm.Cond.methodLink "java/math/BigInteger" (397 : Nat) ({ cls := "java/math/BigInteger", name := "multiply", desc := "(Ljava/math/BigInteger;ZZI)Ljava/math/BigInteger;" } : Jvm.MethodName)) ∈ lw_all := lw_g (lw_at lw_m5 184 rfl) rfl
theorem q1203 : (Jvm.Cond.privateMethod ({ cls := "java/math/BigInteger", name := "multiply", desc := "(Ljava/math/BigInteger;ZZI)Ljava/math/BigInteger;" } : Jvm.MethodName)) ∈ lw_tbl := lw_at lw_m5 185 rfl
theorem q1204 : (Jvm.Cond.instanceMethod ({ cls := "java/math/BigInteger", name := "multiply", desc := "(Ljava/math/BigInteger;ZZI)Ljava/math/BigInteger;" } : Jvm.MethodName)) ∈ lw_all := lw_g (lw_at lw_m5 186 rfl) rfl
theorem q1205 : (Jvm.Cond.code ({ cls := "java/math/BigInteger", name := "multiply", desc := "(Ljava/math/BigInteger;ZZI)Ljava/math/BigInteger;" } : Jvm.MethodName) prog_27_method_42_code (9 : Nat) (Option.some (Jvm.ClassFile.FieldType.object "java/math/BigInteger"))) ∈ lw_all := lw_g (lw_at lw_m5 187 rfl) rfl
theorem q1206 : (Jvm.Cond.fieldLink "java/math/BigInteger" (22 : Nat) "java/math/BigInteger" "ZERO" "Ljava/math/BigInteger;") ∈ lw_all := lw_g (lw_at lw_m5 188 rfl) rfl
theorem q1207 : (Jvm.Cond.methodLink "java/math/BigInteger" (400 : Nat) ({ cls := "java/math/BigInteger", name := "square", desc := "(ZZI)Ljava/math/BigInteger;" } : Jvm.MethodName)) ∈ lw_all := lw_g (lw_at lw_m5 189 rfl) rfl
theorem q1208 : (Jvm.Cond.privateMethod ({ cls := "java/math/BigInteger", name := "square", desc := "(ZZI)Ljava/math/BigInteger;" } : Jvm.MethodName)) ∈ lw_tbl := lw_at lw_m5 190 rfl
theorem q1209 : (Jvm.Cond.instanceMethod ({ cls := "java/math/BigInteger", name := "square", desc := "(ZZI)Ljava/math/BigInteger;" } : Jvm.MethodName)) ∈ lw_all := lw_g (lw_at lw_m5 191 rfl) rfl
theorem q1210 : (Jvm.Cond.code ({ cls := "java/math/BigInteger", name := "square", desc := "(ZZI)Ljava/math/BigInteger;" } : Jvm.MethodName) prog_27_method_55_code (6 : Nat) (Option.some (Jvm.ClassFile.FieldType.object "java/math/BigInteger"))) ∈ lw_all := lw_g (lw_at lw_m5 192 rfl) rfl
theorem q1211 : (Jvm.Cond.methodLink "java/math/BigInteger" (491 : Nat) ({ cls := "java/math/BigInteger", name := "squareToLen", desc := "([II[I)[I" } : Jvm.MethodName)) ∈ lw_all := lw_g (lw_at lw_m5 193 rfl) rfl
theorem q1212 : (Jvm.Cond.static ({ cls := "java/math/BigInteger", name := "squareToLen", desc := "([II[I)[I" } : Jvm.MethodName)) ∈ lw_all := lw_g (lw_at lw_m5 194 rfl) rfl
theorem q1213 : (Jvm.Cond.code ({ cls := "java/math/BigInteger", name := "squareToLen", desc := "([II[I)[I" } : Jvm.MethodName) prog_27_method_56_code (4 : Nat) (Option.some (Jvm.ClassFile.FieldType.array Jvm.ClassFile.FieldType.int))) ∈ lw_all := lw_g (lw_at lw_m5 195 rfl) rfl
theorem q1214 : (Jvm.Cond.methodLink "java/math/BigInteger" (504 : Nat) ({ cls := "java/math/BigInteger", name := "implSquareToLenChecks", desc := "([II[II)V" } : Jvm.MethodName)) ∈ lw_all := lw_g (lw_at lw_m5 196 rfl) rfl
theorem q1215 : (Jvm.Cond.static ({ cls := "java/math/BigInteger", name := "implSquareToLenChecks", desc := "([II[II)V" } : Jvm.MethodName)) ∈ lw_all := lw_g (lw_at lw_m5 197 rfl) rfl
theorem q1216 : (Jvm.Cond.code ({ cls := "java/math/BigInteger", name := "implSquareToLenChecks", desc := "([II[II)V" } : Jvm.MethodName) prog_27_method_57_code (4 : Nat) (Option.none : Option Jvm.ClassFile.FieldType)) ∈ lw_all := lw_g (lw_at lw_m5 198 rfl) rfl
theorem q1217 : (Jvm.Cond.classLink "java/math/BigInteger" (145 : Nat) "java/lang/IllegalArgumentException") ∈ lw_all := lw_g (lw_at lw_m5 199 rfl) rfl
theorem q1218 : (Jvm.Cond.methodLink "java/math/BigInteger" (244 : Nat) ({ cls := "java/lang/StringBuilder", name := "<init>", desc := "()V" } : Jvm.MethodName)) ∈ lw_all := lw_g (lw_at lw_m5 200 rfl) rfl
theorem q1219 : (Jvm.Cond.stringRef "java/math/BigInteger" (512 : Nat) "invalid input length: ") ∈ lw_tbl := lw_at lw_m5 201 rfl
theorem q1220 : (Jvm.Cond.methodLink "java/math/BigInteger" (514 : Nat) ({ cls := "java/lang/StringBuilder", name := "append", desc := "(I)Ljava/lang/StringBuilder;" } : Jvm.MethodName)) ∈ lw_all := lw_g (lw_at lw_m5 202 rfl) rfl
theorem q1221 : (Jvm.Cond.methodLink "java/math/BigInteger" (254 : Nat) ({ cls := "java/lang/StringBuilder", name := "toString", desc := "()Ljava/lang/String;" } : Jvm.MethodName)) ∈ lw_all := lw_g (lw_at lw_m5 203 rfl) rfl
theorem q1222 : (Jvm.Cond.methodLink "java/math/BigInteger" (149 : Nat) ({ cls := "java/lang/IllegalArgumentException", name := "<init>", desc := "(Ljava/lang/String;)V" } : Jvm.MethodName)) ∈ lw_all := lw_g (lw_at lw_m5 204 rfl) rfl
theorem q1223 : (Jvm.Cond.stringRef "java/math/BigInteger" (517 : Nat) "input length out of bound: ") ∈ lw_tbl := lw_at lw_m5 205 rfl
theorem q1224 : (Jvm.Cond.stringRef "java/math/BigInteger" (519 : Nat) " > ") ∈ lw_tbl := lw_at lw_m5 206 rfl
theorem q1225 : (Jvm.Cond.methodLink "java/math/BigInteger" (508 : Nat) ({ cls := "java/math/BigInteger", name := "implSquareToLen", desc := "([II[II)[I" } : Jvm.MethodName)) ∈ lw_all := lw_g (lw_at lw_m5 207 rfl) rfl
theorem q1226 : (Jvm.Cond.static ({ cls := "java/math/BigInteger", name := "implSquareToLen", desc := "([II[II)[I" } : Jvm.MethodName)) ∈ lw_all := lw_g (lw_at lw_m5 208 rfl) rfl
theorem q1227 : (Jvm.Cond.code ({ cls := "java/math/BigInteger", name := "implSquareToLen", desc := "([II[II)[I" } : Jvm.MethodName) prog_27_method_58_code (11 : Nat) (Option.some (Jvm.ClassFile.FieldType.array Jvm.ClassFile.FieldType.int))) ∈ lw_all := lw_g (lw_at lw_m5 209 rfl) rfl
theorem q1228 : (Jvm.Cond.constantLong "java/math/BigInteger" (130 : Nat) (4294967295 : Int64)) ∈ lw_all := lw_g (lw_at lw_m5 210 rfl) rfl
theorem q1229 : (Jvm.Cond.methodLink "java/math/BigInteger" (521 : Nat) ({ cls := "java/math/BigInteger", name := "mulAdd", desc := "([I[IIII)I" } : Jvm.MethodName)) ∈ lw_all := lw_g (lw_at lw_m5 211 rfl) rfl
theorem q1230 : (Jvm.Cond.static ({ cls := "java/math/BigInteger", name := "mulAdd", desc := "([I[IIII)I" } : Jvm.MethodName)) ∈ lw_all := lw_g (lw_at lw_m5 212 rfl) rfl
theorem q1231 : (Jvm.Cond.code ({ cls := "java/math/BigInteger", name := "mulAdd", desc := "([I[IIII)I" } : Jvm.MethodName) prog_27_method_94_code (5 : Nat) (Option.some Jvm.ClassFile.FieldType.int)) ∈ lw_all := lw_g (lw_at lw_m5 213 rfl) rfl
theorem q1232 : (Jvm.Cond.methodLink "java/math/BigInteger" (707 : Nat) ({ cls := "java/math/BigInteger", name := "implMulAddCheck", desc := "([I[IIII)V" } : Jvm.MethodName)) ∈ lw_all := lw_g (lw_at lw_m5 214 rfl) rfl
theorem q1233 : (Jvm.Cond.static ({ cls := "java/math/BigInteger", name := "implMulAddCheck", desc := "([I[IIII)V" } : Jvm.MethodName)) ∈ lw_all := lw_g (lw_at lw_m5 215 rfl) rfl
theorem q1234 : (Jvm.Cond.code ({ cls := "java/math/BigInteger", name := "implMulAddCheck", desc := "([I[IIII)V" } : Jvm.MethodName) prog_27_method_95_code (5 : Nat) (Option.none : Option Jvm.ClassFile.FieldType)) ∈ lw_all := lw_g (lw_at lw_m5 216 rfl) rfl
theorem q1235 : (Jvm.Cond.stringRef "java/math/BigInteger" (713 : Nat) "input length is out of bound: ") ∈ lw_tbl := lw_at lw_m5 217 rfl
theorem q1236 : (Jvm.Cond.stringRef "java/math/BigInteger" (715 : Nat) "input offset is invalid: ") ∈ lw_tbl := lw_at lw_m5 218 rfl
theorem q1237 : (Jvm.Cond.stringRef "java/math/BigInteger" (717 : Nat) "input offset is out of bound: ") ∈ lw_tbl := lw_at lw_m5 219 rfl
theorem q1238 : (Jvm.Cond.stringRef "java/math/BigInteger" (719 : Nat) "input len is out of bound: ") ∈ lw_tbl := lw_at lw_m5 220 rfl
theorem q1239 : (Jvm.Cond.methodLink "java/math/BigInteger" (710 : Nat) ({ cls := "java/math/BigInteger", name := "implMulAdd", desc := "([I[IIII)I" } : Jvm.MethodName)) ∈ lw_all := lw_g (lw_at lw_m5 221 rfl) rfl
theorem q1240 : (Jvm.Cond.static ({ cls := "java/math/BigInteger", name := "implMulAdd", desc := "([I[IIII)I" } : Jvm.MethodName)) ∈ lw_all := lw_g (lw_at lw_m5 222 rfl) rfl
theorem q1241 : (Jvm.Cond.code ({ cls := "java/math/BigInteger", name := "implMulAdd", desc := "([I[IIII)I" } : Jvm.MethodName) prog_27_method_96_code (12 : Nat) (Option.some Jvm.ClassFile.FieldType.int)) ∈ lw_all := lw_g (lw_at lw_m5 223 rfl) rfl
theorem q1242 : (Jvm.Cond.methodLink "java/math/BigInteger" (525 : Nat) ({ cls := "java/math/BigInteger", name := "addOne", desc := "([IIII)I" } : Jvm.MethodName)) ∈ lw_all := lw_g (lw_at lw_m5 224 rfl) rfl
theorem q1243 : (Jvm.Cond.static ({ cls := "java/math/BigInteger", name := "addOne", desc := "([IIII)I" } : Jvm.MethodName)) ∈ lw_all := lw_g (lw_at lw_m5 225 rfl) rfl
theorem q1244 : (Jvm.Cond.code ({ cls := "java/math/BigInteger", name := "addOne", desc := "([IIII)I" } : Jvm.MethodName) prog_27_method_97_code (6 : Nat) (Option.some Jvm.ClassFile.FieldType.int)) ∈ lw_all := lw_g (lw_at lw_m5 226 rfl) rfl
theorem q1245 : (Jvm.Cond.methodLink "java/math/BigInteger" (529 : Nat) ({ cls := "java/math/BigInteger", name := "primitiveLeftShift", desc := "([III)V" } : Jvm.MethodName)) ∈ lw_all := lw_g (lw_at lw_m5 227 rfl) rfl
theorem q1246 : (Jvm.Cond.static ({ cls := "java/math/BigInteger", name := "primitiveLeftShift", desc := "([III)V" } : Jvm.MethodName)) ∈ lw_all := lw_g (lw_at lw_m5 228 rfl) rfl
theorem q1247 : (Jvm.Cond.code ({ cls := "java/math/BigInteger", name := "primitiveLeftShift", desc := "([III)V" } : Jvm.MethodName) prog_27_method_77_code (3 : Nat) (Option.none : Option Jvm.ClassFile.FieldType)) ∈ lw_all := lw_g (lw_at lw_m5 229 rfl) rfl
theorem q1248 : (Jvm.Cond.methodLink "java/math/BigInteger" (611 : Nat) ({ cls := "java/util/Objects", name := "checkFromToIndex", desc := "(III)I" } : Jvm.MethodName)) ∈ lw_all := lw_g (lw_at lw_m5 230 rfl) rfl
theorem q1249 : (Jvm.Cond.methodLink "java/math/BigInteger" (618 : Nat) ({ cls := "java/math/BigInteger", name := "shiftLeftImplWorker", desc := "([I[IIII)V" } : Jvm.MethodName)) ∈ lw_all := lw_g (lw_at lw_m5 231 rfl) rfl
theorem q1250 : (Jvm.Cond.static ({ cls := "java/math/BigInteger", name := "shiftLeftImplWorker", desc := "([I[IIII)V" } : Jvm.MethodName)) ∈ lw_all := lw_g (lw_at lw_m5 232 rfl) rfl
theorem q1251 : (Jvm.Cond.code ({ cls := "java/math/BigInteger", name := "shiftLeftImplWorker", desc := "([I[IIII)V" } : Jvm.MethodName) prog_27_method_103_code (7 : Nat) (Option.none : Option Jvm.ClassFile.FieldType)) ∈ lw_all := lw_g (lw_at lw_m5 233 rfl) rfl
theorem q1252 : (Jvm.Cond.methodLink "java/math/BigInteger" (53 : Nat) ({ cls := "java/math/BigInteger", name := "trustedStripLeadingZeroInts", desc := "([I)[I" } : Jvm.MethodName)) ∈ lw_all := lw_g (lw_at lw_m5 234 rfl) rfl
theorem q1253 : (Jvm.Cond.static ({ cls := "java/math/BigInteger", name := "trustedStripLeadingZeroInts", desc := "([I)[I" } : Jvm.MethodName)) ∈ lw_all := lw_g (lw_at lw_m5 235 rfl) rfl
theorem q1254 : (Jvm.Cond.code ({ cls := "java/math/BigInteger", name := "trustedStripLeadingZeroInts", desc := "([I)[I" } : Jvm.MethodName) prog_27_method_140_code (3 : Nat) (Option.some (Jvm.ClassFile.FieldType.array Jvm.ClassFile.FieldType.int))) ∈ lw_all := lw_g (lw_at lw_m5 236 rfl) rfl
theorem q1255 : (Jvm.Cond.methodLink "java/math/BigInteger" (433 : Nat) ({ cls := "java/util/Arrays", name := "copyOfRange", desc := "([III)[I" } : Jvm.MethodName)) ∈ lw_all := lw_g (lw_at lw_m5 237 rfl) rfl
theorem q1256 : (Jvm.Cond.methodLink "java/math/BigInteger" (495 : Nat) ({ cls := "java/math/BigInteger", name := "squareKaratsuba", desc := "()Ljava/math/BigInteger;" } : Jvm.MethodName)) ∈ lw_all := lw_g (lw_at lw_m5 238 rfl) rfl
theorem q1257 : (Jvm.Cond.privateMethod ({ cls := "java/math/BigInteger", name := "squareKaratsuba", desc := "()Ljava/math/BigInteger;" } : Jvm.MethodName)) ∈ lw_tbl := lw_at lw_m5 239 rfl
theorem q1258 : (Jvm.Cond.instanceMethod ({ cls := "java/math/BigInteger", name := "squareKaratsuba", desc := "()Ljava/math/BigInteger;" } : Jvm.MethodName)) ∈ lw_all := lw_g (lw_at lw_m6 0 rfl) rfl
theorem q1259 : (Jvm.Cond.code ({ cls := "java/math/BigInteger", name := "squareKaratsuba", desc := "()Ljava/math/BigInteger;" } : Jvm.MethodName) prog_27_method_59_code (6 : Nat) (Option.some (Jvm.ClassFile.FieldType.object "java/math/BigInteger"))) ∈ lw_all := lw_g (lw_at lw_m6 1 rfl) rfl
theorem q1260 : (Jvm.Cond.methodLink "java/math/BigInteger" (459 : Nat) ({ cls := "java/math/BigInteger", name := "getLower", desc := "(I)Ljava/math/BigInteger;" } : Jvm.MethodName)) ∈ lw_all := lw_g (lw_at lw_m6 2 rfl) rfl
theorem q1261 : (Jvm.Cond.privateMethod ({ cls := "java/math/BigInteger", name := "getLower", desc := "(I)Ljava/math/BigInteger;" } : Jvm.MethodName)) ∈ lw_tbl := lw_at lw_m6 3 rfl
theorem q1262 : (Jvm.Cond.instanceMethod ({ cls := "java/math/BigInteger", name := "getLower", desc := "(I)Ljava/math/BigInteger;" } : Jvm.MethodName)) ∈ lw_all := lw_g (lw_at lw_m6 4 rfl) rfl
theorem q1263 : (Jvm.Cond.code ({ cls := "java/math/BigInteger", name := "getLower", desc := "(I)Ljava/math/BigInteger;" } : Jvm.MethodName) prog_27_method_52_code (4 : Nat) (Option.some (Jvm.ClassFile.FieldType.object "java/math/BigInteger"))) ∈ lw_all := lw_g (lw_at lw_m6 5 rfl) rfl
theorem q1264 : (Jvm.Cond.methodLink "java/math/BigInteger" (388 : Nat) ({ cls := "java/lang/System", name := "arraycopy", desc := "(Ljava/lang/Object;ILjava/lang/Object;II)V" } : Jvm.MethodName)) ∈ lw_all := lw_g (lw_at lw_m6 6 rfl) rfl
theorem q1265 : (Jvm.Cond.methodLink "java/math/BigInteger" (462 : Nat) ({ cls := "java/math/BigInteger", name := "getUpper", desc := "(I)Ljava/math/BigInteger;" } : Jvm.MethodName)) ∈ lw_all := lw_g (lw_at lw_m6 7 rfl) rfl
theorem q1266 : (Jvm.Cond.privateMethod ({ cls := "java/math/BigInteger", name := "getUpper", desc := "(I)Ljava/math/BigInteger;" } : Jvm.MethodName)) ∈ lw_tbl := lw_at lw_m6 8 rfl
theorem q1267 : (Jvm.Cond.instanceMethod ({ cls := "java/math/BigInteger", name := "getUpper", desc := "(I)Ljava/math/BigInteger;" } : Jvm.MethodName)) ∈ lw_all := lw_g (lw_at lw_m6 9 rfl) rfl
theorem q1268 : (Jvm.Cond.code ({ cls := "java/math/BigInteger", name := "getUpper", desc := "(I)Ljava/math/BigInteger;" } : Jvm.MethodName) prog_27_method_53_code (5 : Nat) (Option.some (Jvm.ClassFile.FieldType.object "java/math/BigInteger"))) ∈ lw_all := lw_g (lw_at lw_m6 10 rfl) rfl
theorem q1269 : (Jvm.Cond.methodLink "java/math/BigInteger" (319 : Nat) ({ cls := "java/math/BigInteger", name := "square", desc := "()Ljava/math/BigInteger;" } : Jvm.MethodName)) ∈ lw_all := lw_g (lw_at lw_m6 11 rfl) rfl
theorem q1270 : (Jvm.Cond.privateMethod ({ cls := "java/math/BigInteger", name := "square", desc := "()Ljava/math/BigInteger;" } : Jvm.MethodName)) ∈ lw_tbl := lw_at lw_m6 12 rfl
theorem q1271 : (Jvm.Cond.instanceMethod ({ cls := "java/math/BigInteger", name := "square", desc := "()Ljava/math/BigInteger;" } : Jvm.MethodName)) ∈ lw_all := lw_g (lw_at lw_m6 13 rfl) rfl
theorem q1272 : (Jvm.Cond.code ({ cls := "java/math/BigInteger", name := "square", desc := "()Ljava/math/BigInteger;" } : Jvm.MethodName) prog_27_method_54_code (1 : Nat) (Option.some (Jvm.ClassFile.FieldType.object "java/math/BigInteger"))) ∈ lw_all := lw_g (lw_at lw_m6 14 rfl) rfl
theorem q1273 : (Jvm.Cond.methodLink "java/math/BigInteger" (465 : Nat) ({ cls := "java/math/BigInteger", name := "shiftLeft", desc := "(I)Ljava/math/BigInteger;" } : Jvm.MethodName)) ∈ lw_all := lw_g (lw_at lw_m6 15 rfl) rfl
theorem q1274 : (Jvm.Cond.instanceMethod ({ cls := "java/math/BigInteger", name := "shiftLeft", desc := "(I)Ljava/math/BigInteger;" } : Jvm.MethodName)) ∈ lw_all := lw_g (lw_at lw_m6 16 rfl) rfl
theorem q1275 : (Jvm.Cond.selects "java/math/BigInteger" ({ cls := "java/math/BigInteger", name := "shiftLeft", desc := "(I)Ljava/math/BigInteger;" } : Jvm.MethodName) ({ cls := "java/math/BigInteger", name := "shiftLeft", desc := "(I)Ljava/math/BigInteger;" } : Jvm.MethodName)) ∈ lw_all := lw_g (lw_at lw_m6 17 rfl) rfl
theorem q1276 : (Jvm.Cond.code ({ cls := "java/math/BigInteger", name := "shiftLeft", desc := "(I)Ljava/math/BigInteger;" } : Jvm.MethodName) prog_27_method_101_code (2 : Nat) (Option.some (Jvm.ClassFile.FieldType.object "java/math/BigInteger"))) ∈ lw_all := lw_g (lw_at lw_m6 18 rfl) rfl
theorem q1277 : (Jvm.Cond.methodLink "java/math/BigInteger" (429 : Nat) ({ cls := "java/math/BigInteger", name := "shiftLeft", desc := "([II)[I" } : Jvm.MethodName)) ∈ lw_all := lw_g (lw_at lw_m6 19 rfl) rfl
theorem q1278 : (Jvm.Cond.static ({ cls := "java/math/BigInteger", name := "shiftLeft", desc := "([II)[I" } : Jvm.MethodName)) ∈ lw_all := lw_g (lw_at lw_m6 20 rfl) rfl
theorem q1279 : (Jvm.Cond.code ({ cls := "java/math/BigInteger", name := "shiftLeft", desc := "([II)[I" } : Jvm.MethodName) prog_27_method_102_code (10 : Nat) (Option.some (Jvm.ClassFile.FieldType.array Jvm.ClassFile.FieldType.int))) ∈ lw_all := lw_g (lw_at lw_m6 21 rfl) rfl
theorem q1280 : (Jvm.Cond.methodLink "java/math/BigInteger" (727 : Nat) ({ cls := "java/math/BigInteger", name := "shiftRightImpl", desc := "(I)Ljava/math/BigInteger;" } : Jvm.MethodName)) ∈ lw_all := lw_g (lw_at lw_m6 22 rfl) rfl
theorem q1281 : (Jvm.Cond.privateMethod ({ cls := "java/math/BigInteger", name := "shiftRightImpl", desc := "(I)Ljava/math/BigInteger;" } : Jvm.MethodName)) ∈ lw_tbl := lw_at lw_m6 23 rfl
theorem q1282 : (Jvm.Cond.instanceMethod ({ cls := "java/math/BigInteger", name := "shiftRightImpl", desc := "(I)Ljava/math/BigInteger;" } : Jvm.MethodName)) ∈ lw_all := lw_g (lw_at lw_m6 24 rfl) rfl
theorem q1283 : (Jvm.Cond.code ({ cls := "java/math/BigInteger", name := "shiftRightImpl", desc := "(I)Ljava/math/BigInteger;" } : Jvm.MethodName) prog_27_method_105_code (9 : Nat) (Option.some (Jvm.ClassFile.FieldType.object "java/math/BigInteger"))) ∈ lw_all := lw_g (lw_at lw_m6 25 rfl) rfl
theorem q1284 : (Jvm.Cond.fieldLink "java/math/BigInteger" (353 : Nat) "java/math/BigInteger" "negConst" "[Ljava/math/BigInteger;") ∈ lw_all := lw_g (lw_at lw_m6 26 rfl) rfl
theorem q1285 : (Jvm.Cond.laysStatic "java/math/BigInteger" "negConst" "[Ljava/math/BigInteger;") ∈ lw_tbl := lw_at lw_m6 27 rfl
theorem q1286 : (Jvm.Cond.methodLink "java/math/BigInteger" (690 : Nat) ({ cls := "java/util/Arrays", name := "copyOf", desc := "([II)[I" } : Jvm.MethodName)) ∈ lw_all := lw_g (lw_at lw_m6 28 rfl) rfl
theorem q1289 : (Jvm.Cond.methodLink "java/math/BigInteger" (614 : Nat) ({ cls := "java/math/BigInteger", name := "shiftRightImplWorker", desc := "([I[IIII)V" } : Jvm.MethodName)) ∈ lw_all := lw_g (lw_at lw_m6 31 rfl) rfl
theorem q1290 : (Jvm.Cond.static ({ cls := "java/math/BigInteger", name := "shiftRightImplWorker", desc := "([I[IIII)V" } : Jvm.MethodName)) ∈ lw_all := lw_g (lw_at lw_m6 32 rfl) rfl
theorem q1291 : (Jvm.Cond.code ({ cls := "java/math/BigInteger", name := "shiftRightImplWorker", desc := "([I[IIII)V" } : Jvm.MethodName) prog_27_method_106_code (8 : Nat) (Option.none : Option Jvm.ClassFile.FieldType)) ∈ lw_all := lw_g (lw_at lw_m6 33 rfl) rfl
theorem q1292 : (Jvm.Cond.methodLink "java/math/BigInteger" (730 : Nat) ({ cls := "java/math/BigInteger", name := "javaIncrement", desc := "([I)[I" } : Jvm.MethodName)) ∈ lw_all := lw_g (lw_at lw_m6 34 rfl) rfl
theorem q1293 : (Jvm.Cond.instanceMethod ({ cls := "java/math/BigInteger", name := "javaIncrement", desc := "([I)[I" } : Jvm.MethodName)) ∈ lw_all := lw_g (lw_at lw_m6 35 rfl) rfl
theorem q1294 : (Jvm.Cond.selects "java/math/BigInteger" ({ cls := "java/math/BigInteger", name := "javaIncrement", desc := "([I)[I" } : Jvm.MethodName) ({ cls := "java/math/BigInteger", name := "javaIncrement", desc := "([I)[I" } : Jvm.MethodName)) ∈ lw_all := lw_g (lw_at lw_m6 36 rfl) rfl
theorem q1295 : (Jvm.Cond.code ({ cls := "java/math/BigInteger", name := "javaIncrement", desc := "([I)[I" } : Jvm.MethodName) prog_27_method_107_code (4 : Nat) (Option.some (Jvm.ClassFile.FieldType.array Jvm.ClassFile.FieldType.int))) ∈ lw_all := lw_g (lw_at lw_m6 37 rfl) rfl
theorem q1296 : (Jvm.Cond.methodLink "java/math/BigInteger" (239 : Nat) ({ cls := "java/math/BigInteger", name := "add", desc := "(Ljava/math/BigInteger;)Ljava/math/BigInteger;" } : Jvm.MethodName)) ∈ lw_all := lw_g (lw_at lw_m6 38 rfl) rfl
theorem q1297 : (Jvm.Cond.instanceMethod ({ cls := "java/math/BigInteger", name := "add", desc := "(Ljava/math/BigInteger;)Ljava/math/BigInteger;" } : Jvm.MethodName)) ∈ lw_all := lw_g (lw_at lw_m6 39 rfl) rfl
theorem q1298 : (Jvm.Cond.selects "java/math/BigInteger" ({ cls := "java/math/BigInteger", name := "add", desc := "(Ljava/math/BigInteger;)Ljava/math/BigInteger;" } : Jvm.MethodName) ({ cls := "java/math/BigInteger", name := "add", desc := "(Ljava/math/BigInteger;)Ljava/math/BigInteger;" } : Jvm.MethodName)) ∈ lw_all := lw_g (lw_at lw_m6 40 rfl) rfl
theorem q1299 : (Jvm.Cond.code ({ cls := "java/math/BigInteger", name := "add", desc := "(Ljava/math/BigInteger;)Ljava/math/BigInteger;" } : Jvm.MethodName) prog_27_method_32_code (4 : Nat) (Option.some (Jvm.ClassFile.FieldType.object "java/math/BigInteger"))) ∈ lw_all := lw_g (lw_at lw_m6 41 rfl) rfl
theorem q1300 : (Jvm.Cond.methodLink "java/math/BigInteger" (362 : Nat) ({ cls := "java/math/BigInteger", name := "add", desc := "([I[I)[I" } : Jvm.MethodName)) ∈ lw_all := lw_g (lw_at lw_m6 42 rfl) rfl
theorem q1301 : (Jvm.Cond.static ({ cls := "java/math/BigInteger", name := "add", desc := "([I[I)[I" } : Jvm.MethodName)) ∈ lw_all := lw_g (lw_at lw_m6 43 rfl) rfl
theorem q1302 : (Jvm.Cond.code ({ cls := "java/math/BigInteger", name := "add", desc := "([I[I)[I" } : Jvm.MethodName) prog_27_method_35_code (9 : Nat) (Option.some (Jvm.ClassFile.FieldType.array Jvm.ClassFile.FieldType.int))) ∈ lw_all := lw_g (lw_at lw_m6 44 rfl) rfl
theorem q1303 : (Jvm.Cond.methodLink "java/math/BigInteger" (365 : Nat) ({ cls := "java/math/BigInteger", name := "compareMagnitude", desc := "(Ljava/math/BigInteger;)I" } : Jvm.MethodName)) ∈ lw_all := lw_g (lw_at lw_m6 45 rfl) rfl
theorem q1304 : (Jvm.Cond.instanceMethod ({ cls := "java/math/BigInteger", name := "compareMagnitude", desc := "(Ljava/math/BigInteger;)I" } : Jvm.MethodName)) ∈ lw_all := lw_g (lw_at lw_m6 46 rfl) rfl
theorem q1305 : (Jvm.Cond.selects "java/math/BigInteger" ({ cls := "java/math/BigInteger", name := "compareMagnitude", desc := "(Ljava/math/BigInteger;)I" } : Jvm.MethodName) ({ cls := "java/math/BigInteger", name := "compareMagnitude", desc := "(Ljava/math/BigInteger;)I" } : Jvm.MethodName)) ∈ lw_all := lw_g (lw_at lw_m6 47 rfl) rfl
theorem q1306 : (Jvm.Cond.code ({ cls := "java/math/BigInteger", name := "compareMagnitude", desc := "(Ljava/math/BigInteger;)I" } : Jvm.MethodName) prog_27_method_122_code (9 : Nat) (Option.some Jvm.ClassFile.FieldType.int)) ∈ lw_all := lw_g (lw_at lw_m6 48 rfl) rfl
theorem q1307 : (Jvm.Cond.methodLink "java/math/BigInteger" (368 : Nat) ({ cls := "java/math/BigInteger", name := "subtract", desc := "([I[I)[I" } : Jvm.MethodName)) ∈ lw_all := lw_g (lw_at lw_m6 49 rfl) rfl
theorem q1308 : (Jvm.Cond.static ({ cls := "java/math/BigInteger", name := "subtract", desc := "([I[I)[I" } : Jvm.MethodName)) ∈ lw_all := lw_g (lw_at lw_m6 50 rfl) rfl
theorem q1309 : (Jvm.Cond.code ({ cls := "java/math/BigInteger", name := "subtract", desc := "([I[I)[I" } : Jvm.MethodName) prog_27_method_39_code (8 : Nat) (Option.some (Jvm.ClassFile.FieldType.array Jvm.ClassFile.FieldType.int))) ∈ lw_all := lw_g (lw_at lw_m6 51 rfl) rfl
theorem q1310 : (Jvm.Cond.methodLink "java/math/BigInteger" (272 : Nat) ({ cls := "java/math/BigInteger", name := "subtract", desc := "(Ljava/math/BigInteger;)Ljava/math/BigInteger;" } : Jvm.MethodName)) ∈ lw_all := lw_g (lw_at lw_m6 52 rfl) rfl
theorem q1311 : (Jvm.Cond.instanceMethod ({ cls := "java/math/BigInteger", name := "subtract", desc := "(Ljava/math/BigInteger;)Ljava/math/BigInteger;" } : Jvm.MethodName)) ∈ lw_all := lw_g (lw_at lw_m6 53 rfl) rfl
theorem q1312 : (Jvm.Cond.selects "java/math/BigInteger" ({ cls := "java/math/BigInteger", name := "subtract", desc := "(Ljava/math/BigInteger;)Ljava/math/BigInteger;" } : Jvm.MethodName) ({ cls := "java/math/BigInteger", name := "subtract", desc := "(Ljava/math/BigInteger;)Ljava/math/BigInteger;" } : Jvm.MethodName)) ∈ lw_all := lw_g (lw_at lw_m6 54 rfl) rfl
theorem q1313 : (Jvm.Cond.code ({ cls := "java/math/BigInteger", name := "subtract", desc := "(Ljava/math/BigInteger;)Ljava/math/BigInteger;" } : Jvm.MethodName) prog_27_method_38_code (4 : Nat) (Option.some (Jvm.ClassFile.FieldType.object "java/math/BigInteger"))) ∈ lw_all := lw_g (lw_at lw_m6 55 rfl) rfl
theorem q1314 : (Jvm.Cond.methodLink "java/math/BigInteger" (403 : Nat) ({ cls := "java/math/BigInteger", name := "multiplyByInt", desc := "([III)Ljava/math/BigInteger;" } : Jvm.MethodName)) ∈ lw_all := lw_g (lw_at lw_m6 56 rfl) rfl
theorem q1315 : (Jvm.Cond.static ({ cls := "java/math/BigInteger", name := "multiplyByInt", desc := "([III)Ljava/math/BigInteger;" } : Jvm.MethodName)) ∈ lw_all := lw_g (lw_at lw_m6 57 rfl) rfl
theorem q1316 : (Jvm.Cond.code ({ cls := "java/math/BigInteger", name := "multiplyByInt", desc := "([III)Ljava/math/BigInteger;" } : Jvm.MethodName) prog_27_method_43_code (13 : Nat) (Option.some (Jvm.ClassFile.FieldType.object "java/math/BigInteger"))) ∈ lw_all := lw_g (lw_at lw_m6 58 rfl) rfl
theorem q1317 : (Jvm.Cond.methodLink "java/math/BigInteger" (426 : Nat) ({ cls := "java/lang/Integer", name := "numberOfTrailingZeros", desc := "(I)I" } : Jvm.MethodName)) ∈ lw_all := lw_g (lw_at lw_m6 59 rfl) rfl
theorem q1318 : (Jvm.Cond.methodLink "java/math/BigInteger" (407 : Nat) ({ cls := "java/math/BigInteger", name := "multiplyToLen", desc := "([II[II[I)[I" } : Jvm.MethodName)) ∈ lw_all := lw_g (lw_at lw_m6 60 rfl) rfl
theorem q1319 : (Jvm.Cond.static ({ cls := "java/math/BigInteger", name := "multiplyToLen", desc := "([II[II[I)[I" } : Jvm.MethodName)) ∈ lw_all := lw_g (lw_at lw_m6 61 rfl) rfl
theorem q1320 : (Jvm.Cond.code ({ cls := "java/math/BigInteger", name := "multiplyToLen", desc := "([II[II[I)[I" } : Jvm.MethodName) prog_27_method_45_code (5 : Nat) (Option.some (Jvm.ClassFile.FieldType.array Jvm.ClassFile.FieldType.int))) ∈ lw_all := lw_g (lw_at lw_m6 62 rfl) rfl
theorem q1321 : (Jvm.Cond.methodLink "java/math/BigInteger" (441 : Nat) ({ cls := "java/math/BigInteger", name := "multiplyToLenCheck", desc := "([II)V" } : Jvm.MethodName)) ∈ lw_all := lw_g (lw_at lw_m6 63 rfl) rfl
theorem q1322 : (Jvm.Cond.static ({ cls := "java/math/BigInteger", name := "multiplyToLenCheck", desc := "([II)V" } : Jvm.MethodName)) ∈ lw_all := lw_g (lw_at lw_m6 64 rfl) rfl
theorem q1323 : (Jvm.Cond.code ({ cls := "java/math/BigInteger", name := "multiplyToLenCheck", desc := "([II)V" } : Jvm.MethodName) prog_27_method_47_code (2 : Nat) (Option.none : Option Jvm.ClassFile.FieldType)) ∈ lw_all := lw_g (lw_at lw_m6 65 rfl) rfl
theorem q1324 : (Jvm.Cond.methodLink "java/math/BigInteger" (447 : Nat) ({ cls := "java/util/Objects", name := "requireNonNull", desc := "(Ljava/lang/Object;)Ljava/lang/Object;" } : Jvm.MethodName)) ∈ lw_all := lw_g (lw_at lw_m6 66 rfl) rfl
theorem q1325 : (Jvm.Cond.classLink "java/math/BigInteger" (451 : Nat) "java/lang/ArrayIndexOutOfBoundsException") ∈ lw_all := lw_g (lw_at lw_m6 67 rfl) rfl
theorem q1326 : (Jvm.Cond.methodLink "java/math/BigInteger" (453 : Nat) ({ cls := "java/lang/ArrayIndexOutOfBoundsException", name := "<init>", desc := "(I)V" } : Jvm.MethodName)) ∈ lw_all := lw_g (lw_at lw_m6 68 rfl) rfl
theorem q1327 : (Jvm.Cond.methodLink "java/math/BigInteger" (444 : Nat) ({ cls := "java/math/BigInteger", name := "implMultiplyToLen", desc := "([II[II[I)[I" } : Jvm.MethodName)) ∈ lw_all := lw_g (lw_at lw_m6 69 rfl) rfl
theorem q1328 : (Jvm.Cond.static ({ cls := "java/math/BigInteger", name := "implMultiplyToLen", desc := "([II[II[I)[I" } : Jvm.MethodName)) ∈ lw_all := lw_g (lw_at lw_m6 70 rfl) rfl
theorem q1329 : (Jvm.Cond.code ({ cls := "java/math/BigInteger", name := "implMultiplyToLen", desc := "([II[II[I)[I" } : Jvm.MethodName) prog_27_method_46_code (14 : Nat) (Option.some (Jvm.ClassFile.FieldType.array Jvm.ClassFile.FieldType.int))) ∈ lw_all := lw_g (lw_at lw_m6 71 rfl) rfl
theorem q1330 : (Jvm.Cond.methodLink "java/math/BigInteger" (411 : Nat) ({ cls := "java/math/BigInteger", name := "multiplyKaratsuba", desc := "(Ljava/math/BigInteger;Ljava/math/BigInteger;)Ljava/math/BigInteger;" } : Jvm.MethodName)) ∈ lw_all := lw_g (lw_at lw_m6 72 rfl) rfl
theorem q1331 : (Jvm.Cond.static ({ cls := "java/math/BigInteger", name := "multiplyKaratsuba", desc := "(Ljava/math/BigInteger;Ljava/math/BigInteger;)Ljava/math/BigInteger;" } : Jvm.MethodName)) ∈ lw_all := lw_g (lw_at lw_m6 73 rfl) rfl
theorem q1332 : (Jvm.Cond.code ({ cls := "java/math/BigInteger", name := "multiplyKaratsuba", desc := "(Ljava/math/BigInteger;Ljava/math/BigInteger;)Ljava/math/BigInteger;" } : Jvm.MethodName) prog_27_method_48_code (13 : Nat) (Option.some (Jvm.ClassFile.FieldType.object "java/math/BigInteger"))) ∈ lw_all := lw_g (lw_at lw_m6 74 rfl) rfl
theorem q1333 : (Jvm.Cond.methodLink "java/math/BigInteger" (456 : Nat) ({ cls := "java/lang/Math", name := "max", desc := "(II)I" } : Jvm.MethodName)) ∈ lw_all := lw_g (lw_at lw_m6 75 rfl) rfl
theorem q1334 : (Jvm.Cond.methodLink "java/math/BigInteger" (316 : Nat) ({ cls := "java/math/BigInteger", name := "multiply", desc := "(Ljava/math/BigInteger;)Ljava/math/BigInteger;" } : Jvm.MethodName)) ∈ lw_all := lw_g (lw_at lw_m6 76 rfl) rfl
theorem q1361 : (Jvm.Cond.methodLink "java/math/BigInteger" (548 : Nat) ({ cls := "java/math/MutableBigInteger", name := "toBigInteger", desc := "(I)Ljava/math/BigInteger;" } : Jvm.MethodName)) ∈ lw_all := lw_g (lw_at lw_m6 103 rfl) rfl
theorem q1362 : (Jvm.Cond.methodLink "java/math/BigInteger" (185 : Nat) ({ cls := "java/math/BigInteger", name := "longValue", desc := "()J" } : Jvm.MethodName)) ∈ lw_all := lw_g (lw_at lw_m6 104 rfl) rfl
theorem q1363 : (Jvm.Cond.instanceMethod ({ cls := "java/math/BigInteger", name := "longValue", desc := "()J" } : Jvm.MethodName)) ∈ lw_all := lw_g (lw_at lw_m6 105 rfl) rfl
theorem q1364 : (Jvm.Cond.selects "java/math/BigInteger" ({ cls := "java/math/BigInteger", name := "longValue", desc := "()J" } : Jvm.MethodName) ({ cls := "java/math/BigInteger", name := "longValue", desc := "()J" } : Jvm.MethodName)) ∈ lw_all := lw_g (lw_at lw_m6 106 rfl) rfl
theorem q1365 : (Jvm.Cond.code ({ cls := "java/math/BigInteger", name := "longValue", desc := "()J" } : Jvm.MethodName) prog_27_method_136_code (4 : Nat) (Option.some Jvm.ClassFile.FieldType.long)) ∈ lw_all := lw_g (lw_at lw_m6 107 rfl) rfl
theorem q1366 : (Jvm.Cond.methodLink "java/math/BigInteger" (736 : Nat) ({ cls := "java/math/BigInteger", name := "getInt", desc := "(I)I" } : Jvm.MethodName)) ∈ lw_all := lw_g (lw_at lw_m6 108 rfl) rfl
theorem q1367 : (Jvm.Cond.privateMethod ({ cls := "java/math/BigInteger", name := "getInt", desc := "(I)I" } : Jvm.MethodName)) ∈ lw_tbl := lw_at lw_m6 109 rfl
theorem q1368 : (Jvm.Cond.instanceMethod ({ cls := "java/math/BigInteger", name := "getInt", desc := "(I)I" } : Jvm.MethodName)) ∈ lw_all := lw_g (lw_at lw_m6 110 rfl) rfl
theorem q1369 : (Jvm.Cond.code ({ cls := "java/math/BigInteger", name := "getInt", desc := "(I)I" } : Jvm.MethodName) prog_27_method_148_code (3 : Nat) (Option.some Jvm.ClassFile.FieldType.int)) ∈ lw_all := lw_g (lw_at lw_m6 111 rfl) rfl
theorem q1370 : (Jvm.Cond.methodLink "java/math/BigInteger" (860 : Nat) ({ cls := "java/math/BigInteger", name := "signInt", desc := "()I" } : Jvm.MethodName)) ∈ lw_all := lw_g (lw_at lw_m6 112 rfl) rfl
theorem q1371 : (Jvm.Cond.privateMethod ({ cls := "java/math/BigInteger", name := "signInt", desc := "()I" } : Jvm.MethodName)) ∈ lw_tbl := lw_at lw_m6 113 rfl
theorem q1372 : (Jvm.Cond.instanceMethod ({ cls := "java/math/BigInteger", name := "signInt", desc := "()I" } : Jvm.MethodName)) ∈ lw_all := lw_g (lw_at lw_m6 114 rfl) rfl
theorem q1373 : (Jvm.Cond.code ({ cls := "java/math/BigInteger", name := "signInt", desc := "()I" } : Jvm.MethodName) prog_27_method_147_code (1 : Nat) (Option.some Jvm.ClassFile.FieldType.int)) ∈ lw_all := lw_g (lw_at lw_m6 115 rfl) rfl
theorem q1374 : (Jvm.Cond.methodLink "java/math/BigInteger" (863 : Nat) ({ cls := "java/math/BigInteger", name := "firstNonzeroIntNum", desc := "()I" } : Jvm.MethodName)) ∈ lw_all := lw_g (lw_at lw_m6 116 rfl) rfl
theorem q1375 : (Jvm.Cond.privateMethod ({ cls := "java/math/BigInteger", name := "firstNonzeroIntNum", desc := "()I" } : Jvm.MethodName)) ∈ lw_tbl := lw_at lw_m6 117 rfl
theorem q1376 : (Jvm.Cond.instanceMethod ({ cls := "java/math/BigInteger", name := "firstNonzeroIntNum", desc := "()I" } : Jvm.MethodName)) ∈ lw_all := lw_g (lw_at lw_m6 118 rfl) rfl
theorem q1377 : (Jvm.Cond.code ({ cls := "java/math/BigInteger", name := "firstNonzeroIntNum", desc := "()I" } : Jvm.MethodName) prog_27_method_149_code (4 : Nat) (Option.some Jvm.ClassFile.FieldType.int)) ∈ lw_all := lw_g (lw_at lw_m6 119 rfl) rfl
theorem q1378 : (Jvm.Cond.methodLink "java/math/BigInteger" (793 : Nat) ({ cls := "java/lang/Long", name := "toString", desc := "(JI)Ljava/lang/String;" } : Jvm.MethodName)) ∈ lw_all := lw_g (lw_at lw_m6 120 rfl) rfl
theorem q1398 : (Jvm.Cond.methodLink "java/math/BigInteger" (69 : Nat) ({ cls := "java/lang/String", name := "length", desc := "()I" } : Jvm.MethodName)) ∈ lw_all := lw_g (lw_at lw_m6 140 rfl) rfl
theorem q1399 : (Jvm.Cond.fieldLink "java/math/BigInteger" (796 : Nat) "java/math/BigInteger" "digitsPerLong" "[I") ∈ lw_all := lw_g (lw_at lw_m6 141 rfl) rfl
theorem q1400 : (Jvm.Cond.laysStatic "java/math/BigInteger" "digitsPerLong" "[I") ∈ lw_tbl := lw_at lw_m6 142 rfl
theorem q1492 : (Jvm.Cond.static ({ cls := "java/math/BigInteger", name := "valueOf", desc := "(J)Ljava/math/BigInteger;" } : Jvm.MethodName)) ∈ lw_all := lw_g (lw_at lw_m6 234 rfl) rfl
theorem q1493 : (Jvm.Cond.code ({ cls := "java/math/BigInteger", name := "valueOf", desc := "(J)Ljava/math/BigInteger;" } : Jvm.MethodName) prog_27_method_29_code (2 : Nat) (Option.some (Jvm.ClassFile.FieldType.object "java/math/BigInteger"))) ∈ lw_all := lw_g (lw_at lw_m6 235 rfl) rfl
theorem q1494 : (Jvm.Cond.constantLong "java/math/BigInteger" (345 : Nat) (16 : Int64)) ∈ lw_all := lw_g (lw_at lw_m6 236 rfl) rfl
theorem q1495 : (Jvm.Cond.fieldLink "java/math/BigInteger" (347 : Nat) "java/math/BigInteger" "posConst" "[Ljava/math/BigInteger;") ∈ lw_all := lw_g (lw_at lw_m6 237 rfl) rfl
theorem q1496 : (Jvm.Cond.laysStatic "java/math/BigInteger" "posConst" "[Ljava/math/BigInteger;") ∈ lw_tbl := lw_at lw_m6 238 rfl
theorem q1497 : (Jvm.Cond.constantLong "java/math/BigInteger" (351 : Nat) (-16 : Int64)) ∈ lw_all := lw_g (lw_at lw_m6 239 rfl) rfl
theorem q1498 : (Jvm.Cond.methodLink "java/math/BigInteger" (356 : Nat) ({ cls := "java/math/BigInteger", name := "<init>", desc := "(J)V" } : Jvm.MethodName)) ∈ lw_all := lw_g (lw_at lw_m7 0 rfl) rfl
theorem q1499 : (Jvm.Cond.instanceMethod ({ cls := "java/math/BigInteger", name := "<init>", desc := "(J)V" } : Jvm.MethodName)) ∈ lw_all := lw_g (lw_at lw_m7 1 rfl) rfl
theorem q1500 : (Jvm.Cond.code ({ cls := "java/math/BigInteger", name := "<init>", desc := "(J)V" } : Jvm.MethodName) prog_27_method_30_code (4 : Nat) (Option.none : Option Jvm.ClassFile.FieldType)) ∈ lw_all := lw_g (lw_at lw_m7 2 rfl) rfl
theorem q1506 : (Jvm.Cond.instanceMethod ({ cls := "java/math/BigInteger", name := "pow", desc := "(I)Ljava/math/BigInteger;" } : Jvm.MethodName)) ∈ lw_all := lw_g (lw_at lw_m7 8 rfl) rfl
theorem q1507 : (Jvm.Cond.selects "java/math/BigInteger" ({ cls := "java/math/BigInteger", name := "pow", desc := "(I)Ljava/math/BigInteger;" } : Jvm.MethodName) ({ cls := "java/math/BigInteger", name := "pow", desc := "(I)Ljava/math/BigInteger;" } : Jvm.MethodName)) ∈ lw_all := lw_g (lw_at lw_m7 9 rfl) rfl
theorem q1508 : (Jvm.Cond.code ({ cls := "java/math/BigInteger", name := "pow", desc := "(I)Ljava/math/BigInteger;" } : Jvm.MethodName) prog_27_method_70_code (16 : Nat) (Option.some (Jvm.ClassFile.FieldType.object "java/math/BigInteger"))) ∈ lw_all := lw_g (lw_at lw_m7 10 rfl) rfl
theorem q1509 : (Jvm.Cond.fieldLink "java/math/BigInteger" (258 : Nat) "java/math/BigInteger" "ONE" "Ljava/math/BigInteger;") ∈ lw_all := lw_g (lw_at lw_m7 11 rfl) rfl
theorem q1510 : (Jvm.Cond.laysStatic "java/math/BigInteger" "ONE" "Ljava/math/BigInteger;") ∈ lw_tbl := lw_at lw_m7 12 rfl
theorem q1511 : (Jvm.Cond.methodLink "java/math/BigInteger" (326 : Nat) ({ cls := "java/math/BigInteger", name := "getLowestSetBit", desc := "()I" } : Jvm.MethodName)) ∈ lw_all := lw_g (lw_at lw_m7 13 rfl) rfl
theorem q1512 : (Jvm.Cond.instanceMethod ({ cls := "java/math/BigInteger", name := "getLowestSetBit", desc := "()I" } : Jvm.MethodName)) ∈ lw_all := lw_g (lw_at lw_m7 14 rfl) rfl
theorem q1513 : (Jvm.Cond.selects "java/math/BigInteger" ({ cls := "java/math/BigInteger", name := "getLowestSetBit", desc := "()I" } : Jvm.MethodName) ({ cls := "java/math/BigInteger", name := "getLowestSetBit", desc := "()I" } : Jvm.MethodName)) ∈ lw_all := lw_g (lw_at lw_m7 15 rfl) rfl
theorem q1514 : (Jvm.Cond.code ({ cls := "java/math/BigInteger", name := "getLowestSetBit", desc := "()I" } : Jvm.MethodName) prog_27_method_117_code (4 : Nat) (Option.some Jvm.ClassFile.FieldType.int)) ∈ lw_all := lw_g (lw_at lw_m7 16 rfl) rfl
theorem q1515 : (Jvm.Cond.constantLong "java/math/BigInteger" (577 : Nat) (2147483647 : Int64)) ∈ lw_all := lw_g (lw_at lw_m7 17 rfl) rfl
theorem q1516 : (Jvm.Cond.methodLink "java/math/BigInteger" (323 : Nat) ({ cls := "java/math/BigInteger", name := "shiftRight", desc := "(I)Ljava/math/BigInteger;" } : Jvm.MethodName)) ∈ lw_all := lw_g (lw_at lw_m7 18 rfl) rfl
theorem q1517 : (Jvm.Cond.instanceMethod ({ cls := "java/math/BigInteger", name := "shiftRight", desc := "(I)Ljava/math/BigInteger;" } : Jvm.MethodName)) ∈ lw_all := lw_g (lw_at lw_m7 19 rfl) rfl
theorem q1518 : (Jvm.Cond.selects "java/math/BigInteger" ({ cls := "java/math/BigInteger", name := "shiftRight", desc := "(I)Ljava/math/BigInteger;" } : Jvm.MethodName) ({ cls := "java/math/BigInteger", name := "shiftRight", desc := "(I)Ljava/math/BigInteger;" } : Jvm.MethodName)) ∈ lw_all := lw_g (lw_at lw_m7 20 rfl) rfl
theorem q1519 : (Jvm.Cond.code ({ cls := "java/math/BigInteger", name := "shiftRight", desc := "(I)Ljava/math/BigInteger;" } : Jvm.MethodName) prog_27_method_104_code (2 : Nat) (Option.some (Jvm.ClassFile.FieldType.object "java/math/BigInteger"))) ∈ lw_all := lw_g (lw_at lw_m7 21 rfl) rfl
theorem q1520 : (Jvm.Cond.fieldLink "java/math/BigInteger" (579 : Nat) "java/math/BigInteger" "NEGATIVE_ONE" "Ljava/math/BigInteger;") ∈ lw_all := lw_g (lw_at lw_m7 22 rfl) rfl
theorem q1521 : (Jvm.Cond.laysStatic "java/math/BigInteger" "NEGATIVE_ONE" "Ljava/math/BigInteger;") ∈ lw_tbl := lw_at lw_m7 23 rfl
theorem q1522 : (Jvm.Cond.constantLong "java/math/BigInteger" (582 : Nat) (62 : Int64)) ∈ lw_all := lw_g (lw_at lw_m7 24 rfl) rfl
theorem q1523 : (Jvm.Cond.methodLink "java/math/BigInteger" (235 : Nat) ({ cls := "java/math/BigInteger", name := "valueOf", desc := "(J)Ljava/math/BigInteger;" } : Jvm.MethodName)) ∈ lw_all := lw_g (lw_at lw_m7 25 rfl) rfl
theorem q1524 : (Jvm.Cond.constantLong "java/math/BigInteger" (584 : Nat) (32 : Int64)) ∈ lw_all := lw_g (lw_at lw_m7 26 rfl) rfl
theorem q1525 : (Jvm.Cond.constantLong "java/math/BigInteger" (586 : Nat) (67108864 : Int64)) ∈ lw_all := lw_g (lw_at lw_m7 27 rfl) rfl
theorem q1628 : (Jvm.Cond.instanceMethod ({ cls := "java/math/BigInteger", name := "<init>", desc := "(Ljava/lang/String;)V" } : Jvm.MethodName)) ∈ lw_all := lw_g (lw_at lw_m7 130 rfl) rfl
theorem q1629 : (Jvm.Cond.code ({ cls := "java/math/BigInteger", name := "<init>", desc := "(Ljava/lang/String;)V" } : Jvm.MethodName) prog_27_method_11_code (2 : Nat) (Option.none : Option Jvm.ClassFile.FieldType)) ∈ lw_all := lw_g (lw_at lw_m7 131 rfl) rfl
theorem q1630 : (Jvm.Cond.methodLink "java/math/BigInteger" (132 : Nat) ({ cls := "java/math/BigInteger", name := "<init>", desc := "(Ljava/lang/String;I)V" } : Jvm.MethodName)) ∈ lw_all := lw_g (lw_at lw_m7 132 rfl) rfl
theorem q1631 : (Jvm.Cond.instanceMethod ({ cls := "java/math/BigInteger", name := "<init>", desc := "(Ljava/lang/String;I)V" } : Jvm.MethodName)) ∈ lw_all := lw_g (lw_at lw_m7 133 rfl) rfl
theorem q1632 : (Jvm.Cond.code ({ cls := "java/math/BigInteger", name := "<init>", desc := "(Ljava/lang/String;I)V" } : Jvm.MethodName) prog_27_method_7_code (17 : Nat) (Option.none : Option Jvm.ClassFile.FieldType)) ∈ lw_all := lw_g (lw_at lw_m7 134 rfl) rfl
theorem q1633 : (Jvm.Cond.classLink "java/math/BigInteger" (9 : Nat) "java/lang/NumberFormatException") ∈ lw_all := lw_g (lw_at lw_m7 135 rfl) rfl
theorem q1634 : (Jvm.Cond.stringRef "java/math/BigInteger" (77 : Nat) "Radix out of range") ∈ lw_tbl := lw_at lw_m7 136 rfl
theorem q1635 : (Jvm.Cond.methodLink "java/math/BigInteger" (13 : Nat) ({ cls := "java/lang/NumberFormatException", name := "<init>", desc := "(Ljava/lang/String;)V" } : Jvm.MethodName)) ∈ lw_all := lw_g (lw_at lw_m7 137 rfl) rfl
theorem q1636 : (Jvm.Cond.stringRef "java/math/BigInteger" (11 : Nat) "Zero length BigInteger") ∈ lw_tbl := lw_at lw_m7 138 rfl
theorem q1637 : (Jvm.Cond.methodLink "java/math/BigInteger" (79 : Nat) ({ cls := "java/lang/String", name := "lastIndexOf", desc := "(I)I" } : Jvm.MethodName)) ∈ lw_all := lw_g (lw_at lw_m7 139 rfl) rfl
theorem q1654 : (Jvm.Cond.stringRef "java/math/BigInteger" (83 : Nat) "Illegal embedded sign character") ∈ lw_tbl := lw_at lw_m7 156 rfl
theorem q1655 : (Jvm.Cond.methodLink "java/math/BigInteger" (85 : Nat) ({ cls := "java/lang/String", name := "charAt", desc := "(I)C" } : Jvm.MethodName)) ∈ lw_all := lw_g (lw_at lw_m7 157 rfl) rfl
theorem q1656 : (Jvm.Cond.methodLink "java/math/BigInteger" (89 : Nat) ({ cls := "java/lang/Character", name := "digit", desc := "(CI)I" } : Jvm.MethodName)) ∈ lw_all := lw_g (lw_at lw_m7 158 rfl) rfl
theorem q1657 : (Jvm.Cond.fieldLink "java/math/BigInteger" (93 : Nat) "java/math/BigInteger" "bitsPerDigit" "[J") ∈ lw_all := lw_g (lw_at lw_m7 159 rfl) rfl
theorem q1658 : (Jvm.Cond.laysStatic "java/math/BigInteger" "bitsPerDigit" "[J") ∈ lw_tbl := lw_at lw_m7 160 rfl
theorem q1659 : (Jvm.Cond.constantLong "java/math/BigInteger" (97 : Nat) (31 : Int64)) ∈ lw_all := lw_g (lw_at lw_m7 161 rfl) rfl
theorem q1660 : (Jvm.Cond.constantLong "java/math/BigInteger" (99 : Nat) (4294967296 : Int64)) ∈ lw_all := lw_g (lw_at lw_m7 162 rfl) rfl
theorem q1661 : (Jvm.Cond.fieldLink "java/math/BigInteger" (104 : Nat) "java/math/BigInteger" "digitsPerInt" "[I") ∈ lw_all := lw_g (lw_at lw_m7 163 rfl) rfl
theorem q1662 : (Jvm.Cond.laysStatic "java/math/BigInteger" "digitsPerInt" "[I") ∈ lw_tbl := lw_at lw_m7 164 rfl
theorem q1663 : (Jvm.Cond.methodLink "java/math/BigInteger" (107 : Nat) ({ cls := "java/lang/String", name := "substring", desc := "(II)Ljava/lang/String;" } : Jvm.MethodName)) ∈ lw_all := lw_g (lw_at lw_m7 165 rfl) rfl
theorem q1664 : (Jvm.Cond.methodLink "java/math/BigInteger" (111 : Nat) ({ cls := "java/lang/Integer", name := "parseInt", desc := "(Ljava/lang/String;I)I" } : Jvm.MethodName)) ∈ lw_all := lw_g (lw_at lw_m7 166 rfl) rfl
theorem q1670 : (Jvm.Cond.stringRef "java/math/BigInteger" (115 : Nat) "Illegal digit") ∈ lw_tbl := lw_at lw_m7 172 rfl
theorem q1671 : (Jvm.Cond.fieldLink "java/math/BigInteger" (117 : Nat) "java/math/BigInteger" "intRadix" "[I") ∈ lw_all := lw_g (lw_at lw_m7 173 rfl) rfl
theorem q1672 : (Jvm.Cond.laysStatic "java/math/BigInteger" "intRadix" "[I") ∈ lw_tbl := lw_at lw_m7 174 rfl
theorem q1673 : (Jvm.Cond.methodLink "java/math/BigInteger" (120 : Nat) ({ cls := "java/math/BigInteger", name := "destructiveMulAdd", desc := "([III)V" } : Jvm.MethodName)) ∈ lw_all := lw_g (lw_at lw_m7 175 rfl) rfl
theorem q1674 : (Jvm.Cond.static ({ cls := "java/math/BigInteger", name := "destructiveMulAdd", desc := "([III)V" } : Jvm.MethodName)) ∈ lw_all := lw_g (lw_at lw_m7 176 rfl) rfl
theorem q1675 : (Jvm.Cond.code ({ cls := "java/math/BigInteger", name := "destructiveMulAdd", desc := "([III)V" } : Jvm.MethodName) prog_27_method_10_code (15 : Nat) (Option.none : Option Jvm.ClassFile.FieldType)) ∈ lw_all := lw_g (lw_at lw_m7 177 rfl) rfl
theorem q1677 : (Jvm.Cond.instanceMethod ({ cls := "java/math/BigInteger", name := "divide", desc := "(Ljava/math/BigInteger;)Ljava/math/BigInteger;" } : Jvm.MethodName)) ∈ lw_all := lw_g (lw_at lw_m7 179 rfl) rfl
theorem q1678 : (Jvm.Cond.selects "java/math/BigInteger" ({ cls := "java/math/BigInteger", name := "divide", desc := "(Ljava/math/BigInteger;)Ljava/math/BigInteger;" } : Jvm.MethodName) ({ cls := "java/math/BigInteger", name := "divide", desc := "(Ljava/math/BigInteger;)Ljava/math/BigInteger;" } : Jvm.MethodName)) ∈ lw_all := lw_g (lw_at lw_m7 180 rfl) rfl
theorem q1679 : (Jvm.Cond.code ({ cls := "java/math/BigInteger", name := "divide", desc := "(Ljava/math/BigInteger;)Ljava/math/BigInteger;" } : Jvm.MethodName) prog_27_method_61_code (2 : Nat) (Option.some (Jvm.ClassFile.FieldType.object "java/math/BigInteger"))) ∈ lw_all := lw_g (lw_at lw_m7 181 rfl) rfl
theorem q1680 : (Jvm.Cond.methodLink "java/math/BigInteger" (535 : Nat) ({ cls := "java/math/BigInteger", name := "divideKnuth", desc := "(Ljava/math/BigInteger;)Ljava/math/BigInteger;" } : Jvm.MethodName)) ∈ lw_all := lw_g (lw_at lw_m7 182 rfl) rfl
theorem q1681 : (Jvm.Cond.privateMethod ({ cls := "java/math/BigInteger", name := "divideKnuth", desc := "(Ljava/math/BigInteger;)Ljava/math/BigInteger;" } : Jvm.MethodName)) ∈ lw_tbl := lw_at lw_m7 183 rfl
theorem q1682 : (Jvm.Cond.instanceMethod ({ cls := "java/math/BigInteger", name := "divideKnuth", desc := "(Ljava/math/BigInteger;)Ljava/math/BigInteger;" } : Jvm.MethodName)) ∈ lw_all := lw_g (lw_at lw_m7 184 rfl) rfl
theorem q1683 : (Jvm.Cond.code ({ cls := "java/math/BigInteger", name := "divideKnuth", desc := "(Ljava/math/BigInteger;)Ljava/math/BigInteger;" } : Jvm.MethodName) prog_27_method_62_code (5 : Nat) (Option.some (Jvm.ClassFile.FieldType.object "java/math/BigInteger"))) ∈ lw_all := lw_g (lw_at lw_m7 185 rfl) rfl
theorem q1684 : (Jvm.Cond.methodLink "java/math/BigInteger" (545 : Nat) ({ cls := "java/math/MutableBigInteger", name := "divideKnuth", desc := "(Ljava/math/MutableBigInteger;Ljava/math/MutableBigInteger;Z)Ljava/math/MutableBigInteger;" } : Jvm.MethodName)) ∈ lw_all := lw_g (lw_at lw_m7 186 rfl) rfl
theorem q1685 : (Jvm.Cond.methodLink "java/math/BigInteger" (538 : Nat) ({ cls := "java/math/BigInteger", name := "divideBurnikelZiegler", desc := "(Ljava/math/BigInteger;)Ljava/math/BigInteger;" } : Jvm.MethodName)) ∈ lw_all := lw_g (lw_at lw_m7 187 rfl) rfl
theorem q1686 : (Jvm.Cond.privateMethod ({ cls := "java/math/BigInteger", name := "divideBurnikelZiegler", desc := "(Ljava/math/BigInteger;)Ljava/math/BigInteger;" } : Jvm.MethodName)) ∈ lw_tbl := lw_at lw_m7 188 rfl
theorem q1687 : (Jvm.Cond.instanceMethod ({ cls := "java/math/BigInteger", name := "divideBurnikelZiegler", desc := "(Ljava/math/BigInteger;)Ljava/math/BigInteger;" } : Jvm.MethodName)) ∈ lw_all := lw_g (lw_at lw_m7 189 rfl) rfl
theorem q1688 : (Jvm.Cond.code ({ cls := "java/math/BigInteger", name := "divideBurnikelZiegler", desc := "(Ljava/math/BigInteger;)Ljava/math/BigInteger;" } : Jvm.MethodName) prog_27_method_67_code (2 : Nat) (Option.some (Jvm.ClassFile.FieldType.object "java/math/BigInteger"))) ∈ lw_all := lw_g (lw_at lw_m7 190 rfl) rfl
theorem q1689 : (Jvm.Cond.methodLink "java/math/BigInteger" (555 : Nat) ({ cls := "java/math/BigInteger", name := "divideAndRemainderBurnikelZiegler", desc := "(Ljava/math/BigInteger;)[Ljava/math/BigInteger;" } : Jvm.MethodName)) ∈ lw_all := lw_g (lw_at lw_m7 191 rfl) rfl
theorem q1690 : (Jvm.Cond.privateMethod ({ cls := "java/math/BigInteger", name := "divideAndRemainderBurnikelZiegler", desc := "(Ljava/math/BigInteger;)[Ljava/math/BigInteger;" } : Jvm.MethodName)) ∈ lw_tbl := lw_at lw_m7 192 rfl
theorem q1691 : (Jvm.Cond.instanceMethod ({ cls := "java/math/BigInteger", name := "divideAndRemainderBurnikelZiegler", desc := "(Ljava/math/BigInteger;)[Ljava/math/BigInteger;" } : Jvm.MethodName)) ∈ lw_all := lw_g (lw_at lw_m7 193 rfl) rfl
theorem q1692 : (Jvm.Cond.code ({ cls := "java/math/BigInteger", name := "divideAndRemainderBurnikelZiegler", desc := "(Ljava/math/BigInteger;)[Ljava/math/BigInteger;" } : Jvm.MethodName) prog_27_method_69_code (6 : Nat) (Option.some (Jvm.ClassFile.FieldType.array (Jvm.ClassFile.FieldType.object "java/math/BigInteger")))) ∈ lw_all := lw_g (lw_at lw_m7 194 rfl) rfl
theorem q1693 : (Jvm.Cond.methodLink "java/math/BigInteger" (567 : Nat) ({ cls := "java/math/MutableBigInteger", name := "<init>", desc := "(Ljava/math/BigInteger;)V" } : Jvm.MethodName)) ∈ lw_all := lw_g (lw_at lw_m7 195 rfl) rfl
theorem q1694 : (Jvm.Cond.methodLink "java/math/BigInteger" (570 : Nat) ({ cls := "java/math/MutableBigInteger", name := "divideAndRemainderBurnikelZiegler", desc := "(Ljava/math/MutableBigInteger;Ljava/math/MutableBigInteger;)Ljava/math/MutableBigInteger;" } : Jvm.MethodName)) ∈ lw_all := lw_g (lw_at lw_m7 196 rfl) rfl
theorem q1695 : (Jvm.Cond.methodLink "java/math/BigInteger" (572 : Nat) ({ cls := "java/math/MutableBigInteger", name := "isZero", desc := "()Z" } : Jvm.MethodName)) ∈ lw_all := lw_g (lw_at lw_m7 197 rfl) rfl
theorem q2438 : (Jvm.Cond.selects "java/math/BigInteger" ({ cls := "java/math/BigInteger", name := "toString", desc := "()Ljava/lang/String;" } : Jvm.MethodName) ({ cls := "java/math/BigInteger", name := "toString", desc := "()Ljava/lang/String;" } : Jvm.MethodName)) ∈ lw_all := lw_g (lw_at lw_m10 220 rfl) rfl
def RJ23 : String := "java/lang/StrictMath"
abbrev cJ23_floor : ByteArray := prog_20_method_17_code
def yJ23_floor : MethodName := ⟨RJ23, "floor", "(D)D"⟩
abbrev cJ23_floorOrCeil : ByteArray := prog_20_method_18_code
def yJ23_floorOrCeil : MethodName := ⟨RJ23, "floorOrCeil", "(DDDD)D"⟩
theorem q84 : (Jvm.Cond.initialized "java/lang/StrictMath") ∈ lw_all := lw_g (lw_at lw_m1 26 rfl) rfl
theorem q878 : (Jvm.Cond.static ({ cls := "java/lang/StrictMath", name := "floor", desc := "(D)D" } : Jvm.MethodName)) ∈ lw_all := lw_g (lw_at lw_m4 100 rfl) rfl
theorem q879 : (Jvm.Cond.code ({ cls := "java/lang/StrictMath", name := "floor", desc := "(D)D" } : Jvm.MethodName) prog_20_method_17_code (2 : Nat) (Option.some Jvm.ClassFile.FieldType.double)) ∈ lw_all := lw_g (lw_at lw_m4 101 rfl) rfl
theorem q880 : (Jvm.Cond.constantDouble "java/lang/StrictMath" (64 : Nat) (13830554455654793216 : UInt64)) ∈ lw_all := lw_g (lw_at lw_m4 102 rfl) rfl
theorem q881 : (Jvm.Cond.methodLink "java/lang/StrictMath" (60 : Nat) ({ cls := "java/lang/StrictMath", name := "floorOrCeil", desc := "(DDDD)D" } : Jvm.MethodName)) ∈ lw_all := lw_g (lw_at lw_m4 103 rfl) rfl
theorem q882 : (Jvm.Cond.static ({ cls := "java/lang/StrictMath", name := "floorOrCeil", desc := "(DDDD)D" } : Jvm.MethodName)) ∈ lw_all := lw_g (lw_at lw_m4 104 rfl) rfl
theorem q883 : (Jvm.Cond.code ({ cls := "java/lang/StrictMath", name := "floorOrCeil", desc := "(DDDD)D" } : Jvm.MethodName) prog_20_method_18_code (15 : Nat) (Option.some Jvm.ClassFile.FieldType.double)) ∈ lw_all := lw_g (lw_at lw_m4 105 rfl) rfl
theorem q884 : (Jvm.Cond.methodLink "java/lang/StrictMath" (66 : Nat) ({ cls := "java/lang/Math", name := "getExponent", desc := "(D)I" } : Jvm.MethodName)) ∈ lw_all := lw_g (lw_at lw_m4 106 rfl) rfl
theorem q890 : (Jvm.Cond.fieldLink "java/lang/StrictMath" (70 : Nat) "java/lang/StrictMath" "$assertionsDisabled" "Z") ∈ lw_all := lw_g (lw_at lw_m4 112 rfl) rfl
theorem q891 : (Jvm.Cond.laysStatic "java/lang/StrictMath" "$assertionsDisabled" "Z") ∈ lw_tbl := lw_at lw_m4 113 rfl
theorem q892 : (Jvm.Cond.methodLink "java/lang/StrictMath" (77 : Nat) ({ cls := "java/lang/Double", name := "doubleToRawLongBits", desc := "(D)J" } : Jvm.MethodName)) ∈ lw_all := lw_g (lw_at lw_m4 114 rfl) rfl
theorem q893 : (Jvm.Cond.constantLong "java/lang/StrictMath" (85 : Nat) (4503599627370495 : Int64)) ∈ lw_all := lw_g (lw_at lw_m4 115 rfl) rfl
theorem q894 : (Jvm.Cond.constantLong "java/lang/StrictMath" (87 : Nat) (-1 : Int64)) ∈ lw_all := lw_g (lw_at lw_m4 116 rfl) rfl
theorem q895 : (Jvm.Cond.methodLink "java/lang/StrictMath" (89 : Nat) ({ cls := "java/lang/Double", name := "longBitsToDouble", desc := "(J)D" } : Jvm.MethodName)) ∈ lw_all := lw_g (lw_at lw_m4 117 rfl) rfl
def RJ24 : String := "java/math/MutableBigInteger"
def TJ24 : u_T := fun k => match k with
  | 0 => ("java/math/MutableBigInteger", "value", "[I", false)
  | 1 => ("java/math/MutableBigInteger", "intLen", "I", false)
  | _ => ("java/math/MutableBigInteger", "offset", "I", false)
def tyJ24 : Nat → FieldType := fun k => match k with
  | 0 => .array .int
  | 1 => .int
  | _ => .int
abbrev wsJ240 : List Cond := u_ws RJ24 TJ24 3
theorem nmJ24 : ∀ a, a < 3 → ∀ b, b < 3 → a ≠ b → (TJ24 a).2.1 ≠ (TJ24 b).2.1 := by decide +kernel
theorem tyJ24_ok : ∀ k, k < 3 → parseFieldDescriptor (TJ24 k).2.2.1 = some (tyJ24 k) := by decide +kernel
abbrev cJ24_init : ByteArray := prog_28_method_1_code
def yJ24_init : MethodName := ⟨RJ24, "<init>", "()V"⟩
abbrev cJ24_init_2 : ByteArray := prog_28_method_3_code
def yJ24_init_2 : MethodName := ⟨RJ24, "<init>", "([I)V"⟩
abbrev cJ24_divide : ByteArray := prog_28_method_54_code
def yJ24_divide : MethodName := ⟨RJ24, "divide", "(Ljava/math/MutableBigInteger;Ljava/math/MutableBigInteger;)Ljava/math/MutableBigInteger;"⟩
abbrev cJ24_divide_2 : ByteArray := prog_28_method_55_code
def yJ24_divide_2 : MethodName := ⟨RJ24, "divide", "(Ljava/math/MutableBigInteger;Ljava/math/MutableBigInteger;Z)Ljava/math/MutableBigInteger;"⟩
abbrev cJ24_divideKnuth : ByteArray := prog_28_method_57_code
def yJ24_divideKnuth : MethodName := ⟨RJ24, "divideKnuth", "(Ljava/math/MutableBigInteger;Ljava/math/MutableBigInteger;Z)Ljava/math/MutableBigInteger;"⟩
abbrev cJ24_compare : ByteArray := prog_28_method_15_code
def yJ24_compare : MethodName := ⟨RJ24, "compare", "(Ljava/math/MutableBigInteger;)I"⟩
abbrev cJ24_init_3 : ByteArray := prog_28_method_5_code
def yJ24_init_3 : MethodName := ⟨RJ24, "<init>", "(Ljava/math/MutableBigInteger;)V"⟩
abbrev cJ24_clear : ByteArray := prog_28_method_13_code
def yJ24_clear : MethodName := ⟨RJ24, "clear", "()V"⟩
abbrev cJ24_divideOneWord : ByteArray := prog_28_method_53_code
def yJ24_divideOneWord : MethodName := ⟨RJ24, "divideOneWord", "(ILjava/math/MutableBigInteger;)I"⟩
abbrev cJ24_divWord : ByteArray := prog_28_method_70_code
def yJ24_divWord : MethodName := ⟨RJ24, "divWord", "(JI)J"⟩
abbrev cJ24_normalize : ByteArray := prog_28_method_21_code
def yJ24_normalize : MethodName := ⟨RJ24, "normalize", "()V"⟩
abbrev cJ24_init_4 : ByteArray := prog_28_method_2_code
def yJ24_init_4 : MethodName := ⟨RJ24, "<init>", "(I)V"⟩
abbrev cJ24_getLowestSetBit : ByteArray := prog_28_method_18_code
def yJ24_getLowestSetBit : MethodName := ⟨RJ24, "getLowestSetBit", "()I"⟩
abbrev cJ24_rightShift : ByteArray := prog_28_method_35_code
def yJ24_rightShift : MethodName := ⟨RJ24, "rightShift", "(I)V"⟩
abbrev cJ24_primitiveLeftShift : ByteArray := prog_28_method_42_code
def yJ24_primitiveLeftShift : MethodName := ⟨RJ24, "primitiveLeftShift", "(I)V"⟩
abbrev cJ24_primitiveRightShift : ByteArray := prog_28_method_41_code
def yJ24_primitiveRightShift : MethodName := ⟨RJ24, "primitiveRightShift", "(I)V"⟩
abbrev cJ24_divideKnuth_2 : ByteArray := prog_28_method_56_code
def yJ24_divideKnuth_2 : MethodName := ⟨RJ24, "divideKnuth", "(Ljava/math/MutableBigInteger;Ljava/math/MutableBigInteger;)Ljava/math/MutableBigInteger;"⟩
abbrev cJ24_leftShift : ByteArray := prog_28_method_37_code
def yJ24_leftShift : MethodName := ⟨RJ24, "leftShift", "(I)V"⟩
abbrev cJ24_setValue : ByteArray := prog_28_method_25_code
def yJ24_setValue : MethodName := ⟨RJ24, "setValue", "([II)V"⟩
abbrev cJ24_divideMagnitude : ByteArray := prog_28_method_65_code
def yJ24_divideMagnitude : MethodName := ⟨RJ24, "divideMagnitude", "(Ljava/math/MutableBigInteger;Ljava/math/MutableBigInteger;Z)Ljava/math/MutableBigInteger;"⟩
abbrev cJ24_copyAndShift : ByteArray := prog_28_method_64_code
def yJ24_copyAndShift : MethodName := ⟨RJ24, "copyAndShift", "([III[III)V"⟩
abbrev cJ24_unsignedLongCompare : ByteArray := prog_28_method_69_code
def yJ24_unsignedLongCompare : MethodName := ⟨RJ24, "unsignedLongCompare", "(JJ)Z"⟩
abbrev cJ24_mulsub : ByteArray := prog_28_method_39_code
def yJ24_mulsub : MethodName := ⟨RJ24, "mulsub", "([I[IIII)I"⟩
abbrev cJ24_divadd : ByteArray := prog_28_method_38_code
def yJ24_divadd : MethodName := ⟨RJ24, "divadd", "([I[II)I"⟩
abbrev cJ24_mulsubBorrow : ByteArray := prog_28_method_40_code
def yJ24_mulsubBorrow : MethodName := ⟨RJ24, "mulsubBorrow", "([I[IIII)I"⟩
abbrev cJ24_divideAndRemainderBurnikelZiegler : ByteArray := prog_28_method_58_code
def yJ24_divideAndRemainderBurnikelZiegler : MethodName := ⟨RJ24, "divideAndRemainderBurnikelZiegler", "(Ljava/math/MutableBigInteger;Ljava/math/MutableBigInteger;)Ljava/math/MutableBigInteger;"⟩
abbrev cJ24_bitLength : ByteArray := prog_28_method_62_code
def yJ24_bitLength : MethodName := ⟨RJ24, "bitLength", "()J"⟩
abbrev cJ24_safeLeftShift : ByteArray := prog_28_method_36_code
def yJ24_safeLeftShift : MethodName := ⟨RJ24, "safeLeftShift", "(I)V"⟩
abbrev cJ24_getBlock : ByteArray := prog_28_method_61_code
def yJ24_getBlock : MethodName := ⟨RJ24, "getBlock", "(III)Ljava/math/MutableBigInteger;"⟩
abbrev cJ24_addDisjoint : ByteArray := prog_28_method_47_code
def yJ24_addDisjoint : MethodName := ⟨RJ24, "addDisjoint", "(Ljava/math/MutableBigInteger;I)V"⟩
abbrev cJ24_isZero : ByteArray := prog_28_method_29_code
def yJ24_isZero : MethodName := ⟨RJ24, "isZero", "()Z"⟩
abbrev cJ24_divide2n1n : ByteArray := prog_28_method_59_code
def yJ24_divide2n1n : MethodName := ⟨RJ24, "divide2n1n", "(Ljava/math/MutableBigInteger;Ljava/math/MutableBigInteger;)Ljava/math/MutableBigInteger;"⟩
abbrev cJ24_safeRightShift : ByteArray := prog_28_method_34_code
def yJ24_safeRightShift : MethodName := ⟨RJ24, "safeRightShift", "(I)V"⟩
abbrev cJ24_reset : ByteArray := prog_28_method_14_code
def yJ24_reset : MethodName := ⟨RJ24, "reset", "()V"⟩
abbrev cJ24_keepLower : ByteArray := prog_28_method_44_code
def yJ24_keepLower : MethodName := ⟨RJ24, "keepLower", "(I)V"⟩
abbrev cJ24_divide3n2n : ByteArray := prog_28_method_60_code
def yJ24_divide3n2n : MethodName := ⟨RJ24, "divide3n2n", "(Ljava/math/MutableBigInteger;Ljava/math/MutableBigInteger;)Ljava/math/MutableBigInteger;"⟩
abbrev cJ24_getLower : ByteArray := prog_28_method_43_code
def yJ24_getLower : MethodName := ⟨RJ24, "getLower", "(I)Ljava/math/BigInteger;"⟩
abbrev cJ24_toBigInteger : ByteArray := prog_28_method_9_code
def yJ24_toBigInteger : MethodName := ⟨RJ24, "toBigInteger", "(I)Ljava/math/BigInteger;"⟩
abbrev cJ24_getMagnitudeArray : ByteArray := prog_28_method_7_code
def yJ24_getMagnitudeArray : MethodName := ⟨RJ24, "getMagnitudeArray", "()[I"⟩
abbrev cJ24_compareShifted : ByteArray := prog_28_method_16_code
def yJ24_compareShifted : MethodName := ⟨RJ24, "compareShifted", "(Ljava/math/MutableBigInteger;I)I"⟩
abbrev cJ24_toBigInteger_2 : ByteArray := prog_28_method_10_code
def yJ24_toBigInteger_2 : MethodName := ⟨RJ24, "toBigInteger", "()Ljava/math/BigInteger;"⟩
abbrev cJ24_init_5 : ByteArray := prog_28_method_4_code
def yJ24_init_5 : MethodName := ⟨RJ24, "<init>", "(Ljava/math/BigInteger;)V"⟩
abbrev cJ24_ones : ByteArray := prog_28_method_6_code
def yJ24_ones : MethodName := ⟨RJ24, "ones", "(I)V"⟩
abbrev cJ24_add : ByteArray := prog_28_method_45_code
def yJ24_add : MethodName := ⟨RJ24, "add", "(Ljava/math/MutableBigInteger;)V"⟩
abbrev cJ24_subtract : ByteArray := prog_28_method_49_code
def yJ24_subtract : MethodName := ⟨RJ24, "subtract", "(Ljava/math/MutableBigInteger;)I"⟩
abbrev cJ24_addLower : ByteArray := prog_28_method_48_code
def yJ24_addLower : MethodName := ⟨RJ24, "addLower", "(Ljava/math/MutableBigInteger;I)V"⟩
abbrev cJ24_addShifted : ByteArray := prog_28_method_46_code
def yJ24_addShifted : MethodName := ⟨RJ24, "addShifted", "(Ljava/math/MutableBigInteger;I)V"⟩
abbrev cJ24_toString : ByteArray := prog_28_method_33_code
def yJ24_toString : MethodName := ⟨RJ24, "toString", "()Ljava/lang/String;"⟩
theorem q85 : (Jvm.Cond.initialized "java/math/MutableBigInteger") ∈ lw_all := lw_g (lw_at lw_m1 27 rfl) rfl
theorem q770 : (Jvm.Cond.selects "java/math/MutableBigInteger" ({ cls := "java/lang/Object", name := "getClass", desc := "()Ljava/lang/Class;" } : Jvm.MethodName) ({ cls := "java/lang/Object", name := "getClass", desc := "()Ljava/lang/Class;" } : Jvm.MethodName)) ∈ lw_all := lw_g (lw_at lw_m3 232 rfl) rfl
theorem q836 : (Jvm.Cond.fieldLink "java/math/MutableBigInteger" (24 : Nat) "java/math/BigInteger" "mag" "[I") ∈ lw_all := lw_g (lw_at lw_m4 58 rfl) rfl
theorem q974 : (Jvm.Cond.instantiable "java/math/MutableBigInteger" (3 : Nat)) ∈ lw_all := lw_g (lw_at lw_m4 196 rfl) rfl
theorem q976 : (Jvm.Cond.instanceMethod ({ cls := "java/math/MutableBigInteger", name := "<init>", desc := "()V" } : Jvm.MethodName)) ∈ lw_all := lw_g (lw_at lw_m4 198 rfl) rfl
theorem q977 : (Jvm.Cond.code ({ cls := "java/math/MutableBigInteger", name := "<init>", desc := "()V" } : Jvm.MethodName) prog_28_method_1_code (1 : Nat) (Option.none : Option Jvm.ClassFile.FieldType)) ∈ lw_all := lw_g (lw_at lw_m4 199 rfl) rfl
theorem q978 : (Jvm.Cond.methodLink "java/math/MutableBigInteger" (5 : Nat) ({ cls := "java/lang/Object", name := "<init>", desc := "()V" } : Jvm.MethodName)) ∈ lw_all := lw_g (lw_at lw_m4 200 rfl) rfl
theorem q979 : (Jvm.Cond.fieldLink "java/math/MutableBigInteger" (17 : Nat) "java/math/MutableBigInteger" "value" "[I") ∈ lw_all := lw_g (lw_at lw_m4 201 rfl) rfl
theorem q980 : (Jvm.Cond.fieldLink "java/math/MutableBigInteger" (21 : Nat) "java/math/MutableBigInteger" "intLen" "I") ∈ lw_all := lw_g (lw_at lw_m4 202 rfl) rfl
theorem q981 : (Jvm.Cond.fieldLink "java/math/MutableBigInteger" (11 : Nat) "java/math/MutableBigInteger" "offset" "I") ∈ lw_all := lw_g (lw_at lw_m4 203 rfl) rfl
theorem q982 : (Jvm.Cond.lays "java/math/MutableBigInteger" "java/math/MutableBigInteger" "value" "[I") ∈ lw_all := lw_g (lw_at lw_m4 204 rfl) rfl
theorem q983 : (Jvm.Cond.soleField "java/math/MutableBigInteger" "value") ∈ lw_all := lw_g (lw_at lw_m4 205 rfl) rfl
theorem q984 : (Jvm.Cond.lays "java/math/MutableBigInteger" "java/math/MutableBigInteger" "intLen" "I") ∈ lw_all := lw_g (lw_at lw_m4 206 rfl) rfl
theorem q985 : (Jvm.Cond.soleField "java/math/MutableBigInteger" "intLen") ∈ lw_all := lw_g (lw_at lw_m4 207 rfl) rfl
theorem q986 : (Jvm.Cond.lays "java/math/MutableBigInteger" "java/math/MutableBigInteger" "offset" "I") ∈ lw_all := lw_g (lw_at lw_m4 208 rfl) rfl
theorem q987 : (Jvm.Cond.soleField "java/math/MutableBigInteger" "offset") ∈ lw_all := lw_g (lw_at lw_m4 209 rfl) rfl
theorem q988 : (Jvm.Cond.superclass "java/math/MutableBigInteger" "java/lang/Object") ∈ lw_all := lw_g (lw_at lw_m4 210 rfl) rfl
theorem q992 : (Jvm.Cond.instanceMethod ({ cls := "java/math/MutableBigInteger", name := "<init>", desc := "([I)V" } : Jvm.MethodName)) ∈ lw_all := lw_g (lw_at lw_m4 214 rfl) rfl
theorem q993 : (Jvm.Cond.code ({ cls := "java/math/MutableBigInteger", name := "<init>", desc := "([I)V" } : Jvm.MethodName) prog_28_method_3_code (2 : Nat) (Option.none : Option Jvm.ClassFile.FieldType)) ∈ lw_all := lw_g (lw_at lw_m4 215 rfl) rfl
theorem q995 : (Jvm.Cond.instanceMethod ({ cls := "java/math/MutableBigInteger", name := "divide", desc := "(Ljava/math/MutableBigInteger;Ljava/math/MutableBigInteger;)Ljava/math/MutableBigInteger;" } : Jvm.MethodName)) ∈ lw_all := lw_g (lw_at lw_m4 217 rfl) rfl
theorem q996 : (Jvm.Cond.selects "java/math/MutableBigInteger" ({ cls := "java/math/MutableBigInteger", name := "divide", desc := "(Ljava/math/MutableBigInteger;Ljava/math/MutableBigInteger;)Ljava/math/MutableBigInteger;" } : Jvm.MethodName) ({ cls := "java/math/MutableBigInteger", name := "divide", desc := "(Ljava/math/MutableBigInteger;Ljava/math/MutableBigInteger;)Ljava/math/MutableBigInteger;" } : Jvm.MethodName)) ∈ lw_all := lw_g (lw_at lw_m4 218 rfl) rfl
theorem q997 : (Jvm.Cond.code ({ cls := "java/math/MutableBigInteger", name := "divide", desc := "(Ljava/math/MutableBigInteger;Ljava/math/MutableBigInteger;)Ljava/math/MutableBigInteger;" } : Jvm.MethodName) prog_28_method_54_code (3 : Nat) (Option.some (Jvm.ClassFile.FieldType.object "java/math/MutableBigInteger"))) ∈ lw_all := lw_g (lw_at lw_m4 219 rfl) rfl
theorem q998 : (Jvm.Cond.methodLink "java/math/MutableBigInteger" (159 : Nat) ({ cls := "java/math/MutableBigInteger", name := "divide", desc := "(Ljava/math/MutableBigInteger;Ljava/math/MutableBigInteger;Z)Ljava/math/MutableBigInteger;" } : Jvm.MethodName)) ∈ lw_all := lw_g (lw_at lw_m4 220 rfl) rfl
theorem q999 : (Jvm.Cond.instanceMethod ({ cls := "java/math/MutableBigInteger", name := "divide", desc := "(Ljava/math/MutableBigInteger;Ljava/math/MutableBigInteger;Z)Ljava/math/MutableBigInteger;" } : Jvm.MethodName)) ∈ lw_all := lw_g (lw_at lw_m4 221 rfl) rfl
theorem q1000 : (Jvm.Cond.selects "java/math/MutableBigInteger" ({ cls := "java/math/MutableBigInteger", name := "divide", desc := "(Ljava/math/MutableBigInteger;Ljava/math/MutableBigInteger;Z)Ljava/math/MutableBigInteger;" } : Jvm.MethodName) ({ cls := "java/math/MutableBigInteger", name := "divide", desc := "(Ljava/math/MutableBigInteger;Ljava/math/MutableBigInteger;Z)Ljava/math/MutableBigInteger;" } : Jvm.MethodName)) ∈ lw_all := lw_g (lw_at lw_m4 222 rfl) rfl
theorem q1001 : (Jvm.Cond.code ({ cls := "java/math/MutableBigInteger", name := "divide", desc := "(Ljava/math/MutableBigInteger;Ljava/math/MutableBigInteger;Z)Ljava/math/MutableBigInteger;" } : Jvm.MethodName) prog_28_method_55_code (4 : Nat) (Option.some (Jvm.ClassFile.FieldType.object "java/math/MutableBigInteger"))) ∈ lw_all := lw_g (lw_at lw_m4 223 rfl) rfl
theorem q1002 : (Jvm.Cond.methodLink "java/math/MutableBigInteger" (163 : Nat) ({ cls := "java/math/MutableBigInteger", name := "divideKnuth", desc := "(Ljava/math/MutableBigInteger;Ljava/math/MutableBigInteger;Z)Ljava/math/MutableBigInteger;" } : Jvm.MethodName)) ∈ lw_all := lw_g (lw_at lw_m4 224 rfl) rfl
theorem q1003 : (Jvm.Cond.instanceMethod ({ cls := "java/math/MutableBigInteger", name := "divideKnuth", desc := "(Ljava/math/MutableBigInteger;Ljava/math/MutableBigInteger;Z)Ljava/math/MutableBigInteger;" } : Jvm.MethodName)) ∈ lw_all := lw_g (lw_at lw_m4 225 rfl) rfl
theorem q1004 : (Jvm.Cond.selects "java/math/MutableBigInteger" ({ cls := "java/math/MutableBigInteger", name := "divideKnuth", desc := "(Ljava/math/MutableBigInteger;Ljava/math/MutableBigInteger;Z)Ljava/math/MutableBigInteger;" } : Jvm.MethodName) ({ cls := "java/math/MutableBigInteger", name := "divideKnuth", desc := "(Ljava/math/MutableBigInteger;Ljava/math/MutableBigInteger;Z)Ljava/math/MutableBigInteger;" } : Jvm.MethodName)) ∈ lw_all := lw_g (lw_at lw_m4 226 rfl) rfl
theorem q1005 : (Jvm.Cond.code ({ cls := "java/math/MutableBigInteger", name := "divideKnuth", desc := "(Ljava/math/MutableBigInteger;Ljava/math/MutableBigInteger;Z)Ljava/math/MutableBigInteger;" } : Jvm.MethodName) prog_28_method_57_code (8 : Nat) (Option.some (Jvm.ClassFile.FieldType.object "java/math/MutableBigInteger"))) ∈ lw_all := lw_g (lw_at lw_m4 227 rfl) rfl
theorem q1006 : (Jvm.Cond.classLink "java/math/MutableBigInteger" (12 : Nat) "java/math/MutableBigInteger") ∈ lw_all := lw_g (lw_at lw_m4 228 rfl) rfl
theorem q1007 : (Jvm.Cond.methodLink "java/math/MutableBigInteger" (177 : Nat) ({ cls := "java/math/MutableBigInteger", name := "<init>", desc := "()V" } : Jvm.MethodName)) ∈ lw_all := lw_g (lw_at lw_m4 229 rfl) rfl
theorem q1008 : (Jvm.Cond.methodLink "java/math/MutableBigInteger" (142 : Nat) ({ cls := "java/math/MutableBigInteger", name := "compare", desc := "(Ljava/math/MutableBigInteger;)I" } : Jvm.MethodName)) ∈ lw_all := lw_g (lw_at lw_m4 230 rfl) rfl
theorem q1009 : (Jvm.Cond.instanceMethod ({ cls := "java/math/MutableBigInteger", name := "compare", desc := "(Ljava/math/MutableBigInteger;)I" } : Jvm.MethodName)) ∈ lw_all := lw_g (lw_at lw_m4 231 rfl) rfl
theorem q1010 : (Jvm.Cond.selects "java/math/MutableBigInteger" ({ cls := "java/math/MutableBigInteger", name := "compare", desc := "(Ljava/math/MutableBigInteger;)I" } : Jvm.MethodName) ({ cls := "java/math/MutableBigInteger", name := "compare", desc := "(Ljava/math/MutableBigInteger;)I" } : Jvm.MethodName)) ∈ lw_all := lw_g (lw_at lw_m4 232 rfl) rfl
theorem q1011 : (Jvm.Cond.code ({ cls := "java/math/MutableBigInteger", name := "compare", desc := "(Ljava/math/MutableBigInteger;)I" } : Jvm.MethodName) prog_28_method_15_code (8 : Nat) (Option.some Jvm.ClassFile.FieldType.int)) ∈ lw_all := lw_g (lw_at lw_m4 233 rfl) rfl
theorem q1012 : (Jvm.Cond.constant "java/math/MutableBigInteger" (88 : Nat) (-2147483648 : Int32)) ∈ lw_all := lw_g (lw_at lw_m4 234 rfl) rfl
theorem q1013 : (Jvm.Cond.methodLink "java/math/MutableBigInteger" (136 : Nat) ({ cls := "java/math/MutableBigInteger", name := "<init>", desc := "(Ljava/math/MutableBigInteger;)V" } : Jvm.MethodName)) ∈ lw_all := lw_g (lw_at lw_m4 235 rfl) rfl
theorem q1014 : (Jvm.Cond.instanceMethod ({ cls := "java/math/MutableBigInteger", name := "<init>", desc := "(Ljava/math/MutableBigInteger;)V" } : Jvm.MethodName)) ∈ lw_all := lw_g (lw_at lw_m4 236 rfl) rfl
theorem q1015 : (Jvm.Cond.code ({ cls := "java/math/MutableBigInteger", name := "<init>", desc := "(Ljava/math/MutableBigInteger;)V" } : Jvm.MethodName) prog_28_method_5_code (2 : Nat) (Option.none : Option Jvm.ClassFile.FieldType)) ∈ lw_all := lw_g (lw_at lw_m4 237 rfl) rfl
theorem q1016 : (Jvm.Cond.methodLink "java/math/MutableBigInteger" (33 : Nat) ({ cls := "java/util/Arrays", name := "copyOfRange", desc := "([III)[I" } : Jvm.MethodName)) ∈ lw_all := lw_g (lw_at lw_m4 238 rfl) rfl
theorem q1027 : (Jvm.Cond.methodLink "java/math/MutableBigInteger" (149 : Nat) ({ cls := "java/math/MutableBigInteger", name := "clear", desc := "()V" } : Jvm.MethodName)) ∈ lw_all := lw_g (lw_at lw_m5 9 rfl) rfl
theorem q1028 : (Jvm.Cond.instanceMethod ({ cls := "java/math/MutableBigInteger", name := "clear", desc := "()V" } : Jvm.MethodName)) ∈ lw_all := lw_g (lw_at lw_m5 10 rfl) rfl
theorem q1029 : (Jvm.Cond.selects "java/math/MutableBigInteger" ({ cls := "java/math/MutableBigInteger", name := "clear", desc := "()V" } : Jvm.MethodName) ({ cls := "java/math/MutableBigInteger", name := "clear", desc := "()V" } : Jvm.MethodName)) ∈ lw_all := lw_g (lw_at lw_m5 11 rfl) rfl
theorem q1030 : (Jvm.Cond.code ({ cls := "java/math/MutableBigInteger", name := "clear", desc := "()V" } : Jvm.MethodName) prog_28_method_13_code (3 : Nat) (Option.none : Option Jvm.ClassFile.FieldType)) ∈ lw_all := lw_g (lw_at lw_m5 12 rfl) rfl
theorem q1031 : (Jvm.Cond.methodLink "java/math/MutableBigInteger" (178 : Nat) ({ cls := "java/math/MutableBigInteger", name := "divideOneWord", desc := "(ILjava/math/MutableBigInteger;)I" } : Jvm.MethodName)) ∈ lw_all := lw_g (lw_at lw_m5 13 rfl) rfl
theorem q1032 : (Jvm.Cond.instanceMethod ({ cls := "java/math/MutableBigInteger", name := "divideOneWord", desc := "(ILjava/math/MutableBigInteger;)I" } : Jvm.MethodName)) ∈ lw_all := lw_g (lw_at lw_m5 14 rfl) rfl
theorem q1033 : (Jvm.Cond.selects "java/math/MutableBigInteger" ({ cls := "java/math/MutableBigInteger", name := "divideOneWord", desc := "(ILjava/math/MutableBigInteger;)I" } : Jvm.MethodName) ({ cls := "java/math/MutableBigInteger", name := "divideOneWord", desc := "(ILjava/math/MutableBigInteger;)I" } : Jvm.MethodName)) ∈ lw_all := lw_g (lw_at lw_m5 15 rfl) rfl
theorem q1034 : (Jvm.Cond.code ({ cls := "java/math/MutableBigInteger", name := "divideOneWord", desc := "(ILjava/math/MutableBigInteger;)I" } : Jvm.MethodName) prog_28_method_53_code (15 : Nat) (Option.some Jvm.ClassFile.FieldType.int)) ∈ lw_all := lw_g (lw_at lw_m5 16 rfl) rfl
theorem q1035 : (Jvm.Cond.constantLong "java/math/MutableBigInteger" (52 : Nat) (4294967295 : Int64)) ∈ lw_all := lw_g (lw_at lw_m5 17 rfl) rfl
theorem q1036 : (Jvm.Cond.methodLink "java/math/MutableBigInteger" (152 : Nat) ({ cls := "java/lang/Integer", name := "numberOfLeadingZeros", desc := "(I)I" } : Jvm.MethodName)) ∈ lw_all := lw_g (lw_at lw_m5 18 rfl) rfl
theorem q1037 : (Jvm.Cond.methodLink "java/math/MutableBigInteger" (155 : Nat) ({ cls := "java/math/MutableBigInteger", name := "divWord", desc := "(JI)J" } : Jvm.MethodName)) ∈ lw_all := lw_g (lw_at lw_m5 19 rfl) rfl
theorem q1038 : (Jvm.Cond.static ({ cls := "java/math/MutableBigInteger", name := "divWord", desc := "(JI)J" } : Jvm.MethodName)) ∈ lw_all := lw_g (lw_at lw_m5 20 rfl) rfl
theorem q1039 : (Jvm.Cond.code ({ cls := "java/math/MutableBigInteger", name := "divWord", desc := "(JI)J" } : Jvm.MethodName) prog_28_method_70_code (9 : Nat) (Option.some Jvm.ClassFile.FieldType.long)) ∈ lw_all := lw_g (lw_at lw_m5 21 rfl) rfl
theorem q1040 : (Jvm.Cond.methodLink "java/math/MutableBigInteger" (64 : Nat) ({ cls := "java/math/MutableBigInteger", name := "normalize", desc := "()V" } : Jvm.MethodName)) ∈ lw_all := lw_g (lw_at lw_m5 22 rfl) rfl
theorem q1041 : (Jvm.Cond.instanceMethod ({ cls := "java/math/MutableBigInteger", name := "normalize", desc := "()V" } : Jvm.MethodName)) ∈ lw_all := lw_g (lw_at lw_m5 23 rfl) rfl
theorem q1042 : (Jvm.Cond.selects "java/math/MutableBigInteger" ({ cls := "java/math/MutableBigInteger", name := "normalize", desc := "()V" } : Jvm.MethodName) ({ cls := "java/math/MutableBigInteger", name := "normalize", desc := "()V" } : Jvm.MethodName)) ∈ lw_all := lw_g (lw_at lw_m5 24 rfl) rfl
theorem q1043 : (Jvm.Cond.code ({ cls := "java/math/MutableBigInteger", name := "normalize", desc := "()V" } : Jvm.MethodName) prog_28_method_21_code (4 : Nat) (Option.none : Option Jvm.ClassFile.FieldType)) ∈ lw_all := lw_g (lw_at lw_m5 25 rfl) rfl
theorem q1044 : (Jvm.Cond.methodLink "java/math/MutableBigInteger" (182 : Nat) ({ cls := "java/math/MutableBigInteger", name := "<init>", desc := "(I)V" } : Jvm.MethodName)) ∈ lw_all := lw_g (lw_at lw_m5 26 rfl) rfl
theorem q1045 : (Jvm.Cond.instanceMethod ({ cls := "java/math/MutableBigInteger", name := "<init>", desc := "(I)V" } : Jvm.MethodName)) ∈ lw_all := lw_g (lw_at lw_m5 27 rfl) rfl
theorem q1046 : (Jvm.Cond.code ({ cls := "java/math/MutableBigInteger", name := "<init>", desc := "(I)V" } : Jvm.MethodName) prog_28_method_2_code (2 : Nat) (Option.none : Option Jvm.ClassFile.FieldType)) ∈ lw_all := lw_g (lw_at lw_m5 28 rfl) rfl
theorem q1047 : (Jvm.Cond.methodLink "java/math/MutableBigInteger" (184 : Nat) ({ cls := "java/math/MutableBigInteger", name := "getLowestSetBit", desc := "()I" } : Jvm.MethodName)) ∈ lw_all := lw_g (lw_at lw_m5 29 rfl) rfl
theorem q1048 : (Jvm.Cond.privateMethod ({ cls := "java/math/MutableBigInteger", name := "getLowestSetBit", desc := "()I" } : Jvm.MethodName)) ∈ lw_tbl := lw_at lw_m5 30 rfl
theorem q1049 : (Jvm.Cond.instanceMethod ({ cls := "java/math/MutableBigInteger", name := "getLowestSetBit", desc := "()I" } : Jvm.MethodName)) ∈ lw_all := lw_g (lw_at lw_m5 31 rfl) rfl
theorem q1050 : (Jvm.Cond.code ({ cls := "java/math/MutableBigInteger", name := "getLowestSetBit", desc := "()I" } : Jvm.MethodName) prog_28_method_18_code (3 : Nat) (Option.some Jvm.ClassFile.FieldType.int)) ∈ lw_all := lw_g (lw_at lw_m5 32 rfl) rfl
theorem q1051 : (Jvm.Cond.methodLink "java/math/MutableBigInteger" (89 : Nat) ({ cls := "java/lang/Integer", name := "numberOfTrailingZeros", desc := "(I)I" } : Jvm.MethodName)) ∈ lw_all := lw_g (lw_at lw_m5 33 rfl) rfl
theorem q1052 : (Jvm.Cond.methodLink "java/math/MutableBigInteger" (130 : Nat) ({ cls := "java/lang/Math", name := "min", desc := "(II)I" } : Jvm.MethodName)) ∈ lw_all := lw_g (lw_at lw_m5 34 rfl) rfl
theorem q1053 : (Jvm.Cond.methodLink "java/math/MutableBigInteger" (108 : Nat) ({ cls := "java/math/MutableBigInteger", name := "rightShift", desc := "(I)V" } : Jvm.MethodName)) ∈ lw_all := lw_g (lw_at lw_m5 35 rfl) rfl
theorem q1054 : (Jvm.Cond.instanceMethod ({ cls := "java/math/MutableBigInteger", name := "rightShift", desc := "(I)V" } : Jvm.MethodName)) ∈ lw_all := lw_g (lw_at lw_m5 36 rfl) rfl
theorem q1055 : (Jvm.Cond.selects "java/math/MutableBigInteger" ({ cls := "java/math/MutableBigInteger", name := "rightShift", desc := "(I)V" } : Jvm.MethodName) ({ cls := "java/math/MutableBigInteger", name := "rightShift", desc := "(I)V" } : Jvm.MethodName)) ∈ lw_all := lw_g (lw_at lw_m5 37 rfl) rfl
theorem q1056 : (Jvm.Cond.code ({ cls := "java/math/MutableBigInteger", name := "rightShift", desc := "(I)V" } : Jvm.MethodName) prog_28_method_35_code (5 : Nat) (Option.none : Option Jvm.ClassFile.FieldType)) ∈ lw_all := lw_g (lw_at lw_m5 38 rfl) rfl
theorem q1057 : (Jvm.Cond.methodLink "java/math/MutableBigInteger" (112 : Nat) ({ cls := "java/math/BigInteger", name := "bitLengthForInt", desc := "(I)I" } : Jvm.MethodName)) ∈ lw_all := lw_g (lw_at lw_m5 39 rfl) rfl
theorem q1058 : (Jvm.Cond.methodLink "java/math/MutableBigInteger" (115 : Nat) ({ cls := "java/math/MutableBigInteger", name := "primitiveLeftShift", desc := "(I)V" } : Jvm.MethodName)) ∈ lw_all := lw_g (lw_at lw_m5 40 rfl) rfl
theorem q1059 : (Jvm.Cond.privateMethod ({ cls := "java/math/MutableBigInteger", name := "primitiveLeftShift", desc := "(I)V" } : Jvm.MethodName)) ∈ lw_tbl := lw_at lw_m5 41 rfl
theorem q1060 : (Jvm.Cond.instanceMethod ({ cls := "java/math/MutableBigInteger", name := "primitiveLeftShift", desc := "(I)V" } : Jvm.MethodName)) ∈ lw_all := lw_g (lw_at lw_m5 42 rfl) rfl
theorem q1061 : (Jvm.Cond.code ({ cls := "java/math/MutableBigInteger", name := "primitiveLeftShift", desc := "(I)V" } : Jvm.MethodName) prog_28_method_42_code (8 : Nat) (Option.none : Option Jvm.ClassFile.FieldType)) ∈ lw_all := lw_g (lw_at lw_m5 43 rfl) rfl
theorem q1062 : (Jvm.Cond.methodLink "java/math/MutableBigInteger" (118 : Nat) ({ cls := "java/math/MutableBigInteger", name := "primitiveRightShift", desc := "(I)V" } : Jvm.MethodName)) ∈ lw_all := lw_g (lw_at lw_m5 44 rfl) rfl
theorem q1063 : (Jvm.Cond.privateMethod ({ cls := "java/math/MutableBigInteger", name := "primitiveRightShift", desc := "(I)V" } : Jvm.MethodName)) ∈ lw_tbl := lw_at lw_m5 45 rfl
theorem q1064 : (Jvm.Cond.instanceMethod ({ cls := "java/math/MutableBigInteger", name := "primitiveRightShift", desc := "(I)V" } : Jvm.MethodName)) ∈ lw_all := lw_g (lw_at lw_m5 46 rfl) rfl
theorem q1065 : (Jvm.Cond.code ({ cls := "java/math/MutableBigInteger", name := "primitiveRightShift", desc := "(I)V" } : Jvm.MethodName) prog_28_method_41_code (7 : Nat) (Option.none : Option Jvm.ClassFile.FieldType)) ∈ lw_all := lw_g (lw_at lw_m5 47 rfl) rfl
theorem q1066 : (Jvm.Cond.methodLink "java/math/MutableBigInteger" (188 : Nat) ({ cls := "java/math/MutableBigInteger", name := "divideKnuth", desc := "(Ljava/math/MutableBigInteger;Ljava/math/MutableBigInteger;)Ljava/math/MutableBigInteger;" } : Jvm.MethodName)) ∈ lw_all := lw_g (lw_at lw_m5 48 rfl) rfl
theorem q1067 : (Jvm.Cond.instanceMethod ({ cls := "java/math/MutableBigInteger", name := "divideKnuth", desc := "(Ljava/math/MutableBigInteger;Ljava/math/MutableBigInteger;)Ljava/math/MutableBigInteger;" } : Jvm.MethodName)) ∈ lw_all := lw_g (lw_at lw_m5 49 rfl) rfl
theorem q1068 : (Jvm.Cond.selects "java/math/MutableBigInteger" ({ cls := "java/math/MutableBigInteger", name := "divideKnuth", desc := "(Ljava/math/MutableBigInteger;Ljava/math/MutableBigInteger;)Ljava/math/MutableBigInteger;" } : Jvm.MethodName) ({ cls := "java/math/MutableBigInteger", name := "divideKnuth", desc := "(Ljava/math/MutableBigInteger;Ljava/math/MutableBigInteger;)Ljava/math/MutableBigInteger;" } : Jvm.MethodName)) ∈ lw_all := lw_g (lw_at lw_m5 50 rfl) rfl
theorem q1069 : (Jvm.Cond.code ({ cls := "java/math/MutableBigInteger", name := "divideKnuth", desc := "(Ljava/math/MutableBigInteger;Ljava/math/MutableBigInteger;)Ljava/math/MutableBigInteger;" } : Jvm.MethodName) prog_28_method_56_code (3 : Nat) (Option.some (Jvm.ClassFile.FieldType.object "java/math/MutableBigInteger"))) ∈ lw_all := lw_g (lw_at lw_m5 51 rfl) rfl
theorem q1070 : (Jvm.Cond.methodLink "java/math/MutableBigInteger" (121 : Nat) ({ cls := "java/math/MutableBigInteger", name := "leftShift", desc := "(I)V" } : Jvm.MethodName)) ∈ lw_all := lw_g (lw_at lw_m5 52 rfl) rfl
theorem q1071 : (Jvm.Cond.instanceMethod ({ cls := "java/math/MutableBigInteger", name := "leftShift", desc := "(I)V" } : Jvm.MethodName)) ∈ lw_all := lw_g (lw_at lw_m5 53 rfl) rfl
theorem q1072 : (Jvm.Cond.selects "java/math/MutableBigInteger" ({ cls := "java/math/MutableBigInteger", name := "leftShift", desc := "(I)V" } : Jvm.MethodName) ({ cls := "java/math/MutableBigInteger", name := "leftShift", desc := "(I)V" } : Jvm.MethodName)) ∈ lw_all := lw_g (lw_at lw_m5 54 rfl) rfl
theorem q1073 : (Jvm.Cond.code ({ cls := "java/math/MutableBigInteger", name := "leftShift", desc := "(I)V" } : Jvm.MethodName) prog_28_method_37_code (8 : Nat) (Option.none : Option Jvm.ClassFile.FieldType)) ∈ lw_all := lw_g (lw_at lw_m5 55 rfl) rfl
theorem q1074 : (Jvm.Cond.methodLink "java/math/MutableBigInteger" (124 : Nat) ({ cls := "java/math/MutableBigInteger", name := "setValue", desc := "([II)V" } : Jvm.MethodName)) ∈ lw_all := lw_g (lw_at lw_m5 56 rfl) rfl
theorem q1075 : (Jvm.Cond.instanceMethod ({ cls := "java/math/MutableBigInteger", name := "setValue", desc := "([II)V" } : Jvm.MethodName)) ∈ lw_all := lw_g (lw_at lw_m5 57 rfl) rfl
theorem q1076 : (Jvm.Cond.selects "java/math/MutableBigInteger" ({ cls := "java/math/MutableBigInteger", name := "setValue", desc := "([II)V" } : Jvm.MethodName) ({ cls := "java/math/MutableBigInteger", name := "setValue", desc := "([II)V" } : Jvm.MethodName)) ∈ lw_all := lw_g (lw_at lw_m5 58 rfl) rfl
theorem q1077 : (Jvm.Cond.code ({ cls := "java/math/MutableBigInteger", name := "setValue", desc := "([II)V" } : Jvm.MethodName) prog_28_method_25_code (3 : Nat) (Option.none : Option Jvm.ClassFile.FieldType)) ∈ lw_all := lw_g (lw_at lw_m5 59 rfl) rfl
theorem q1078 : (Jvm.Cond.methodLink "java/math/MutableBigInteger" (190 : Nat) ({ cls := "java/math/MutableBigInteger", name := "divideMagnitude", desc := "(Ljava/math/MutableBigInteger;Ljava/math/MutableBigInteger;Z)Ljava/math/MutableBigInteger;" } : Jvm.MethodName)) ∈ lw_all := lw_g (lw_at lw_m5 60 rfl) rfl
theorem q1079 : (Jvm.Cond.privateMethod ({ cls := "java/math/MutableBigInteger", name := "divideMagnitude", desc := "(Ljava/math/MutableBigInteger;Ljava/math/MutableBigInteger;Z)Ljava/math/MutableBigInteger;" } : Jvm.MethodName)) ∈ lw_tbl := lw_at lw_m5 61 rfl
theorem q1080 : (Jvm.Cond.instanceMethod ({ cls := "java/math/MutableBigInteger", name := "divideMagnitude", desc := "(Ljava/math/MutableBigInteger;Ljava/math/MutableBigInteger;Z)Ljava/math/MutableBigInteger;" } : Jvm.MethodName)) ∈ lw_all := lw_g (lw_at lw_m5 62 rfl) rfl
theorem q1081 : (Jvm.Cond.code ({ cls := "java/math/MutableBigInteger", name := "divideMagnitude", desc := "(Ljava/math/MutableBigInteger;Ljava/math/MutableBigInteger;Z)Ljava/math/MutableBigInteger;" } : Jvm.MethodName) prog_28_method_65_code (28 : Nat) (Option.some (Jvm.ClassFile.FieldType.object "java/math/MutableBigInteger"))) ∈ lw_all := lw_g (lw_at lw_m5 63 rfl) rfl
theorem q1082 : (Jvm.Cond.methodLink "java/math/MutableBigInteger" (269 : Nat) ({ cls := "java/math/MutableBigInteger", name := "copyAndShift", desc := "([III[III)V" } : Jvm.MethodName)) ∈ lw_all := lw_g (lw_at lw_m5 64 rfl) rfl
theorem q1083 : (Jvm.Cond.static ({ cls := "java/math/MutableBigInteger", name := "copyAndShift", desc := "([III[III)V" } : Jvm.MethodName)) ∈ lw_all := lw_g (lw_at lw_m5 65 rfl) rfl
theorem q1084 : (Jvm.Cond.code ({ cls := "java/math/MutableBigInteger", name := "copyAndShift", desc := "([III[III)V" } : Jvm.MethodName) prog_28_method_64_code (10 : Nat) (Option.none : Option Jvm.ClassFile.FieldType)) ∈ lw_all := lw_g (lw_at lw_m5 66 rfl) rfl
theorem q1085 : (Jvm.Cond.methodLink "java/math/MutableBigInteger" (259 : Nat) ({ cls := "java/math/MutableBigInteger", name := "<init>", desc := "([I)V" } : Jvm.MethodName)) ∈ lw_all := lw_g (lw_at lw_m5 67 rfl) rfl
theorem q1086 : (Jvm.Cond.methodLink "java/math/MutableBigInteger" (95 : Nat) ({ cls := "java/lang/System", name := "arraycopy", desc := "(Ljava/lang/Object;ILjava/lang/Object;II)V" } : Jvm.MethodName)) ∈ lw_all := lw_g (lw_at lw_m5 68 rfl) rfl
theorem q1087 : (Jvm.Cond.methodLink "java/math/MutableBigInteger" (273 : Nat) ({ cls := "java/math/MutableBigInteger", name := "unsignedLongCompare", desc := "(JJ)Z" } : Jvm.MethodName)) ∈ lw_all := lw_g (lw_at lw_m5 69 rfl) rfl
theorem q1088 : (Jvm.Cond.privateMethod ({ cls := "java/math/MutableBigInteger", name := "unsignedLongCompare", desc := "(JJ)Z" } : Jvm.MethodName)) ∈ lw_tbl := lw_at lw_m5 70 rfl
theorem q1089 : (Jvm.Cond.instanceMethod ({ cls := "java/math/MutableBigInteger", name := "unsignedLongCompare", desc := "(JJ)Z" } : Jvm.MethodName)) ∈ lw_all := lw_g (lw_at lw_m5 71 rfl) rfl
theorem q1090 : (Jvm.Cond.code ({ cls := "java/math/MutableBigInteger", name := "unsignedLongCompare", desc := "(JJ)Z" } : Jvm.MethodName) prog_28_method_69_code (5 : Nat) (Option.some Jvm.ClassFile.FieldType.boolean)) ∈ lw_all := lw_g (lw_at lw_m5 72 rfl) rfl
theorem q1091 : (Jvm.Cond.constantLong "java/math/MutableBigInteger" (79 : Nat) (-9223372036854775808 : Int64)) ∈ lw_all := lw_g (lw_at lw_m5 73 rfl) rfl
theorem q1092 : (Jvm.Cond.methodLink "java/math/MutableBigInteger" (277 : Nat) ({ cls := "java/math/MutableBigInteger", name := "mulsub", desc := "([I[IIII)I" } : Jvm.MethodName)) ∈ lw_all := lw_g (lw_at lw_m5 74 rfl) rfl
theorem q1093 : (Jvm.Cond.privateMethod ({ cls := "java/math/MutableBigInteger", name := "mulsub", desc := "([I[IIII)I" } : Jvm.MethodName)) ∈ lw_tbl := lw_at lw_m5 75 rfl
theorem q1094 : (Jvm.Cond.instanceMethod ({ cls := "java/math/MutableBigInteger", name := "mulsub", desc := "([I[IIII)I" } : Jvm.MethodName)) ∈ lw_all := lw_g (lw_at lw_m5 76 rfl) rfl
theorem q1095 : (Jvm.Cond.code ({ cls := "java/math/MutableBigInteger", name := "mulsub", desc := "([I[IIII)I" } : Jvm.MethodName) prog_28_method_39_code (15 : Nat) (Option.some Jvm.ClassFile.FieldType.int)) ∈ lw_all := lw_g (lw_at lw_m5 77 rfl) rfl
theorem q1096 : (Jvm.Cond.methodLink "java/math/MutableBigInteger" (281 : Nat) ({ cls := "java/math/MutableBigInteger", name := "divadd", desc := "([I[II)I" } : Jvm.MethodName)) ∈ lw_all := lw_g (lw_at lw_m5 78 rfl) rfl
theorem q1097 : (Jvm.Cond.privateMethod ({ cls := "java/math/MutableBigInteger", name := "divadd", desc := "([I[II)I" } : Jvm.MethodName)) ∈ lw_tbl := lw_at lw_m5 79 rfl
theorem q1098 : (Jvm.Cond.instanceMethod ({ cls := "java/math/MutableBigInteger", name := "divadd", desc := "([I[II)I" } : Jvm.MethodName)) ∈ lw_all := lw_g (lw_at lw_m5 80 rfl) rfl
theorem q1099 : (Jvm.Cond.code ({ cls := "java/math/MutableBigInteger", name := "divadd", desc := "([I[II)I" } : Jvm.MethodName) prog_28_method_38_code (9 : Nat) (Option.some Jvm.ClassFile.FieldType.int)) ∈ lw_all := lw_g (lw_at lw_m5 81 rfl) rfl
theorem q1100 : (Jvm.Cond.methodLink "java/math/MutableBigInteger" (285 : Nat) ({ cls := "java/math/MutableBigInteger", name := "mulsubBorrow", desc := "([I[IIII)I" } : Jvm.MethodName)) ∈ lw_all := lw_g (lw_at lw_m5 82 rfl) rfl
theorem q1101 : (Jvm.Cond.privateMethod ({ cls := "java/math/MutableBigInteger", name := "mulsubBorrow", desc := "([I[IIII)I" } : Jvm.MethodName)) ∈ lw_tbl := lw_at lw_m5 83 rfl
theorem q1102 : (Jvm.Cond.instanceMethod ({ cls := "java/math/MutableBigInteger", name := "mulsubBorrow", desc := "([I[IIII)I" } : Jvm.MethodName)) ∈ lw_all := lw_g (lw_at lw_m5 84 rfl) rfl
theorem q1103 : (Jvm.Cond.code ({ cls := "java/math/MutableBigInteger", name := "mulsubBorrow", desc := "([I[IIII)I" } : Jvm.MethodName) prog_28_method_40_code (15 : Nat) (Option.some Jvm.ClassFile.FieldType.int)) ∈ lw_all := lw_g (lw_at lw_m5 85 rfl) rfl
theorem q1104 : (Jvm.Cond.methodLink "java/math/MutableBigInteger" (166 : Nat) ({ cls := "java/math/MutableBigInteger", name := "divideAndRemainderBurnikelZiegler", desc := "(Ljava/math/MutableBigInteger;Ljava/math/MutableBigInteger;)Ljava/math/MutableBigInteger;" } : Jvm.MethodName)) ∈ lw_all := lw_g (lw_at lw_m5 86 rfl) rfl
theorem q1105 : (Jvm.Cond.instanceMethod ({ cls := "java/math/MutableBigInteger", name := "divideAndRemainderBurnikelZiegler", desc := "(Ljava/math/MutableBigInteger;Ljava/math/MutableBigInteger;)Ljava/math/MutableBigInteger;" } : Jvm.MethodName)) ∈ lw_all := lw_g (lw_at lw_m5 87 rfl) rfl
theorem q1106 : (Jvm.Cond.selects "java/math/MutableBigInteger" ({ cls := "java/math/MutableBigInteger", name := "divideAndRemainderBurnikelZiegler", desc := "(Ljava/math/MutableBigInteger;Ljava/math/MutableBigInteger;)Ljava/math/MutableBigInteger;" } : Jvm.MethodName) ({ cls := "java/math/MutableBigInteger", name := "divideAndRemainderBurnikelZiegler", desc := "(Ljava/math/MutableBigInteger;Ljava/math/MutableBigInteger;)Ljava/math/MutableBigInteger;" } : Jvm.MethodName)) ∈ lw_all := lw_g (lw_at lw_m5 88 rfl) rfl
theorem q1107 : (Jvm.Cond.code ({ cls := "java/math/MutableBigInteger", name := "divideAndRemainderBurnikelZiegler", desc := "(Ljava/math/MutableBigInteger;Ljava/math/MutableBigInteger;)Ljava/math/MutableBigInteger;" } : Jvm.MethodName) prog_28_method_58_code (19 : Nat) (Option.some (Jvm.ClassFile.FieldType.object "java/math/MutableBigInteger"))) ∈ lw_all := lw_g (lw_at lw_m5 89 rfl) rfl
theorem q1108 : (Jvm.Cond.constantLong "java/math/MutableBigInteger" (193 : Nat) (32 : Int64)) ∈ lw_all := lw_g (lw_at lw_m5 90 rfl) rfl
theorem q1109 : (Jvm.Cond.methodLink "java/math/MutableBigInteger" (195 : Nat) ({ cls := "java/math/MutableBigInteger", name := "bitLength", desc := "()J" } : Jvm.MethodName)) ∈ lw_all := lw_g (lw_at lw_m5 91 rfl) rfl
theorem q1110 : (Jvm.Cond.instanceMethod ({ cls := "java/math/MutableBigInteger", name := "bitLength", desc := "()J" } : Jvm.MethodName)) ∈ lw_all := lw_g (lw_at lw_m5 92 rfl) rfl
theorem q1111 : (Jvm.Cond.selects "java/math/MutableBigInteger" ({ cls := "java/math/MutableBigInteger", name := "bitLength", desc := "()J" } : Jvm.MethodName) ({ cls := "java/math/MutableBigInteger", name := "bitLength", desc := "()J" } : Jvm.MethodName)) ∈ lw_all := lw_g (lw_at lw_m5 93 rfl) rfl
theorem q1112 : (Jvm.Cond.code ({ cls := "java/math/MutableBigInteger", name := "bitLength", desc := "()J" } : Jvm.MethodName) prog_28_method_62_code (1 : Nat) (Option.some Jvm.ClassFile.FieldType.long)) ∈ lw_all := lw_g (lw_at lw_m5 94 rfl) rfl
theorem q1113 : (Jvm.Cond.methodLink "java/math/MutableBigInteger" (199 : Nat) ({ cls := "java/lang/Math", name := "max", desc := "(JJ)J" } : Jvm.MethodName)) ∈ lw_all := lw_g (lw_at lw_m5 95 rfl) rfl
theorem q1116 : (Jvm.Cond.methodLink "java/math/MutableBigInteger" (203 : Nat) ({ cls := "java/math/MutableBigInteger", name := "safeLeftShift", desc := "(I)V" } : Jvm.MethodName)) ∈ lw_all := lw_g (lw_at lw_m5 98 rfl) rfl
theorem q1117 : (Jvm.Cond.instanceMethod ({ cls := "java/math/MutableBigInteger", name := "safeLeftShift", desc := "(I)V" } : Jvm.MethodName)) ∈ lw_all := lw_g (lw_at lw_m5 99 rfl) rfl
theorem q1118 : (Jvm.Cond.selects "java/math/MutableBigInteger" ({ cls := "java/math/MutableBigInteger", name := "safeLeftShift", desc := "(I)V" } : Jvm.MethodName) ({ cls := "java/math/MutableBigInteger", name := "safeLeftShift", desc := "(I)V" } : Jvm.MethodName)) ∈ lw_all := lw_g (lw_at lw_m5 100 rfl) rfl
theorem q1119 : (Jvm.Cond.code ({ cls := "java/math/MutableBigInteger", name := "safeLeftShift", desc := "(I)V" } : Jvm.MethodName) prog_28_method_36_code (2 : Nat) (Option.none : Option Jvm.ClassFile.FieldType)) ∈ lw_all := lw_g (lw_at lw_m5 101 rfl) rfl
theorem q1120 : (Jvm.Cond.methodLink "java/math/MutableBigInteger" (206 : Nat) ({ cls := "java/math/MutableBigInteger", name := "getBlock", desc := "(III)Ljava/math/MutableBigInteger;" } : Jvm.MethodName)) ∈ lw_all := lw_g (lw_at lw_m5 102 rfl) rfl
theorem q1121 : (Jvm.Cond.privateMethod ({ cls := "java/math/MutableBigInteger", name := "getBlock", desc := "(III)Ljava/math/MutableBigInteger;" } : Jvm.MethodName)) ∈ lw_tbl := lw_at lw_m5 103 rfl
theorem q1122 : (Jvm.Cond.instanceMethod ({ cls := "java/math/MutableBigInteger", name := "getBlock", desc := "(III)Ljava/math/MutableBigInteger;" } : Jvm.MethodName)) ∈ lw_all := lw_g (lw_at lw_m5 104 rfl) rfl
theorem q1123 : (Jvm.Cond.code ({ cls := "java/math/MutableBigInteger", name := "getBlock", desc := "(III)Ljava/math/MutableBigInteger;" } : Jvm.MethodName) prog_28_method_61_code (7 : Nat) (Option.some (Jvm.ClassFile.FieldType.object "java/math/MutableBigInteger"))) ∈ lw_all := lw_g (lw_at lw_m5 105 rfl) rfl
theorem q1124 : (Jvm.Cond.methodLink "java/math/MutableBigInteger" (210 : Nat) ({ cls := "java/math/MutableBigInteger", name := "addDisjoint", desc := "(Ljava/math/MutableBigInteger;I)V" } : Jvm.MethodName)) ∈ lw_all := lw_g (lw_at lw_m5 106 rfl) rfl
theorem q1125 : (Jvm.Cond.instanceMethod ({ cls := "java/math/MutableBigInteger", name := "addDisjoint", desc := "(Ljava/math/MutableBigInteger;I)V" } : Jvm.MethodName)) ∈ lw_all := lw_g (lw_at lw_m5 107 rfl) rfl
theorem q1126 : (Jvm.Cond.selects "java/math/MutableBigInteger" ({ cls := "java/math/MutableBigInteger", name := "addDisjoint", desc := "(Ljava/math/MutableBigInteger;I)V" } : Jvm.MethodName) ({ cls := "java/math/MutableBigInteger", name := "addDisjoint", desc := "(Ljava/math/MutableBigInteger;I)V" } : Jvm.MethodName)) ∈ lw_all := lw_g (lw_at lw_m5 108 rfl) rfl
theorem q1127 : (Jvm.Cond.code ({ cls := "java/math/MutableBigInteger", name := "addDisjoint", desc := "(Ljava/math/MutableBigInteger;I)V" } : Jvm.MethodName) prog_28_method_47_code (10 : Nat) (Option.none : Option Jvm.ClassFile.FieldType)) ∈ lw_all := lw_g (lw_at lw_m5 109 rfl) rfl
theorem q1128 : (Jvm.Cond.methodLink "java/math/MutableBigInteger" (67 : Nat) ({ cls := "java/math/MutableBigInteger", name := "isZero", desc := "()Z" } : Jvm.MethodName)) ∈ lw_all := lw_g (lw_at lw_m5 110 rfl) rfl
theorem q1129 : (Jvm.Cond.instanceMethod ({ cls := "java/math/MutableBigInteger", name := "isZero", desc := "()Z" } : Jvm.MethodName)) ∈ lw_all := lw_g (lw_at lw_m5 111 rfl) rfl
theorem q1130 : (Jvm.Cond.selects "java/math/MutableBigInteger" ({ cls := "java/math/MutableBigInteger", name := "isZero", desc := "()Z" } : Jvm.MethodName) ({ cls := "java/math/MutableBigInteger", name := "isZero", desc := "()Z" } : Jvm.MethodName)) ∈ lw_all := lw_g (lw_at lw_m5 112 rfl) rfl
theorem q1131 : (Jvm.Cond.code ({ cls := "java/math/MutableBigInteger", name := "isZero", desc := "()Z" } : Jvm.MethodName) prog_28_method_29_code (1 : Nat) (Option.some Jvm.ClassFile.FieldType.boolean)) ∈ lw_all := lw_g (lw_at lw_m5 113 rfl) rfl
theorem q1132 : (Jvm.Cond.methodLink "java/math/MutableBigInteger" (127 : Nat) ({ cls := "java/util/Arrays", name := "fill", desc := "([IIII)V" } : Jvm.MethodName)) ∈ lw_all := lw_g (lw_at lw_m5 114 rfl) rfl
theorem q1151 : (Jvm.Cond.methodLink "java/math/MutableBigInteger" (214 : Nat) ({ cls := "java/math/MutableBigInteger", name := "divide2n1n", desc := "(Ljava/math/MutableBigInteger;Ljava/math/MutableBigInteger;)Ljava/math/MutableBigInteger;" } : Jvm.MethodName)) ∈ lw_all := lw_g (lw_at lw_m5 133 rfl) rfl
theorem q1152 : (Jvm.Cond.privateMethod ({ cls := "java/math/MutableBigInteger", name := "divide2n1n", desc := "(Ljava/math/MutableBigInteger;Ljava/math/MutableBigInteger;)Ljava/math/MutableBigInteger;" } : Jvm.MethodName)) ∈ lw_tbl := lw_at lw_m5 134 rfl
theorem q1153 : (Jvm.Cond.instanceMethod ({ cls := "java/math/MutableBigInteger", name := "divide2n1n", desc := "(Ljava/math/MutableBigInteger;Ljava/math/MutableBigInteger;)Ljava/math/MutableBigInteger;" } : Jvm.MethodName)) ∈ lw_all := lw_g (lw_at lw_m5 135 rfl) rfl
theorem q1154 : (Jvm.Cond.code ({ cls := "java/math/MutableBigInteger", name := "divide2n1n", desc := "(Ljava/math/MutableBigInteger;Ljava/math/MutableBigInteger;)Ljava/math/MutableBigInteger;" } : Jvm.MethodName) prog_28_method_59_code (8 : Nat) (Option.some (Jvm.ClassFile.FieldType.object "java/math/MutableBigInteger"))) ∈ lw_all := lw_g (lw_at lw_m5 136 rfl) rfl
theorem q1155 : (Jvm.Cond.methodLink "java/math/MutableBigInteger" (220 : Nat) ({ cls := "java/math/MutableBigInteger", name := "safeRightShift", desc := "(I)V" } : Jvm.MethodName)) ∈ lw_all := lw_g (lw_at lw_m5 137 rfl) rfl
theorem q1156 : (Jvm.Cond.instanceMethod ({ cls := "java/math/MutableBigInteger", name := "safeRightShift", desc := "(I)V" } : Jvm.MethodName)) ∈ lw_all := lw_g (lw_at lw_m5 138 rfl) rfl
theorem q1157 : (Jvm.Cond.selects "java/math/MutableBigInteger" ({ cls := "java/math/MutableBigInteger", name := "safeRightShift", desc := "(I)V" } : Jvm.MethodName) ({ cls := "java/math/MutableBigInteger", name := "safeRightShift", desc := "(I)V" } : Jvm.MethodName)) ∈ lw_all := lw_g (lw_at lw_m5 139 rfl) rfl
theorem q1158 : (Jvm.Cond.code ({ cls := "java/math/MutableBigInteger", name := "safeRightShift", desc := "(I)V" } : Jvm.MethodName) prog_28_method_34_code (2 : Nat) (Option.none : Option Jvm.ClassFile.FieldType)) ∈ lw_all := lw_g (lw_at lw_m5 140 rfl) rfl
theorem q1159 : (Jvm.Cond.methodLink "java/math/MutableBigInteger" (105 : Nat) ({ cls := "java/math/MutableBigInteger", name := "reset", desc := "()V" } : Jvm.MethodName)) ∈ lw_all := lw_g (lw_at lw_m5 141 rfl) rfl
theorem q1160 : (Jvm.Cond.instanceMethod ({ cls := "java/math/MutableBigInteger", name := "reset", desc := "()V" } : Jvm.MethodName)) ∈ lw_all := lw_g (lw_at lw_m5 142 rfl) rfl
theorem q1161 : (Jvm.Cond.selects "java/math/MutableBigInteger" ({ cls := "java/math/MutableBigInteger", name := "reset", desc := "()V" } : Jvm.MethodName) ({ cls := "java/math/MutableBigInteger", name := "reset", desc := "()V" } : Jvm.MethodName)) ∈ lw_all := lw_g (lw_at lw_m5 143 rfl) rfl
theorem q1162 : (Jvm.Cond.code ({ cls := "java/math/MutableBigInteger", name := "reset", desc := "()V" } : Jvm.MethodName) prog_28_method_14_code (1 : Nat) (Option.none : Option Jvm.ClassFile.FieldType)) ∈ lw_all := lw_g (lw_at lw_m5 144 rfl) rfl
theorem q1163 : (Jvm.Cond.methodLink "java/math/MutableBigInteger" (223 : Nat) ({ cls := "java/math/MutableBigInteger", name := "keepLower", desc := "(I)V" } : Jvm.MethodName)) ∈ lw_all := lw_g (lw_at lw_m5 145 rfl) rfl
theorem q1164 : (Jvm.Cond.privateMethod ({ cls := "java/math/MutableBigInteger", name := "keepLower", desc := "(I)V" } : Jvm.MethodName)) ∈ lw_tbl := lw_at lw_m5 146 rfl
theorem q1165 : (Jvm.Cond.instanceMethod ({ cls := "java/math/MutableBigInteger", name := "keepLower", desc := "(I)V" } : Jvm.MethodName)) ∈ lw_all := lw_g (lw_at lw_m5 147 rfl) rfl
theorem q1166 : (Jvm.Cond.code ({ cls := "java/math/MutableBigInteger", name := "keepLower", desc := "(I)V" } : Jvm.MethodName) prog_28_method_44_code (2 : Nat) (Option.none : Option Jvm.ClassFile.FieldType)) ∈ lw_all := lw_g (lw_at lw_m5 148 rfl) rfl
theorem q1167 : (Jvm.Cond.methodLink "java/math/MutableBigInteger" (226 : Nat) ({ cls := "java/math/MutableBigInteger", name := "divide3n2n", desc := "(Ljava/math/MutableBigInteger;Ljava/math/MutableBigInteger;)Ljava/math/MutableBigInteger;" } : Jvm.MethodName)) ∈ lw_all := lw_g (lw_at lw_m5 149 rfl) rfl
theorem q1168 : (Jvm.Cond.privateMethod ({ cls := "java/math/MutableBigInteger", name := "divide3n2n", desc := "(Ljava/math/MutableBigInteger;Ljava/math/MutableBigInteger;)Ljava/math/MutableBigInteger;" } : Jvm.MethodName)) ∈ lw_tbl := lw_at lw_m5 150 rfl
theorem q1169 : (Jvm.Cond.instanceMethod ({ cls := "java/math/MutableBigInteger", name := "divide3n2n", desc := "(Ljava/math/MutableBigInteger;Ljava/math/MutableBigInteger;)Ljava/math/MutableBigInteger;" } : Jvm.MethodName)) ∈ lw_all := lw_g (lw_at lw_m5 151 rfl) rfl
theorem q1170 : (Jvm.Cond.code ({ cls := "java/math/MutableBigInteger", name := "divide3n2n", desc := "(Ljava/math/MutableBigInteger;Ljava/math/MutableBigInteger;)Ljava/math/MutableBigInteger;" } : Jvm.MethodName) prog_28_method_60_code (9 : Nat) (Option.some (Jvm.ClassFile.FieldType.object "java/math/MutableBigInteger"))) ∈ lw_all := lw_g (lw_at lw_m5 152 rfl) rfl
theorem q1171 : (Jvm.Cond.methodLink "java/math/MutableBigInteger" (229 : Nat) ({ cls := "java/math/MutableBigInteger", name := "getLower", desc := "(I)Ljava/math/BigInteger;" } : Jvm.MethodName)) ∈ lw_all := lw_g (lw_at lw_m5 153 rfl) rfl
theorem q1172 : (Jvm.Cond.privateMethod ({ cls := "java/math/MutableBigInteger", name := "getLower", desc := "(I)Ljava/math/BigInteger;" } : Jvm.MethodName)) ∈ lw_tbl := lw_at lw_m5 154 rfl
theorem q1173 : (Jvm.Cond.instanceMethod ({ cls := "java/math/MutableBigInteger", name := "getLower", desc := "(I)Ljava/math/BigInteger;" } : Jvm.MethodName)) ∈ lw_all := lw_g (lw_at lw_m5 155 rfl) rfl
theorem q1174 : (Jvm.Cond.code ({ cls := "java/math/MutableBigInteger", name := "getLower", desc := "(I)Ljava/math/BigInteger;" } : Jvm.MethodName) prog_28_method_43_code (4 : Nat) (Option.some (Jvm.ClassFile.FieldType.object "java/math/BigInteger"))) ∈ lw_all := lw_g (lw_at lw_m5 156 rfl) rfl
theorem q1175 : (Jvm.Cond.fieldLink "java/math/MutableBigInteger" (54 : Nat) "java/math/BigInteger" "ZERO" "Ljava/math/BigInteger;") ∈ lw_all := lw_g (lw_at lw_m5 157 rfl) rfl
theorem q1177 : (Jvm.Cond.methodLink "java/math/MutableBigInteger" (71 : Nat) ({ cls := "java/math/MutableBigInteger", name := "toBigInteger", desc := "(I)Ljava/math/BigInteger;" } : Jvm.MethodName)) ∈ lw_all := lw_g (lw_at lw_m5 159 rfl) rfl
theorem q1178 : (Jvm.Cond.instanceMethod ({ cls := "java/math/MutableBigInteger", name := "toBigInteger", desc := "(I)Ljava/math/BigInteger;" } : Jvm.MethodName)) ∈ lw_all := lw_g (lw_at lw_m5 160 rfl) rfl
theorem q1179 : (Jvm.Cond.selects "java/math/MutableBigInteger" ({ cls := "java/math/MutableBigInteger", name := "toBigInteger", desc := "(I)Ljava/math/BigInteger;" } : Jvm.MethodName) ({ cls := "java/math/MutableBigInteger", name := "toBigInteger", desc := "(I)Ljava/math/BigInteger;" } : Jvm.MethodName)) ∈ lw_all := lw_g (lw_at lw_m5 161 rfl) rfl
theorem q1180 : (Jvm.Cond.code ({ cls := "java/math/MutableBigInteger", name := "toBigInteger", desc := "(I)Ljava/math/BigInteger;" } : Jvm.MethodName) prog_28_method_9_code (2 : Nat) (Option.some (Jvm.ClassFile.FieldType.object "java/math/BigInteger"))) ∈ lw_all := lw_g (lw_at lw_m5 162 rfl) rfl
theorem q1181 : (Jvm.Cond.classLink "java/math/MutableBigInteger" (1 : Nat) "java/math/BigInteger") ∈ lw_all := lw_g (lw_at lw_m5 163 rfl) rfl
theorem q1182 : (Jvm.Cond.methodLink "java/math/MutableBigInteger" (58 : Nat) ({ cls := "java/math/MutableBigInteger", name := "getMagnitudeArray", desc := "()[I" } : Jvm.MethodName)) ∈ lw_all := lw_g (lw_at lw_m5 164 rfl) rfl
theorem q1183 : (Jvm.Cond.privateMethod ({ cls := "java/math/MutableBigInteger", name := "getMagnitudeArray", desc := "()[I" } : Jvm.MethodName)) ∈ lw_tbl := lw_at lw_m5 165 rfl
theorem q1184 : (Jvm.Cond.instanceMethod ({ cls := "java/math/MutableBigInteger", name := "getMagnitudeArray", desc := "()[I" } : Jvm.MethodName)) ∈ lw_all := lw_g (lw_at lw_m5 166 rfl) rfl
theorem q1185 : (Jvm.Cond.code ({ cls := "java/math/MutableBigInteger", name := "getMagnitudeArray", desc := "()[I" } : Jvm.MethodName) prog_28_method_7_code (2 : Nat) (Option.some (Jvm.ClassFile.FieldType.array Jvm.ClassFile.FieldType.int))) ∈ lw_all := lw_g (lw_at lw_m5 167 rfl) rfl
theorem q1186 : (Jvm.Cond.methodLink "java/math/MutableBigInteger" (37 : Nat) ({ cls := "java/util/Arrays", name := "fill", desc := "([II)V" } : Jvm.MethodName)) ∈ lw_all := lw_g (lw_at lw_m5 168 rfl) rfl
theorem q1189 : (Jvm.Cond.methodLink "java/math/MutableBigInteger" (62 : Nat) ({ cls := "java/math/BigInteger", name := "<init>", desc := "([II)V" } : Jvm.MethodName)) ∈ lw_all := lw_g (lw_at lw_m5 171 rfl) rfl
theorem q1190 : (Jvm.Cond.methodLink "java/math/MutableBigInteger" (232 : Nat) ({ cls := "java/math/MutableBigInteger", name := "compareShifted", desc := "(Ljava/math/MutableBigInteger;I)I" } : Jvm.MethodName)) ∈ lw_all := lw_g (lw_at lw_m5 172 rfl) rfl
theorem q1191 : (Jvm.Cond.privateMethod ({ cls := "java/math/MutableBigInteger", name := "compareShifted", desc := "(Ljava/math/MutableBigInteger;I)I" } : Jvm.MethodName)) ∈ lw_tbl := lw_at lw_m5 173 rfl
theorem q1192 : (Jvm.Cond.instanceMethod ({ cls := "java/math/MutableBigInteger", name := "compareShifted", desc := "(Ljava/math/MutableBigInteger;I)I" } : Jvm.MethodName)) ∈ lw_all := lw_g (lw_at lw_m5 174 rfl) rfl
theorem q1193 : (Jvm.Cond.code ({ cls := "java/math/MutableBigInteger", name := "compareShifted", desc := "(Ljava/math/MutableBigInteger;I)I" } : Jvm.MethodName) prog_28_method_16_code (10 : Nat) (Option.some Jvm.ClassFile.FieldType.int)) ∈ lw_all := lw_g (lw_at lw_m5 175 rfl) rfl
theorem q1194 : (Jvm.Cond.methodLink "java/math/MutableBigInteger" (236 : Nat) ({ cls := "java/math/MutableBigInteger", name := "toBigInteger", desc := "()Ljava/math/BigInteger;" } : Jvm.MethodName)) ∈ lw_all := lw_g (lw_at lw_m5 176 rfl) rfl
theorem q1195 : (Jvm.Cond.instanceMethod ({ cls := "java/math/MutableBigInteger", name := "toBigInteger", desc := "()Ljava/math/BigInteger;" } : Jvm.MethodName)) ∈ lw_all := lw_g (lw_at lw_m5 177 rfl) rfl
theorem q1196 : (Jvm.Cond.selects "java/math/MutableBigInteger" ({ cls := "java/math/MutableBigInteger", name := "toBigInteger", desc := "()Ljava/math/BigInteger;" } : Jvm.MethodName) ({ cls := "java/math/MutableBigInteger", name := "toBigInteger", desc := "()Ljava/math/BigInteger;" } : Jvm.MethodName)) ∈ lw_all := lw_g (lw_at lw_m5 178 rfl) rfl
theorem q1197 : (Jvm.Cond.code ({ cls := "java/math/MutableBigInteger", name := "toBigInteger", desc := "()Ljava/math/BigInteger;" } : Jvm.MethodName) prog_28_method_10_code (1 : Nat) (Option.some (Jvm.ClassFile.FieldType.object "java/math/BigInteger"))) ∈ lw_all := lw_g (lw_at lw_m5 179 rfl) rfl
theorem q1198 : (Jvm.Cond.methodLink "java/math/MutableBigInteger" (239 : Nat) ({ cls := "java/math/BigInteger", name := "multiply", desc := "(Ljava/math/BigInteger;)Ljava/math/BigInteger;" } : Jvm.MethodName)) ∈ lw_all := lw_g (lw_at lw_m5 180 rfl) rfl
theorem q1335 : (Jvm.Cond.methodLink "java/math/MutableBigInteger" (243 : Nat) ({ cls := "java/math/MutableBigInteger", name := "<init>", desc := "(Ljava/math/BigInteger;)V" } : Jvm.MethodName)) ∈ lw_all := lw_g (lw_at lw_m6 77 rfl) rfl
theorem q1336 : (Jvm.Cond.instanceMethod ({ cls := "java/math/MutableBigInteger", name := "<init>", desc := "(Ljava/math/BigInteger;)V" } : Jvm.MethodName)) ∈ lw_all := lw_g (lw_at lw_m6 78 rfl) rfl
theorem q1337 : (Jvm.Cond.code ({ cls := "java/math/MutableBigInteger", name := "<init>", desc := "(Ljava/math/BigInteger;)V" } : Jvm.MethodName) prog_28_method_4_code (2 : Nat) (Option.none : Option Jvm.ClassFile.FieldType)) ∈ lw_all := lw_g (lw_at lw_m6 79 rfl) rfl
theorem q1338 : (Jvm.Cond.methodLink "java/math/MutableBigInteger" (27 : Nat) ({ cls := "java/util/Arrays", name := "copyOf", desc := "([II)[I" } : Jvm.MethodName)) ∈ lw_all := lw_g (lw_at lw_m6 80 rfl) rfl
theorem q1339 : (Jvm.Cond.methodLink "java/math/MutableBigInteger" (246 : Nat) ({ cls := "java/math/MutableBigInteger", name := "ones", desc := "(I)V" } : Jvm.MethodName)) ∈ lw_all := lw_g (lw_at lw_m6 81 rfl) rfl
theorem q1340 : (Jvm.Cond.privateMethod ({ cls := "java/math/MutableBigInteger", name := "ones", desc := "(I)V" } : Jvm.MethodName)) ∈ lw_tbl := lw_at lw_m6 82 rfl
theorem q1341 : (Jvm.Cond.instanceMethod ({ cls := "java/math/MutableBigInteger", name := "ones", desc := "(I)V" } : Jvm.MethodName)) ∈ lw_all := lw_g (lw_at lw_m6 83 rfl) rfl
theorem q1342 : (Jvm.Cond.code ({ cls := "java/math/MutableBigInteger", name := "ones", desc := "(I)V" } : Jvm.MethodName) prog_28_method_6_code (2 : Nat) (Option.none : Option Jvm.ClassFile.FieldType)) ∈ lw_all := lw_g (lw_at lw_m6 84 rfl) rfl
theorem q1343 : (Jvm.Cond.methodLink "java/math/MutableBigInteger" (139 : Nat) ({ cls := "java/math/MutableBigInteger", name := "add", desc := "(Ljava/math/MutableBigInteger;)V" } : Jvm.MethodName)) ∈ lw_all := lw_g (lw_at lw_m6 85 rfl) rfl
theorem q1344 : (Jvm.Cond.instanceMethod ({ cls := "java/math/MutableBigInteger", name := "add", desc := "(Ljava/math/MutableBigInteger;)V" } : Jvm.MethodName)) ∈ lw_all := lw_g (lw_at lw_m6 86 rfl) rfl
theorem q1345 : (Jvm.Cond.selects "java/math/MutableBigInteger" ({ cls := "java/math/MutableBigInteger", name := "add", desc := "(Ljava/math/MutableBigInteger;)V" } : Jvm.MethodName) ({ cls := "java/math/MutableBigInteger", name := "add", desc := "(Ljava/math/MutableBigInteger;)V" } : Jvm.MethodName)) ∈ lw_all := lw_g (lw_at lw_m6 87 rfl) rfl
theorem q1346 : (Jvm.Cond.code ({ cls := "java/math/MutableBigInteger", name := "add", desc := "(Ljava/math/MutableBigInteger;)V" } : Jvm.MethodName) prog_28_method_45_code (12 : Nat) (Option.none : Option Jvm.ClassFile.FieldType)) ∈ lw_all := lw_g (lw_at lw_m6 88 rfl) rfl
theorem q1347 : (Jvm.Cond.methodLink "java/math/MutableBigInteger" (249 : Nat) ({ cls := "java/math/MutableBigInteger", name := "subtract", desc := "(Ljava/math/MutableBigInteger;)I" } : Jvm.MethodName)) ∈ lw_all := lw_g (lw_at lw_m6 89 rfl) rfl
theorem q1348 : (Jvm.Cond.instanceMethod ({ cls := "java/math/MutableBigInteger", name := "subtract", desc := "(Ljava/math/MutableBigInteger;)I" } : Jvm.MethodName)) ∈ lw_all := lw_g (lw_at lw_m6 90 rfl) rfl
theorem q1349 : (Jvm.Cond.selects "java/math/MutableBigInteger" ({ cls := "java/math/MutableBigInteger", name := "subtract", desc := "(Ljava/math/MutableBigInteger;)I" } : Jvm.MethodName) ({ cls := "java/math/MutableBigInteger", name := "subtract", desc := "(Ljava/math/MutableBigInteger;)I" } : Jvm.MethodName)) ∈ lw_all := lw_g (lw_at lw_m6 91 rfl) rfl
theorem q1350 : (Jvm.Cond.code ({ cls := "java/math/MutableBigInteger", name := "subtract", desc := "(Ljava/math/MutableBigInteger;)I" } : Jvm.MethodName) prog_28_method_49_code (11 : Nat) (Option.some Jvm.ClassFile.FieldType.int)) ∈ lw_all := lw_g (lw_at lw_m6 92 rfl) rfl
theorem q1351 : (Jvm.Cond.methodLink "java/math/MutableBigInteger" (252 : Nat) ({ cls := "java/math/MutableBigInteger", name := "addLower", desc := "(Ljava/math/MutableBigInteger;I)V" } : Jvm.MethodName)) ∈ lw_all := lw_g (lw_at lw_m6 93 rfl) rfl
theorem q1352 : (Jvm.Cond.instanceMethod ({ cls := "java/math/MutableBigInteger", name := "addLower", desc := "(Ljava/math/MutableBigInteger;I)V" } : Jvm.MethodName)) ∈ lw_all := lw_g (lw_at lw_m6 94 rfl) rfl
theorem q1353 : (Jvm.Cond.selects "java/math/MutableBigInteger" ({ cls := "java/math/MutableBigInteger", name := "addLower", desc := "(Ljava/math/MutableBigInteger;I)V" } : Jvm.MethodName) ({ cls := "java/math/MutableBigInteger", name := "addLower", desc := "(Ljava/math/MutableBigInteger;I)V" } : Jvm.MethodName)) ∈ lw_all := lw_g (lw_at lw_m6 95 rfl) rfl
theorem q1354 : (Jvm.Cond.code ({ cls := "java/math/MutableBigInteger", name := "addLower", desc := "(Ljava/math/MutableBigInteger;I)V" } : Jvm.MethodName) prog_28_method_48_code (4 : Nat) (Option.none : Option Jvm.ClassFile.FieldType)) ∈ lw_all := lw_g (lw_at lw_m6 96 rfl) rfl
theorem q1355 : (Jvm.Cond.fieldLink "java/math/MutableBigInteger" (255 : Nat) "java/math/MutableBigInteger" "ONE" "Ljava/math/MutableBigInteger;") ∈ lw_all := lw_g (lw_at lw_m6 97 rfl) rfl
theorem q1356 : (Jvm.Cond.laysStatic "java/math/MutableBigInteger" "ONE" "Ljava/math/MutableBigInteger;") ∈ lw_tbl := lw_at lw_m6 98 rfl
theorem q1357 : (Jvm.Cond.methodLink "java/math/MutableBigInteger" (217 : Nat) ({ cls := "java/math/MutableBigInteger", name := "addShifted", desc := "(Ljava/math/MutableBigInteger;I)V" } : Jvm.MethodName)) ∈ lw_all := lw_g (lw_at lw_m6 99 rfl) rfl
theorem q1358 : (Jvm.Cond.instanceMethod ({ cls := "java/math/MutableBigInteger", name := "addShifted", desc := "(Ljava/math/MutableBigInteger;I)V" } : Jvm.MethodName)) ∈ lw_all := lw_g (lw_at lw_m6 100 rfl) rfl
theorem q1359 : (Jvm.Cond.selects "java/math/MutableBigInteger" ({ cls := "java/math/MutableBigInteger", name := "addShifted", desc := "(Ljava/math/MutableBigInteger;I)V" } : Jvm.MethodName) ({ cls := "java/math/MutableBigInteger", name := "addShifted", desc := "(Ljava/math/MutableBigInteger;I)V" } : Jvm.MethodName)) ∈ lw_all := lw_g (lw_at lw_m6 101 rfl) rfl
theorem q1360 : (Jvm.Cond.code ({ cls := "java/math/MutableBigInteger", name := "addShifted", desc := "(Ljava/math/MutableBigInteger;I)V" } : Jvm.MethodName) prog_28_method_46_code (13 : Nat) (Option.none : Option Jvm.ClassFile.FieldType)) ∈ lw_all := lw_g (lw_at lw_m6 102 rfl) rfl
theorem q1401 : (Jvm.Cond.selects "java/math/MutableBigInteger" ({ cls := "java/lang/Object", name := "toString", desc := "()Ljava/lang/String;" } : Jvm.MethodName) ({ cls := "java/math/MutableBigInteger", name := "toString", desc := "()Ljava/lang/String;" } : Jvm.MethodName)) ∈ lw_all := lw_g (lw_at lw_m6 143 rfl) rfl
theorem q1402 : (Jvm.Cond.instanceMethod ({ cls := "java/math/MutableBigInteger", name := "toString", desc := "()Ljava/lang/String;" } : Jvm.MethodName)) ∈ lw_all := lw_g (lw_at lw_m6 144 rfl) rfl
theorem q1403 : (Jvm.Cond.code ({ cls := "java/math/MutableBigInteger", name := "toString", desc := "()Ljava/lang/String;" } : Jvm.MethodName) prog_28_method_33_code (2 : Nat) (Option.some (Jvm.ClassFile.FieldType.object "java/lang/String"))) ∈ lw_all := lw_g (lw_at lw_m6 145 rfl) rfl
theorem q1404 : (Jvm.Cond.methodLink "java/math/MutableBigInteger" (101 : Nat) ({ cls := "java/math/BigInteger", name := "toString", desc := "()Ljava/lang/String;" } : Jvm.MethodName)) ∈ lw_all := lw_g (lw_at lw_m6 146 rfl) rfl
def RJ25 : String := "java/lang/CharacterData"
abbrev cJ25_of : ByteArray := prog_7_method_30_code
def yJ25_of : MethodName := ⟨RJ25, "of", "(I)Ljava/lang/CharacterData;"⟩
theorem q86 : (Jvm.Cond.initialized "java/lang/CharacterData") ∈ lw_all := lw_g (lw_at lw_m1 28 rfl) rfl
theorem q1416 : (Jvm.Cond.static ({ cls := "java/lang/CharacterData", name := "of", desc := "(I)Ljava/lang/CharacterData;" } : Jvm.MethodName)) ∈ lw_all := lw_g (lw_at lw_m6 158 rfl) rfl
theorem q1417 : (Jvm.Cond.code ({ cls := "java/lang/CharacterData", name := "of", desc := "(I)Ljava/lang/CharacterData;" } : Jvm.MethodName) prog_7_method_30_code (1 : Nat) (Option.some (Jvm.ClassFile.FieldType.object "java/lang/CharacterData"))) ∈ lw_all := lw_g (lw_at lw_m6 159 rfl) rfl
theorem q1418 : (Jvm.Cond.fieldLink "java/lang/CharacterData" (13 : Nat) "java/lang/CharacterDataLatin1" "instance" "Ljava/lang/CharacterDataLatin1;") ∈ lw_all := lw_g (lw_at lw_m6 160 rfl) rfl
theorem q1421 : (Jvm.Cond.declares ({ cls := "java/lang/CharacterData", name := "digit", desc := "(II)I" } : Jvm.MethodName)) ∈ lw_tbl := lw_at lw_m6 163 rfl
theorem q1422 : (Jvm.Cond.sameMethod "java/lang/CharacterData" "java/lang/CharacterData" "digit" "(II)I") ∈ lw_all := lw_g (lw_at lw_m6 164 rfl) rfl
def RJ26 : String := "java/lang/CharacterDataLatin1"
abbrev cJ26_digit : ByteArray := prog_8_method_24_code
def yJ26_digit : MethodName := ⟨RJ26, "digit", "(II)I"⟩
theorem q87 : (Jvm.Cond.initialized "java/lang/CharacterDataLatin1") ∈ lw_all := lw_g (lw_at lw_m1 29 rfl) rfl
theorem q763 : (Jvm.Cond.selects "java/lang/CharacterDataLatin1" ({ cls := "java/lang/Object", name := "getClass", desc := "()Ljava/lang/Class;" } : Jvm.MethodName) ({ cls := "java/lang/Object", name := "getClass", desc := "()Ljava/lang/Class;" } : Jvm.MethodName)) ∈ lw_all := lw_g (lw_at lw_m3 225 rfl) rfl
theorem q794 : (Jvm.Cond.selects "java/lang/CharacterDataLatin1" ({ cls := "java/lang/Object", name := "toString", desc := "()Ljava/lang/String;" } : Jvm.MethodName) ({ cls := "java/lang/Object", name := "toString", desc := "()Ljava/lang/String;" } : Jvm.MethodName)) ∈ lw_all := lw_g (lw_at lw_m4 16 rfl) rfl
theorem q1419 : (Jvm.Cond.laysStatic "java/lang/CharacterDataLatin1" "instance" "Ljava/lang/CharacterDataLatin1;") ∈ lw_tbl := lw_at lw_m6 161 rfl
theorem q1423 : (Jvm.Cond.selects "java/lang/CharacterDataLatin1" ({ cls := "java/lang/CharacterData", name := "digit", desc := "(II)I" } : Jvm.MethodName) ({ cls := "java/lang/CharacterDataLatin1", name := "digit", desc := "(II)I" } : Jvm.MethodName)) ∈ lw_all := lw_g (lw_at lw_m6 165 rfl) rfl
theorem q1424 : (Jvm.Cond.instanceMethod ({ cls := "java/lang/CharacterDataLatin1", name := "digit", desc := "(II)I" } : Jvm.MethodName)) ∈ lw_all := lw_g (lw_at lw_m6 166 rfl) rfl
theorem q1425 : (Jvm.Cond.code ({ cls := "java/lang/CharacterDataLatin1", name := "digit", desc := "(II)I" } : Jvm.MethodName) prog_8_method_24_code (4 : Nat) (Option.some Jvm.ClassFile.FieldType.int)) ∈ lw_all := lw_g (lw_at lw_m6 167 rfl) rfl
theorem q1426 : (Jvm.Cond.fieldLink "java/lang/CharacterDataLatin1" (25 : Nat) "java/lang/CharacterDataLatin1" "DIGITS" "[B") ∈ lw_all := lw_g (lw_at lw_m6 168 rfl) rfl
theorem q1427 : (Jvm.Cond.laysStatic "java/lang/CharacterDataLatin1" "DIGITS" "[B") ∈ lw_tbl := lw_at lw_m6 169 rfl
def RJ27 : String := "jdk/internal/misc/Unsafe"
abbrev cJ27_getLongUnaligned : ByteArray := prog_31_method_334_code
def yJ27_getLongUnaligned : MethodName := ⟨RJ27, "getLongUnaligned", "(Ljava/lang/Object;J)J"⟩
abbrev cJ27_makeLong : ByteArray := prog_31_method_353_code
def yJ27_makeLong : MethodName := ⟨RJ27, "makeLong", "(II)J"⟩
abbrev cJ27_toUnsignedLong : ByteArray := prog_31_method_370_code
def yJ27_toUnsignedLong : MethodName := ⟨RJ27, "toUnsignedLong", "(I)J"⟩
abbrev cJ27_pickPos : ByteArray := prog_31_method_350_code
def yJ27_pickPos : MethodName := ⟨RJ27, "pickPos", "(II)I"⟩
abbrev cJ27_makeLong_2 : ByteArray := prog_31_method_352_code
def yJ27_makeLong_2 : MethodName := ⟨RJ27, "makeLong", "(SSSS)J"⟩
abbrev cJ27_toUnsignedLong_2 : ByteArray := prog_31_method_369_code
def yJ27_toUnsignedLong_2 : MethodName := ⟨RJ27, "toUnsignedLong", "(S)J"⟩
abbrev cJ27_makeLong_3 : ByteArray := prog_31_method_351_code
def yJ27_makeLong_3 : MethodName := ⟨RJ27, "makeLong", "(BBBBBBBB)J"⟩
abbrev cJ27_toUnsignedLong_3 : ByteArray := prog_31_method_368_code
def yJ27_toUnsignedLong_3 : MethodName := ⟨RJ27, "toUnsignedLong", "(B)J"⟩
abbrev cJ27_getIntUnaligned : ByteArray := prog_31_method_336_code
def yJ27_getIntUnaligned : MethodName := ⟨RJ27, "getIntUnaligned", "(Ljava/lang/Object;J)I"⟩
abbrev cJ27_makeInt : ByteArray := prog_31_method_354_code
def yJ27_makeInt : MethodName := ⟨RJ27, "makeInt", "(SS)I"⟩
abbrev cJ27_toUnsignedInt : ByteArray := prog_31_method_367_code
def yJ27_toUnsignedInt : MethodName := ⟨RJ27, "toUnsignedInt", "(S)I"⟩
abbrev cJ27_makeInt_2 : ByteArray := prog_31_method_355_code
def yJ27_makeInt_2 : MethodName := ⟨RJ27, "makeInt", "(BBBB)I"⟩
abbrev cJ27_toUnsignedInt_2 : ByteArray := prog_31_method_366_code
def yJ27_toUnsignedInt_2 : MethodName := ⟨RJ27, "toUnsignedInt", "(B)I"⟩
theorem q88 : (Jvm.Cond.initialized "jdk/internal/misc/Unsafe") ∈ lw_all := lw_g (lw_at lw_m1 30 rfl) rfl
theorem q771 : (Jvm.Cond.selects "jdk/internal/misc/Unsafe" ({ cls := "java/lang/Object", name := "getClass", desc := "()Ljava/lang/Class;" } : Jvm.MethodName) ({ cls := "java/lang/Object", name := "getClass", desc := "()Ljava/lang/Class;" } : Jvm.MethodName)) ∈ lw_all := lw_g (lw_at lw_m3 233 rfl) rfl
theorem q1405 : (Jvm.Cond.selects "jdk/internal/misc/Unsafe" ({ cls := "java/lang/Object", name := "toString", desc := "()Ljava/lang/String;" } : Jvm.MethodName) ({ cls := "java/lang/Object", name := "toString", desc := "()Ljava/lang/String;" } : Jvm.MethodName)) ∈ lw_all := lw_g (lw_at lw_m6 147 rfl) rfl
theorem q2253 : (Jvm.Cond.laysStatic "jdk/internal/misc/Unsafe" "ARRAY_BYTE_BASE_OFFSET" "I") ∈ lw_tbl := lw_at lw_m10 35 rfl
theorem q2264 : (Jvm.Cond.instanceMethod ({ cls := "jdk/internal/misc/Unsafe", name := "getLongUnaligned", desc := "(Ljava/lang/Object;J)J" } : Jvm.MethodName)) ∈ lw_all := lw_g (lw_at lw_m10 46 rfl) rfl
theorem q2265 : (Jvm.Cond.selects "jdk/internal/misc/Unsafe" ({ cls := "jdk/internal/misc/Unsafe", name := "getLongUnaligned", desc := "(Ljava/lang/Object;J)J" } : Jvm.MethodName) ({ cls := "jdk/internal/misc/Unsafe", name := "getLongUnaligned", desc := "(Ljava/lang/Object;J)J" } : Jvm.MethodName)) ∈ lw_all := lw_g (lw_at lw_m10 47 rfl) rfl
theorem q2266 : (Jvm.Cond.code ({ cls := "jdk/internal/misc/Unsafe", name := "getLongUnaligned", desc := "(Ljava/lang/Object;J)J" } : Jvm.MethodName) prog_31_method_334_code (4 : Nat) (Option.some Jvm.ClassFile.FieldType.long)) ∈ lw_all := lw_g (lw_at lw_m10 48 rfl) rfl
theorem q2267 : (Jvm.Cond.constantLong "jdk/internal/misc/Unsafe" (696 : Nat) (7 : Int64)) ∈ lw_all := lw_g (lw_at lw_m10 49 rfl) rfl
theorem q2268 : (Jvm.Cond.methodLink "jdk/internal/misc/Unsafe" (27 : Nat) ({ cls := "jdk/internal/misc/Unsafe", name := "getLong", desc := "(Ljava/lang/Object;J)J" } : Jvm.MethodName)) ∈ lw_all := lw_g (lw_at lw_m10 50 rfl) rfl
theorem q2269 : (Jvm.Cond.instanceMethod ({ cls := "jdk/internal/misc/Unsafe", name := "getLong", desc := "(Ljava/lang/Object;J)J" } : Jvm.MethodName)) ∈ lw_all := lw_g (lw_at lw_m10 51 rfl) rfl
theorem q2270 : (Jvm.Cond.selects "jdk/internal/misc/Unsafe" ({ cls := "jdk/internal/misc/Unsafe", name := "getLong", desc := "(Ljava/lang/Object;J)J" } : Jvm.MethodName) ({ cls := "jdk/internal/misc/Unsafe", name := "getLong", desc := "(Ljava/lang/Object;J)J" } : Jvm.MethodName)) ∈ lw_all := lw_g (lw_at lw_m10 52 rfl) rfl
theorem q2271 : (Jvm.Cond.native ({ cls := "jdk/internal/misc/Unsafe", name := "getLong", desc := "(Ljava/lang/Object;J)J" } : Jvm.MethodName)) ∈ lw_all := lw_g (lw_at lw_m10 53 rfl) rfl
theorem q2272 : (Jvm.Cond.constantLong "jdk/internal/misc/Unsafe" (349 : Nat) (3 : Int64)) ∈ lw_all := lw_g (lw_at lw_m10 54 rfl) rfl
theorem q2273 : (Jvm.Cond.methodLink "jdk/internal/misc/Unsafe" (17 : Nat) ({ cls := "jdk/internal/misc/Unsafe", name := "getInt", desc := "(Ljava/lang/Object;J)I" } : Jvm.MethodName)) ∈ lw_all := lw_g (lw_at lw_m10 55 rfl) rfl
theorem q2274 : (Jvm.Cond.instanceMethod ({ cls := "jdk/internal/misc/Unsafe", name := "getInt", desc := "(Ljava/lang/Object;J)I" } : Jvm.MethodName)) ∈ lw_all := lw_g (lw_at lw_m10 56 rfl) rfl
theorem q2275 : (Jvm.Cond.selects "jdk/internal/misc/Unsafe" ({ cls := "jdk/internal/misc/Unsafe", name := "getInt", desc := "(Ljava/lang/Object;J)I" } : Jvm.MethodName) ({ cls := "jdk/internal/misc/Unsafe", name := "getInt", desc := "(Ljava/lang/Object;J)I" } : Jvm.MethodName)) ∈ lw_all := lw_g (lw_at lw_m10 57 rfl) rfl
theorem q2276 : (Jvm.Cond.native ({ cls := "jdk/internal/misc/Unsafe", name := "getInt", desc := "(Ljava/lang/Object;J)I" } : Jvm.MethodName)) ∈ lw_all := lw_g (lw_at lw_m10 58 rfl) rfl
theorem q2277 : (Jvm.Cond.constantLong "jdk/internal/misc/Unsafe" (205 : Nat) (4 : Int64)) ∈ lw_all := lw_g (lw_at lw_m10 59 rfl) rfl
theorem q2278 : (Jvm.Cond.methodLink "jdk/internal/misc/Unsafe" (698 : Nat) ({ cls := "jdk/internal/misc/Unsafe", name := "makeLong", desc := "(II)J" } : Jvm.MethodName)) ∈ lw_all := lw_g (lw_at lw_m10 60 rfl) rfl
theorem q2279 : (Jvm.Cond.static ({ cls := "jdk/internal/misc/Unsafe", name := "makeLong", desc := "(II)J" } : Jvm.MethodName)) ∈ lw_all := lw_g (lw_at lw_m10 61 rfl) rfl
theorem q2280 : (Jvm.Cond.code ({ cls := "jdk/internal/misc/Unsafe", name := "makeLong", desc := "(II)J" } : Jvm.MethodName) prog_31_method_353_code (2 : Nat) (Option.some Jvm.ClassFile.FieldType.long)) ∈ lw_all := lw_g (lw_at lw_m10 62 rfl) rfl
theorem q2281 : (Jvm.Cond.methodLink "jdk/internal/misc/Unsafe" (791 : Nat) ({ cls := "jdk/internal/misc/Unsafe", name := "toUnsignedLong", desc := "(I)J" } : Jvm.MethodName)) ∈ lw_all := lw_g (lw_at lw_m10 63 rfl) rfl
theorem q2282 : (Jvm.Cond.static ({ cls := "jdk/internal/misc/Unsafe", name := "toUnsignedLong", desc := "(I)J" } : Jvm.MethodName)) ∈ lw_all := lw_g (lw_at lw_m10 64 rfl) rfl
theorem q2283 : (Jvm.Cond.code ({ cls := "jdk/internal/misc/Unsafe", name := "toUnsignedLong", desc := "(I)J" } : Jvm.MethodName) prog_31_method_370_code (1 : Nat) (Option.some Jvm.ClassFile.FieldType.long)) ∈ lw_all := lw_g (lw_at lw_m10 65 rfl) rfl
theorem q2284 : (Jvm.Cond.constantLong "jdk/internal/misc/Unsafe" (812 : Nat) (4294967295 : Int64)) ∈ lw_all := lw_g (lw_at lw_m10 66 rfl) rfl
theorem q2285 : (Jvm.Cond.methodLink "jdk/internal/misc/Unsafe" (784 : Nat) ({ cls := "jdk/internal/misc/Unsafe", name := "pickPos", desc := "(II)I" } : Jvm.MethodName)) ∈ lw_all := lw_g (lw_at lw_m10 67 rfl) rfl
theorem q2286 : (Jvm.Cond.static ({ cls := "jdk/internal/misc/Unsafe", name := "pickPos", desc := "(II)I" } : Jvm.MethodName)) ∈ lw_all := lw_g (lw_at lw_m10 68 rfl) rfl
theorem q2287 : (Jvm.Cond.code ({ cls := "jdk/internal/misc/Unsafe", name := "pickPos", desc := "(II)I" } : Jvm.MethodName) prog_31_method_350_code (2 : Nat) (Option.some Jvm.ClassFile.FieldType.int)) ∈ lw_all := lw_g (lw_at lw_m10 69 rfl) rfl
theorem q2288 : (Jvm.Cond.fieldLink "jdk/internal/misc/Unsafe" (351 : Nat) "jdk/internal/misc/UnsafeConstants" "BIG_ENDIAN" "Z") ∈ lw_all := lw_g (lw_at lw_m10 70 rfl) rfl
theorem q2290 : (Jvm.Cond.methodLink "jdk/internal/misc/Unsafe" (47 : Nat) ({ cls := "jdk/internal/misc/Unsafe", name := "getShort", desc := "(Ljava/lang/Object;J)S" } : Jvm.MethodName)) ∈ lw_all := lw_g (lw_at lw_m10 72 rfl) rfl
theorem q2291 : (Jvm.Cond.instanceMethod ({ cls := "jdk/internal/misc/Unsafe", name := "getShort", desc := "(Ljava/lang/Object;J)S" } : Jvm.MethodName)) ∈ lw_all := lw_g (lw_at lw_m10 73 rfl) rfl
theorem q2292 : (Jvm.Cond.selects "jdk/internal/misc/Unsafe" ({ cls := "jdk/internal/misc/Unsafe", name := "getShort", desc := "(Ljava/lang/Object;J)S" } : Jvm.MethodName) ({ cls := "jdk/internal/misc/Unsafe", name := "getShort", desc := "(Ljava/lang/Object;J)S" } : Jvm.MethodName)) ∈ lw_all := lw_g (lw_at lw_m10 74 rfl) rfl
theorem q2293 : (Jvm.Cond.native ({ cls := "jdk/internal/misc/Unsafe", name := "getShort", desc := "(Ljava/lang/Object;J)S" } : Jvm.MethodName)) ∈ lw_all := lw_g (lw_at lw_m10 75 rfl) rfl
theorem q2294 : (Jvm.Cond.constantLong "jdk/internal/misc/Unsafe" (203 : Nat) (2 : Int64)) ∈ lw_all := lw_g (lw_at lw_m10 76 rfl) rfl
theorem q2295 : (Jvm.Cond.constantLong "jdk/internal/misc/Unsafe" (702 : Nat) (6 : Int64)) ∈ lw_all := lw_g (lw_at lw_m10 77 rfl) rfl
theorem q2296 : (Jvm.Cond.methodLink "jdk/internal/misc/Unsafe" (704 : Nat) ({ cls := "jdk/internal/misc/Unsafe", name := "makeLong", desc := "(SSSS)J" } : Jvm.MethodName)) ∈ lw_all := lw_g (lw_at lw_m10 78 rfl) rfl
theorem q2297 : (Jvm.Cond.static ({ cls := "jdk/internal/misc/Unsafe", name := "makeLong", desc := "(SSSS)J" } : Jvm.MethodName)) ∈ lw_all := lw_g (lw_at lw_m10 79 rfl) rfl
theorem q2298 : (Jvm.Cond.code ({ cls := "jdk/internal/misc/Unsafe", name := "makeLong", desc := "(SSSS)J" } : Jvm.MethodName) prog_31_method_352_code (4 : Nat) (Option.some Jvm.ClassFile.FieldType.long)) ∈ lw_all := lw_g (lw_at lw_m10 80 rfl) rfl
theorem q2299 : (Jvm.Cond.methodLink "jdk/internal/misc/Unsafe" (788 : Nat) ({ cls := "jdk/internal/misc/Unsafe", name := "toUnsignedLong", desc := "(S)J" } : Jvm.MethodName)) ∈ lw_all := lw_g (lw_at lw_m10 81 rfl) rfl
theorem q2300 : (Jvm.Cond.static ({ cls := "jdk/internal/misc/Unsafe", name := "toUnsignedLong", desc := "(S)J" } : Jvm.MethodName)) ∈ lw_all := lw_g (lw_at lw_m10 82 rfl) rfl
theorem q2301 : (Jvm.Cond.code ({ cls := "jdk/internal/misc/Unsafe", name := "toUnsignedLong", desc := "(S)J" } : Jvm.MethodName) prog_31_method_369_code (1 : Nat) (Option.some Jvm.ClassFile.FieldType.long)) ∈ lw_all := lw_g (lw_at lw_m10 83 rfl) rfl
theorem q2302 : (Jvm.Cond.constantLong "jdk/internal/misc/Unsafe" (810 : Nat) (65535 : Int64)) ∈ lw_all := lw_g (lw_at lw_m10 84 rfl) rfl
theorem q2303 : (Jvm.Cond.methodLink "jdk/internal/misc/Unsafe" (39 : Nat) ({ cls := "jdk/internal/misc/Unsafe", name := "getByte", desc := "(Ljava/lang/Object;J)B" } : Jvm.MethodName)) ∈ lw_all := lw_g (lw_at lw_m10 85 rfl) rfl
theorem q2304 : (Jvm.Cond.instanceMethod ({ cls := "jdk/internal/misc/Unsafe", name := "getByte", desc := "(Ljava/lang/Object;J)B" } : Jvm.MethodName)) ∈ lw_all := lw_g (lw_at lw_m10 86 rfl) rfl
theorem q2305 : (Jvm.Cond.selects "jdk/internal/misc/Unsafe" ({ cls := "jdk/internal/misc/Unsafe", name := "getByte", desc := "(Ljava/lang/Object;J)B" } : Jvm.MethodName) ({ cls := "jdk/internal/misc/Unsafe", name := "getByte", desc := "(Ljava/lang/Object;J)B" } : Jvm.MethodName)) ∈ lw_all := lw_g (lw_at lw_m10 87 rfl) rfl
theorem q2306 : (Jvm.Cond.native ({ cls := "jdk/internal/misc/Unsafe", name := "getByte", desc := "(Ljava/lang/Object;J)B" } : Jvm.MethodName)) ∈ lw_all := lw_g (lw_at lw_m10 88 rfl) rfl
theorem q2307 : (Jvm.Cond.constantLong "jdk/internal/misc/Unsafe" (707 : Nat) (5 : Int64)) ∈ lw_all := lw_g (lw_at lw_m10 89 rfl) rfl
theorem q2308 : (Jvm.Cond.methodLink "jdk/internal/misc/Unsafe" (709 : Nat) ({ cls := "jdk/internal/misc/Unsafe", name := "makeLong", desc := "(BBBBBBBB)J" } : Jvm.MethodName)) ∈ lw_all := lw_g (lw_at lw_m10 90 rfl) rfl
theorem q2309 : (Jvm.Cond.static ({ cls := "jdk/internal/misc/Unsafe", name := "makeLong", desc := "(BBBBBBBB)J" } : Jvm.MethodName)) ∈ lw_all := lw_g (lw_at lw_m10 91 rfl) rfl
theorem q2310 : (Jvm.Cond.code ({ cls := "jdk/internal/misc/Unsafe", name := "makeLong", desc := "(BBBBBBBB)J" } : Jvm.MethodName) prog_31_method_351_code (8 : Nat) (Option.some Jvm.ClassFile.FieldType.long)) ∈ lw_all := lw_g (lw_at lw_m10 92 rfl) rfl
theorem q2311 : (Jvm.Cond.methodLink "jdk/internal/misc/Unsafe" (781 : Nat) ({ cls := "jdk/internal/misc/Unsafe", name := "toUnsignedLong", desc := "(B)J" } : Jvm.MethodName)) ∈ lw_all := lw_g (lw_at lw_m10 93 rfl) rfl
theorem q2312 : (Jvm.Cond.static ({ cls := "jdk/internal/misc/Unsafe", name := "toUnsignedLong", desc := "(B)J" } : Jvm.MethodName)) ∈ lw_all := lw_g (lw_at lw_m10 94 rfl) rfl
theorem q2313 : (Jvm.Cond.code ({ cls := "jdk/internal/misc/Unsafe", name := "toUnsignedLong", desc := "(B)J" } : Jvm.MethodName) prog_31_method_368_code (1 : Nat) (Option.some Jvm.ClassFile.FieldType.long)) ∈ lw_all := lw_g (lw_at lw_m10 95 rfl) rfl
theorem q2314 : (Jvm.Cond.constantLong "jdk/internal/misc/Unsafe" (808 : Nat) (255 : Int64)) ∈ lw_all := lw_g (lw_at lw_m10 96 rfl) rfl
theorem q2327 : (Jvm.Cond.instanceMethod ({ cls := "jdk/internal/misc/Unsafe", name := "getIntUnaligned", desc := "(Ljava/lang/Object;J)I" } : Jvm.MethodName)) ∈ lw_all := lw_g (lw_at lw_m10 109 rfl) rfl
theorem q2328 : (Jvm.Cond.selects "jdk/internal/misc/Unsafe" ({ cls := "jdk/internal/misc/Unsafe", name := "getIntUnaligned", desc := "(Ljava/lang/Object;J)I" } : Jvm.MethodName) ({ cls := "jdk/internal/misc/Unsafe", name := "getIntUnaligned", desc := "(Ljava/lang/Object;J)I" } : Jvm.MethodName)) ∈ lw_all := lw_g (lw_at lw_m10 110 rfl) rfl
theorem q2329 : (Jvm.Cond.code ({ cls := "jdk/internal/misc/Unsafe", name := "getIntUnaligned", desc := "(Ljava/lang/Object;J)I" } : Jvm.MethodName) prog_31_method_336_code (4 : Nat) (Option.some Jvm.ClassFile.FieldType.int)) ∈ lw_all := lw_g (lw_at lw_m10 111 rfl) rfl
theorem q2330 : (Jvm.Cond.methodLink "jdk/internal/misc/Unsafe" (719 : Nat) ({ cls := "jdk/internal/misc/Unsafe", name := "makeInt", desc := "(SS)I" } : Jvm.MethodName)) ∈ lw_all := lw_g (lw_at lw_m10 112 rfl) rfl
theorem q2331 : (Jvm.Cond.static ({ cls := "jdk/internal/misc/Unsafe", name := "makeInt", desc := "(SS)I" } : Jvm.MethodName)) ∈ lw_all := lw_g (lw_at lw_m10 113 rfl) rfl
theorem q2332 : (Jvm.Cond.code ({ cls := "jdk/internal/misc/Unsafe", name := "makeInt", desc := "(SS)I" } : Jvm.MethodName) prog_31_method_354_code (2 : Nat) (Option.some Jvm.ClassFile.FieldType.int)) ∈ lw_all := lw_g (lw_at lw_m10 114 rfl) rfl
theorem q2333 : (Jvm.Cond.methodLink "jdk/internal/misc/Unsafe" (792 : Nat) ({ cls := "jdk/internal/misc/Unsafe", name := "toUnsignedInt", desc := "(S)I" } : Jvm.MethodName)) ∈ lw_all := lw_g (lw_at lw_m10 115 rfl) rfl
theorem q2334 : (Jvm.Cond.static ({ cls := "jdk/internal/misc/Unsafe", name := "toUnsignedInt", desc := "(S)I" } : Jvm.MethodName)) ∈ lw_all := lw_g (lw_at lw_m10 116 rfl) rfl
theorem q2335 : (Jvm.Cond.code ({ cls := "jdk/internal/misc/Unsafe", name := "toUnsignedInt", desc := "(S)I" } : Jvm.MethodName) prog_31_method_367_code (1 : Nat) (Option.some Jvm.ClassFile.FieldType.int)) ∈ lw_all := lw_g (lw_at lw_m10 117 rfl) rfl
theorem q2336 : (Jvm.Cond.constant "jdk/internal/misc/Unsafe" (374 : Nat) (65535 : Int32)) ∈ lw_all := lw_g (lw_at lw_m10 118 rfl) rfl
theorem q2337 : (Jvm.Cond.methodLink "jdk/internal/misc/Unsafe" (723 : Nat) ({ cls := "jdk/internal/misc/Unsafe", name := "makeInt", desc := "(BBBB)I" } : Jvm.MethodName)) ∈ lw_all := lw_g (lw_at lw_m10 119 rfl) rfl
theorem q2338 : (Jvm.Cond.static ({ cls := "jdk/internal/misc/Unsafe", name := "makeInt", desc := "(BBBB)I" } : Jvm.MethodName)) ∈ lw_all := lw_g (lw_at lw_m10 120 rfl) rfl
theorem q2339 : (Jvm.Cond.code ({ cls := "jdk/internal/misc/Unsafe", name := "makeInt", desc := "(BBBB)I" } : Jvm.MethodName) prog_31_method_355_code (4 : Nat) (Option.some Jvm.ClassFile.FieldType.int)) ∈ lw_all := lw_g (lw_at lw_m10 121 rfl) rfl
theorem q2340 : (Jvm.Cond.methodLink "jdk/internal/misc/Unsafe" (796 : Nat) ({ cls := "jdk/internal/misc/Unsafe", name := "toUnsignedInt", desc := "(B)I" } : Jvm.MethodName)) ∈ lw_all := lw_g (lw_at lw_m10 122 rfl) rfl
theorem q2341 : (Jvm.Cond.static ({ cls := "jdk/internal/misc/Unsafe", name := "toUnsignedInt", desc := "(B)I" } : Jvm.MethodName)) ∈ lw_all := lw_g (lw_at lw_m10 123 rfl) rfl
theorem q2342 : (Jvm.Cond.code ({ cls := "jdk/internal/misc/Unsafe", name := "toUnsignedInt", desc := "(B)I" } : Jvm.MethodName) prog_31_method_366_code (1 : Nat) (Option.some Jvm.ClassFile.FieldType.int)) ∈ lw_all := lw_g (lw_at lw_m10 124 rfl) rfl
def RJ28 : String := "java/lang/Object"
abbrev cJ28_init : ByteArray := object_method_1_code
def yJ28_init : MethodName := ⟨RJ28, "<init>", "()V"⟩
theorem q110 : (Jvm.Cond.instanceMethod ({ cls := "java/lang/Object", name := "<init>", desc := "()V" } : Jvm.MethodName)) ∈ lw_all := lw_g (lw_at lw_m1 52 rfl) rfl
theorem q111 : (Jvm.Cond.code ({ cls := "java/lang/Object", name := "<init>", desc := "()V" } : Jvm.MethodName) object_method_1_code (1 : Nat) (Option.none : Option Jvm.ClassFile.FieldType)) ∈ lw_all := lw_g (lw_at lw_m1 53 rfl) rfl
theorem q278 : (Jvm.Cond.native ({ cls := "java/lang/Object", name := "clone", desc := "()Ljava/lang/Object;" } : Jvm.MethodName)) ∈ lw_all := lw_g (lw_at lw_m1 220 rfl) rfl
theorem q279 : (Jvm.Cond.instanceMethod ({ cls := "java/lang/Object", name := "clone", desc := "()Ljava/lang/Object;" } : Jvm.MethodName)) ∈ lw_all := lw_g (lw_at lw_m1 221 rfl) rfl
theorem q748 : (Jvm.Cond.declares ({ cls := "java/lang/Object", name := "toString", desc := "()Ljava/lang/String;" } : Jvm.MethodName)) ∈ lw_tbl := lw_at lw_m3 210 rfl
theorem q750 : (Jvm.Cond.instanceMethod ({ cls := "java/lang/Object", name := "toString", desc := "()Ljava/lang/String;" } : Jvm.MethodName)) ∈ lw_all := lw_g (lw_at lw_m3 212 rfl) rfl
theorem q751 : (Jvm.Cond.sameMethod "java/lang/Object" "java/lang/Object" "toString" "()Ljava/lang/String;") ∈ lw_all := lw_g (lw_at lw_m3 213 rfl) rfl
theorem q758 : (Jvm.Cond.instanceMethod ({ cls := "java/lang/Object", name := "getClass", desc := "()Ljava/lang/Class;" } : Jvm.MethodName)) ∈ lw_all := lw_g (lw_at lw_m3 220 rfl) rfl
theorem q759 : (Jvm.Cond.sameMethod "java/lang/Object" "java/lang/Object" "getClass" "()Ljava/lang/Class;") ∈ lw_all := lw_g (lw_at lw_m3 221 rfl) rfl
theorem q772 : (Jvm.Cond.native ({ cls := "java/lang/Object", name := "getClass", desc := "()Ljava/lang/Class;" } : Jvm.MethodName)) ∈ lw_all := lw_g (lw_at lw_m3 234 rfl) rfl
theorem q2445 : (Jvm.Cond.initialized "java/lang/Object") ∈ lw_all := lw_g (lw_at lw_m10 227 rfl) rfl
def RJ3 : String := "java/lang/IndexOutOfBoundsException"
def TJ3 : u_T := fun k => match k with
  | 0 => ("java/lang/Throwable", "cause", "Ljava/lang/Throwable;", false)
  | 1 => ("java/lang/Throwable", "stackTrace", "[Ljava/lang/StackTraceElement;", false)
  | 2 => ("java/lang/Throwable", "suppressedExceptions", "Ljava/util/List;", false)
  | 3 => ("java/lang/Throwable", "detailMessage", "Ljava/lang/String;", false)
  | 4 => ("java/lang/Throwable", "backtrace", "Ljava/lang/Object;", false)
  | _ => ("java/lang/Throwable", "depth", "I", false)
def tyJ3 : Nat → FieldType := fun k => match k with
  | 0 => .object "java/lang/Throwable"
  | 1 => .array (.object "java/lang/StackTraceElement")
  | 2 => .object "java/util/List"
  | 3 => .object "java/lang/String"
  | 4 => .object "java/lang/Object"
  | _ => .int
abbrev wsJ30 : List Cond := u_ws RJ3 TJ3 6
theorem nmJ3 : ∀ a, a < 6 → ∀ b, b < 6 → a ≠ b → (TJ3 a).2.1 ≠ (TJ3 b).2.1 := by decide +kernel
theorem tyJ3_ok : ∀ k, k < 6 → parseFieldDescriptor (TJ3 k).2.2.1 = some (tyJ3 k) := by decide +kernel
abbrev cJ3_init : ByteArray := prog_13_method_2_code
def yJ3_init : MethodName := ⟨RJ3, "<init>", "(Ljava/lang/String;)V"⟩
abbrev cJ3_init_2 : ByteArray := prog_13_method_1_code
def yJ3_init_2 : MethodName := ⟨RJ3, "<init>", "()V"⟩
theorem q62 : (Jvm.Cond.initialized "java/lang/IndexOutOfBoundsException") ∈ lw_all := lw_g (lw_at lw_m1 4 rfl) rfl
theorem q98 : (Jvm.Cond.instanceMethod ({ cls := "java/lang/IndexOutOfBoundsException", name := "<init>", desc := "(Ljava/lang/String;)V" } : Jvm.MethodName)) ∈ lw_all := lw_g (lw_at lw_m1 40 rfl) rfl
theorem q99 : (Jvm.Cond.code ({ cls := "java/lang/IndexOutOfBoundsException", name := "<init>", desc := "(Ljava/lang/String;)V" } : Jvm.MethodName) prog_13_method_2_code (2 : Nat) (Option.none : Option Jvm.ClassFile.FieldType)) ∈ lw_all := lw_g (lw_at lw_m1 41 rfl) rfl
theorem q100 : (Jvm.Cond.methodLink "java/lang/IndexOutOfBoundsException" (7 : Nat) ({ cls := "java/lang/RuntimeException", name := "<init>", desc := "(Ljava/lang/String;)V" } : Jvm.MethodName)) ∈ lw_all := lw_g (lw_at lw_m1 42 rfl) rfl
theorem q121 : (Jvm.Cond.selects "java/lang/IndexOutOfBoundsException" ({ cls := "java/lang/Throwable", name := "fillInStackTrace", desc := "()Ljava/lang/Throwable;" } : Jvm.MethodName) ({ cls := "java/lang/Throwable", name := "fillInStackTrace", desc := "()Ljava/lang/Throwable;" } : Jvm.MethodName)) ∈ lw_all := lw_g (lw_at lw_m1 63 rfl) rfl
theorem q148 : (Jvm.Cond.declares ({ cls := "java/lang/IndexOutOfBoundsException", name := "<init>", desc := "()V" } : Jvm.MethodName)) ∈ lw_tbl := lw_at lw_m1 90 rfl
theorem q149 : (Jvm.Cond.declares ({ cls := "java/lang/IndexOutOfBoundsException", name := "<init>", desc := "(Ljava/lang/String;)V" } : Jvm.MethodName)) ∈ lw_tbl := lw_at lw_m1 91 rfl
theorem q765 : (Jvm.Cond.selects "java/lang/IndexOutOfBoundsException" ({ cls := "java/lang/Object", name := "getClass", desc := "()Ljava/lang/Class;" } : Jvm.MethodName) ({ cls := "java/lang/Object", name := "getClass", desc := "()Ljava/lang/Class;" } : Jvm.MethodName)) ∈ lw_all := lw_g (lw_at lw_m3 227 rfl) rfl
theorem q778 : (Jvm.Cond.selects "java/lang/IndexOutOfBoundsException" ({ cls := "java/lang/Throwable", name := "getLocalizedMessage", desc := "()Ljava/lang/String;" } : Jvm.MethodName) ({ cls := "java/lang/Throwable", name := "getLocalizedMessage", desc := "()Ljava/lang/String;" } : Jvm.MethodName)) ∈ lw_all := lw_g (lw_at lw_m4 0 rfl) rfl
theorem q786 : (Jvm.Cond.selects "java/lang/IndexOutOfBoundsException" ({ cls := "java/lang/Throwable", name := "getMessage", desc := "()Ljava/lang/String;" } : Jvm.MethodName) ({ cls := "java/lang/Throwable", name := "getMessage", desc := "()Ljava/lang/String;" } : Jvm.MethodName)) ∈ lw_all := lw_g (lw_at lw_m4 8 rfl) rfl
theorem q796 : (Jvm.Cond.selects "java/lang/IndexOutOfBoundsException" ({ cls := "java/lang/Object", name := "toString", desc := "()Ljava/lang/String;" } : Jvm.MethodName) ({ cls := "java/lang/Throwable", name := "toString", desc := "()Ljava/lang/String;" } : Jvm.MethodName)) ∈ lw_all := lw_g (lw_at lw_m4 18 rfl) rfl
theorem q1775 : (Jvm.Cond.instantiable "java/lang/IndexOutOfBoundsException" (6 : Nat)) ∈ lw_all := lw_g (lw_at lw_m8 37 rfl) rfl
theorem q1776 : (Jvm.Cond.castable "java/lang/IndexOutOfBoundsException" "java/lang/IndexOutOfBoundsException") ∈ lw_tbl := lw_at lw_m8 38 rfl
theorem q1777 : (Jvm.Cond.selects "java/lang/IndexOutOfBoundsException" ({ cls := "java/lang/Throwable", name := "fillInStackTrace", desc := "(I)Ljava/lang/Throwable;" } : Jvm.MethodName) ({ cls := "java/lang/Throwable", name := "fillInStackTrace", desc := "(I)Ljava/lang/Throwable;" } : Jvm.MethodName)) ∈ lw_all := lw_g (lw_at lw_m8 39 rfl) rfl
theorem q1778 : (Jvm.Cond.lays "java/lang/IndexOutOfBoundsException" "java/lang/Throwable" "cause" "Ljava/lang/Throwable;") ∈ lw_all := lw_g (lw_at lw_m8 40 rfl) rfl
theorem q1779 : (Jvm.Cond.lays "java/lang/IndexOutOfBoundsException" "java/lang/Throwable" "stackTrace" "[Ljava/lang/StackTraceElement;") ∈ lw_all := lw_g (lw_at lw_m8 41 rfl) rfl
theorem q1780 : (Jvm.Cond.lays "java/lang/IndexOutOfBoundsException" "java/lang/Throwable" "suppressedExceptions" "Ljava/util/List;") ∈ lw_all := lw_g (lw_at lw_m8 42 rfl) rfl
theorem q1781 : (Jvm.Cond.lays "java/lang/IndexOutOfBoundsException" "java/lang/Throwable" "detailMessage" "Ljava/lang/String;") ∈ lw_all := lw_g (lw_at lw_m8 43 rfl) rfl
theorem q1782 : (Jvm.Cond.lays "java/lang/IndexOutOfBoundsException" "java/lang/Throwable" "backtrace" "Ljava/lang/Object;") ∈ lw_all := lw_g (lw_at lw_m8 44 rfl) rfl
theorem q1784 : (Jvm.Cond.instanceMethod ({ cls := "java/lang/IndexOutOfBoundsException", name := "<init>", desc := "()V" } : Jvm.MethodName)) ∈ lw_all := lw_g (lw_at lw_m8 46 rfl) rfl
theorem q1785 : (Jvm.Cond.code ({ cls := "java/lang/IndexOutOfBoundsException", name := "<init>", desc := "()V" } : Jvm.MethodName) prog_13_method_1_code (1 : Nat) (Option.none : Option Jvm.ClassFile.FieldType)) ∈ lw_all := lw_g (lw_at lw_m8 47 rfl) rfl
theorem q1786 : (Jvm.Cond.methodLink "java/lang/IndexOutOfBoundsException" (1 : Nat) ({ cls := "java/lang/RuntimeException", name := "<init>", desc := "()V" } : Jvm.MethodName)) ∈ lw_all := lw_g (lw_at lw_m8 48 rfl) rfl
theorem q1787 : (Jvm.Cond.lays "java/lang/IndexOutOfBoundsException" "java/lang/Throwable" "depth" "I") ∈ lw_all := lw_g (lw_at lw_m8 49 rfl) rfl
theorem q1788 : (Jvm.Cond.superclass "java/lang/IndexOutOfBoundsException" "java/lang/RuntimeException") ∈ lw_all := lw_g (lw_at lw_m8 50 rfl) rfl
def RJ4 : String := "java/lang/ArrayIndexOutOfBoundsException"
def TJ4 : u_T := fun k => match k with
  | 0 => ("java/lang/Throwable", "backtrace", "Ljava/lang/Object;", false)
  | 1 => ("java/lang/Throwable", "detailMessage", "Ljava/lang/String;", false)
  | 2 => ("java/lang/Throwable", "cause", "Ljava/lang/Throwable;", false)
  | 3 => ("java/lang/Throwable", "stackTrace", "[Ljava/lang/StackTraceElement;", false)
  | 4 => ("java/lang/Throwable", "depth", "I", false)
  | _ => ("java/lang/Throwable", "suppressedExceptions", "Ljava/util/List;", false)
def tyJ4 : Nat → FieldType := fun k => match k with
  | 0 => .object "java/lang/Object"
  | 1 => .object "java/lang/String"
  | 2 => .object "java/lang/Throwable"
  | 3 => .array (.object "java/lang/StackTraceElement")
  | 4 => .int
  | _ => .object "java/util/List"
abbrev wsJ40 : List Cond := u_ws RJ4 TJ4 6
theorem nmJ4 : ∀ a, a < 6 → ∀ b, b < 6 → a ≠ b → (TJ4 a).2.1 ≠ (TJ4 b).2.1 := by decide +kernel
theorem tyJ4_ok : ∀ k, k < 6 → parseFieldDescriptor (TJ4 k).2.2.1 = some (tyJ4 k) := by decide +kernel
abbrev cJ4_init : ByteArray := prog_4_method_2_code
def yJ4_init : MethodName := ⟨RJ4, "<init>", "(Ljava/lang/String;)V"⟩
abbrev cJ4_init_2 : ByteArray := prog_4_method_3_code
def yJ4_init_2 : MethodName := ⟨RJ4, "<init>", "(I)V"⟩
theorem q63 : (Jvm.Cond.initialized "java/lang/ArrayIndexOutOfBoundsException") ∈ lw_all := lw_g (lw_at lw_m1 5 rfl) rfl
theorem q94 : (Jvm.Cond.instantiable "java/lang/ArrayIndexOutOfBoundsException" (6 : Nat)) ∈ lw_all := lw_g (lw_at lw_m1 36 rfl) rfl
theorem q95 : (Jvm.Cond.instanceMethod ({ cls := "java/lang/ArrayIndexOutOfBoundsException", name := "<init>", desc := "(Ljava/lang/String;)V" } : Jvm.MethodName)) ∈ lw_all := lw_g (lw_at lw_m1 37 rfl) rfl
theorem q96 : (Jvm.Cond.code ({ cls := "java/lang/ArrayIndexOutOfBoundsException", name := "<init>", desc := "(Ljava/lang/String;)V" } : Jvm.MethodName) prog_4_method_2_code (2 : Nat) (Option.none : Option Jvm.ClassFile.FieldType)) ∈ lw_all := lw_g (lw_at lw_m1 38 rfl) rfl
theorem q97 : (Jvm.Cond.methodLink "java/lang/ArrayIndexOutOfBoundsException" (7 : Nat) ({ cls := "java/lang/IndexOutOfBoundsException", name := "<init>", desc := "(Ljava/lang/String;)V" } : Jvm.MethodName)) ∈ lw_all := lw_g (lw_at lw_m1 39 rfl) rfl
theorem q119 : (Jvm.Cond.selects "java/lang/ArrayIndexOutOfBoundsException" ({ cls := "java/lang/Throwable", name := "fillInStackTrace", desc := "()Ljava/lang/Throwable;" } : Jvm.MethodName) ({ cls := "java/lang/Throwable", name := "fillInStackTrace", desc := "()Ljava/lang/Throwable;" } : Jvm.MethodName)) ∈ lw_all := lw_g (lw_at lw_m1 61 rfl) rfl
theorem q134 : (Jvm.Cond.lays "java/lang/ArrayIndexOutOfBoundsException" "java/lang/Throwable" "backtrace" "Ljava/lang/Object;") ∈ lw_all := lw_g (lw_at lw_m1 76 rfl) rfl
theorem q136 : (Jvm.Cond.lays "java/lang/ArrayIndexOutOfBoundsException" "java/lang/Throwable" "detailMessage" "Ljava/lang/String;") ∈ lw_all := lw_g (lw_at lw_m1 78 rfl) rfl
theorem q138 : (Jvm.Cond.lays "java/lang/ArrayIndexOutOfBoundsException" "java/lang/Throwable" "cause" "Ljava/lang/Throwable;") ∈ lw_all := lw_g (lw_at lw_m1 80 rfl) rfl
theorem q140 : (Jvm.Cond.lays "java/lang/ArrayIndexOutOfBoundsException" "java/lang/Throwable" "stackTrace" "[Ljava/lang/StackTraceElement;") ∈ lw_all := lw_g (lw_at lw_m1 82 rfl) rfl
theorem q142 : (Jvm.Cond.lays "java/lang/ArrayIndexOutOfBoundsException" "java/lang/Throwable" "depth" "I") ∈ lw_all := lw_g (lw_at lw_m1 84 rfl) rfl
theorem q144 : (Jvm.Cond.lays "java/lang/ArrayIndexOutOfBoundsException" "java/lang/Throwable" "suppressedExceptions" "Ljava/util/List;") ∈ lw_all := lw_g (lw_at lw_m1 86 rfl) rfl
theorem q146 : (Jvm.Cond.superclass "java/lang/ArrayIndexOutOfBoundsException" "java/lang/IndexOutOfBoundsException") ∈ lw_all := lw_g (lw_at lw_m1 88 rfl) rfl
theorem q147 : (Jvm.Cond.castable "java/lang/ArrayIndexOutOfBoundsException" "java/lang/ArrayIndexOutOfBoundsException") ∈ lw_tbl := lw_at lw_m1 89 rfl
theorem q156 : (Jvm.Cond.selects "java/lang/ArrayIndexOutOfBoundsException" ({ cls := "java/lang/Throwable", name := "fillInStackTrace", desc := "(I)Ljava/lang/Throwable;" } : Jvm.MethodName) ({ cls := "java/lang/Throwable", name := "fillInStackTrace", desc := "(I)Ljava/lang/Throwable;" } : Jvm.MethodName)) ∈ lw_all := lw_g (lw_at lw_m1 98 rfl) rfl
theorem q754 : (Jvm.Cond.selects "java/lang/ArrayIndexOutOfBoundsException" ({ cls := "java/lang/Object", name := "toString", desc := "()Ljava/lang/String;" } : Jvm.MethodName) ({ cls := "java/lang/Throwable", name := "toString", desc := "()Ljava/lang/String;" } : Jvm.MethodName)) ∈ lw_all := lw_g (lw_at lw_m3 216 rfl) rfl
theorem q762 : (Jvm.Cond.selects "java/lang/ArrayIndexOutOfBoundsException" ({ cls := "java/lang/Object", name := "getClass", desc := "()Ljava/lang/Class;" } : Jvm.MethodName) ({ cls := "java/lang/Object", name := "getClass", desc := "()Ljava/lang/Class;" } : Jvm.MethodName)) ∈ lw_all := lw_g (lw_at lw_m3 224 rfl) rfl
theorem q776 : (Jvm.Cond.selects "java/lang/ArrayIndexOutOfBoundsException" ({ cls := "java/lang/Throwable", name := "getLocalizedMessage", desc := "()Ljava/lang/String;" } : Jvm.MethodName) ({ cls := "java/lang/Throwable", name := "getLocalizedMessage", desc := "()Ljava/lang/String;" } : Jvm.MethodName)) ∈ lw_all := lw_g (lw_at lw_m3 238 rfl) rfl
theorem q784 : (Jvm.Cond.selects "java/lang/ArrayIndexOutOfBoundsException" ({ cls := "java/lang/Throwable", name := "getMessage", desc := "()Ljava/lang/String;" } : Jvm.MethodName) ({ cls := "java/lang/Throwable", name := "getMessage", desc := "()Ljava/lang/String;" } : Jvm.MethodName)) ∈ lw_all := lw_g (lw_at lw_m4 6 rfl) rfl
theorem q1143 : (Jvm.Cond.instanceMethod ({ cls := "java/lang/ArrayIndexOutOfBoundsException", name := "<init>", desc := "(I)V" } : Jvm.MethodName)) ∈ lw_all := lw_g (lw_at lw_m5 125 rfl) rfl
theorem q1144 : (Jvm.Cond.code ({ cls := "java/lang/ArrayIndexOutOfBoundsException", name := "<init>", desc := "(I)V" } : Jvm.MethodName) prog_4_method_3_code (2 : Nat) (Option.none : Option Jvm.ClassFile.FieldType)) ∈ lw_all := lw_g (lw_at lw_m5 126 rfl) rfl
theorem q1145 : (Jvm.Cond.classLink "java/lang/ArrayIndexOutOfBoundsException" (10 : Nat) "java/lang/StringBuilder") ∈ lw_all := lw_g (lw_at lw_m5 127 rfl) rfl
theorem q1146 : (Jvm.Cond.methodLink "java/lang/ArrayIndexOutOfBoundsException" (12 : Nat) ({ cls := "java/lang/StringBuilder", name := "<init>", desc := "()V" } : Jvm.MethodName)) ∈ lw_all := lw_g (lw_at lw_m5 128 rfl) rfl
theorem q1147 : (Jvm.Cond.stringRef "java/lang/ArrayIndexOutOfBoundsException" (13 : Nat) "Array index out of range: ") ∈ lw_tbl := lw_at lw_m5 129 rfl
theorem q1148 : (Jvm.Cond.methodLink "java/lang/ArrayIndexOutOfBoundsException" (15 : Nat) ({ cls := "java/lang/StringBuilder", name := "append", desc := "(Ljava/lang/String;)Ljava/lang/StringBuilder;" } : Jvm.MethodName)) ∈ lw_all := lw_g (lw_at lw_m5 130 rfl) rfl
theorem q1149 : (Jvm.Cond.methodLink "java/lang/ArrayIndexOutOfBoundsException" (19 : Nat) ({ cls := "java/lang/StringBuilder", name := "append", desc := "(I)Ljava/lang/StringBuilder;" } : Jvm.MethodName)) ∈ lw_all := lw_g (lw_at lw_m5 131 rfl) rfl
theorem q1150 : (Jvm.Cond.methodLink "java/lang/ArrayIndexOutOfBoundsException" (22 : Nat) ({ cls := "java/lang/StringBuilder", name := "toString", desc := "()Ljava/lang/String;" } : Jvm.MethodName)) ∈ lw_all := lw_g (lw_at lw_m5 132 rfl) rfl
theorem q2446 : (Jvm.Cond.castable "java/lang/ArrayIndexOutOfBoundsException" "java/lang/IndexOutOfBoundsException") ∈ lw_tbl := lw_at lw_m10 228 rfl
def RJ5 : String := "java/lang/String"
def TJ5 : u_T := fun k => match k with
  | 0 => ("java/lang/String", "value", "[B", true)
  | 1 => ("java/lang/String", "coder", "B", true)
  | 2 => ("java/lang/String", "hash", "I", false)
  | _ => ("java/lang/String", "hashIsZero", "Z", false)
def tyJ5 : Nat → FieldType := fun k => match k with
  | 0 => .array .byte
  | 1 => .byte
  | 2 => .int
  | _ => .boolean
abbrev wsJ50 : List Cond := u_ws RJ5 TJ5 4
theorem nmJ5 : ∀ a, a < 4 → ∀ b, b < 4 → a ≠ b → (TJ5 a).2.1 ≠ (TJ5 b).2.1 := by decide +kernel
theorem tyJ5_ok : ∀ k, k < 4 → parseFieldDescriptor (TJ5 k).2.2.1 = some (tyJ5 k) := by decide +kernel
abbrev cJ5_length : ByteArray := prog_21_method_54_code
def yJ5_length : MethodName := ⟨RJ5, "length", "()I"⟩
abbrev cJ5_coder : ByteArray := prog_21_method_152_code
def yJ5_coder : MethodName := ⟨RJ5, "coder", "()B"⟩
abbrev cJ5_checkBoundsBeginEnd : ByteArray := prog_21_method_158_code
def yJ5_checkBoundsBeginEnd : MethodName := ⟨RJ5, "checkBoundsBeginEnd", "(III)V"⟩
abbrev cJ5_checkBoundsOffCount : ByteArray := prog_21_method_157_code
def yJ5_checkBoundsOffCount : MethodName := ⟨RJ5, "checkBoundsOffCount", "(III)I"⟩
abbrev cJ5_getBytes : ByteArray := prog_21_method_147_code
def yJ5_getBytes : MethodName := ⟨RJ5, "getBytes", "([BIB)V"⟩
abbrev cJ5_init : ByteArray := prog_21_method_53_code
def yJ5_init : MethodName := ⟨RJ5, "<init>", "(Ljava/lang/StringBuilder;)V"⟩
abbrev cJ5_init_2 : ByteArray := prog_21_method_150_code
def yJ5_init_2 : MethodName := ⟨RJ5, "<init>", "(Ljava/lang/AbstractStringBuilder;Ljava/lang/Void;)V"⟩
abbrev cJ5_charAt : ByteArray := prog_21_method_56_code
def yJ5_charAt : MethodName := ⟨RJ5, "charAt", "(I)C"⟩
abbrev cJ5_isLatin1 : ByteArray := prog_21_method_154_code
def yJ5_isLatin1 : MethodName := ⟨RJ5, "isLatin1", "()Z"⟩
abbrev cJ5_checkIndex : ByteArray := prog_21_method_155_code
def yJ5_checkIndex : MethodName := ⟨RJ5, "checkIndex", "(II)V"⟩
abbrev cJ5_indexOf : ByteArray := prog_21_method_79_code
def yJ5_indexOf : MethodName := ⟨RJ5, "indexOf", "(I)I"⟩
abbrev cJ5_indexOf_2 : ByteArray := prog_21_method_80_code
def yJ5_indexOf_2 : MethodName := ⟨RJ5, "indexOf", "(II)I"⟩
abbrev cJ5_subSequence : ByteArray := prog_21_method_93_code
def yJ5_subSequence : MethodName := ⟨RJ5, "subSequence", "(II)Ljava/lang/CharSequence;"⟩
abbrev cJ5_substring : ByteArray := prog_21_method_92_code
def yJ5_substring : MethodName := ⟨RJ5, "substring", "(II)Ljava/lang/String;"⟩
abbrev cJ5_init_3 : ByteArray := prog_21_method_151_code
def yJ5_init_3 : MethodName := ⟨RJ5, "<init>", "([BB)V"⟩
abbrev cJ5_valueOf : ByteArray := prog_21_method_133_code
def yJ5_valueOf : MethodName := ⟨RJ5, "valueOf", "(Ljava/lang/Object;)Ljava/lang/String;"⟩
abbrev cJ5_toString : ByteArray := prog_21_method_126_code
def yJ5_toString : MethodName := ⟨RJ5, "toString", "()Ljava/lang/String;"⟩
abbrev cJ5_value : ByteArray := prog_21_method_153_code
def yJ5_value : MethodName := ⟨RJ5, "value", "()[B"⟩
abbrev cJ5_repeat : ByteArray := prog_21_method_145_code
def yJ5_repeat : MethodName := ⟨RJ5, "repeat", "(I)Ljava/lang/String;"⟩
abbrev cJ5_repeatCopyRest : ByteArray := prog_21_method_146_code
def yJ5_repeatCopyRest : MethodName := ⟨RJ5, "repeatCopyRest", "([BIII)V"⟩
abbrev cJ5_checkOffset : ByteArray := prog_21_method_156_code
def yJ5_checkOffset : MethodName := ⟨RJ5, "checkOffset", "(II)V"⟩
abbrev cJ5_indexOf_3 : ByteArray := prog_21_method_87_code
def yJ5_indexOf_3 : MethodName := ⟨RJ5, "indexOf", "([BBILjava/lang/String;I)I"⟩
abbrev cJ5_lastIndexOf : ByteArray := prog_21_method_82_code
def yJ5_lastIndexOf : MethodName := ⟨RJ5, "lastIndexOf", "(I)I"⟩
abbrev cJ5_lastIndexOf_2 : ByteArray := prog_21_method_83_code
def yJ5_lastIndexOf_2 : MethodName := ⟨RJ5, "lastIndexOf", "(II)I"⟩
abbrev cJ5_substring_2 : ByteArray := prog_21_method_91_code
def yJ5_substring_2 : MethodName := ⟨RJ5, "substring", "(I)Ljava/lang/String;"⟩
abbrev cJ5_equals : ByteArray := prog_21_method_66_code
def yJ5_equals : MethodName := ⟨RJ5, "equals", "(Ljava/lang/Object;)Z"⟩
abbrev cJ5_startsWith : ByteArray := prog_21_method_76_code
def yJ5_startsWith : MethodName := ⟨RJ5, "startsWith", "(Ljava/lang/String;)Z"⟩
abbrev cJ5_startsWith_2 : ByteArray := prog_21_method_75_code
def yJ5_startsWith_2 : MethodName := ⟨RJ5, "startsWith", "(Ljava/lang/String;I)Z"⟩
abbrev cJ5_endsWith : ByteArray := prog_21_method_77_code
def yJ5_endsWith : MethodName := ⟨RJ5, "endsWith", "(Ljava/lang/String;)Z"⟩
theorem q64 : (Jvm.Cond.initialized "java/lang/String") ∈ lw_all := lw_g (lw_at lw_m1 6 rfl) rfl
theorem q166 : (Jvm.Cond.instantiable "java/lang/String" (4 : Nat)) ∈ lw_all := lw_g (lw_at lw_m1 108 rfl) rfl
theorem q168 : (Jvm.Cond.laysFinal "java/lang/String" "java/lang/String" "value" "[B") ∈ lw_all := lw_g (lw_at lw_m1 110 rfl) rfl
theorem q169 : (Jvm.Cond.soleField "java/lang/String" "value") ∈ lw_all := lw_g (lw_at lw_m1 111 rfl) rfl
theorem q170 : (Jvm.Cond.laysFinal "java/lang/String" "java/lang/String" "coder" "B") ∈ lw_all := lw_g (lw_at lw_m1 112 rfl) rfl
theorem q171 : (Jvm.Cond.soleField "java/lang/String" "coder") ∈ lw_all := lw_g (lw_at lw_m1 113 rfl) rfl
theorem q219 : (Jvm.Cond.instanceMethod ({ cls := "java/lang/String", name := "length", desc := "()I" } : Jvm.MethodName)) ∈ lw_all := lw_g (lw_at lw_m1 161 rfl) rfl
theorem q220 : (Jvm.Cond.selects "java/lang/String" ({ cls := "java/lang/String", name := "length", desc := "()I" } : Jvm.MethodName) ({ cls := "java/lang/String", name := "length", desc := "()I" } : Jvm.MethodName)) ∈ lw_all := lw_g (lw_at lw_m1 162 rfl) rfl
theorem q221 : (Jvm.Cond.code ({ cls := "java/lang/String", name := "length", desc := "()I" } : Jvm.MethodName) prog_21_method_54_code (1 : Nat) (Option.some Jvm.ClassFile.FieldType.int)) ∈ lw_all := lw_g (lw_at lw_m1 163 rfl) rfl
theorem q222 : (Jvm.Cond.methodLink "java/lang/String" (335 : Nat) ({ cls := "java/lang/String", name := "coder", desc := "()B" } : Jvm.MethodName)) ∈ lw_all := lw_g (lw_at lw_m1 164 rfl) rfl
theorem q223 : (Jvm.Cond.instanceMethod ({ cls := "java/lang/String", name := "coder", desc := "()B" } : Jvm.MethodName)) ∈ lw_all := lw_g (lw_at lw_m1 165 rfl) rfl
theorem q224 : (Jvm.Cond.selects "java/lang/String" ({ cls := "java/lang/String", name := "coder", desc := "()B" } : Jvm.MethodName) ({ cls := "java/lang/String", name := "coder", desc := "()B" } : Jvm.MethodName)) ∈ lw_all := lw_g (lw_at lw_m1 166 rfl) rfl
theorem q225 : (Jvm.Cond.code ({ cls := "java/lang/String", name := "coder", desc := "()B" } : Jvm.MethodName) prog_21_method_152_code (1 : Nat) (Option.some Jvm.ClassFile.FieldType.byte)) ∈ lw_all := lw_g (lw_at lw_m1 167 rfl) rfl
theorem q226 : (Jvm.Cond.fieldLink "java/lang/String" (38 : Nat) "java/lang/String" "COMPACT_STRINGS" "Z") ∈ lw_all := lw_g (lw_at lw_m1 168 rfl) rfl
theorem q227 : (Jvm.Cond.laysStatic "java/lang/String" "COMPACT_STRINGS" "Z") ∈ lw_tbl := lw_at lw_m1 169 rfl
theorem q305 : (Jvm.Cond.static ({ cls := "java/lang/String", name := "checkBoundsBeginEnd", desc := "(III)V" } : Jvm.MethodName)) ∈ lw_all := lw_g (lw_at lw_m2 7 rfl) rfl
theorem q306 : (Jvm.Cond.code ({ cls := "java/lang/String", name := "checkBoundsBeginEnd", desc := "(III)V" } : Jvm.MethodName) prog_21_method_158_code (3 : Nat) (Option.none : Option Jvm.ClassFile.FieldType)) ∈ lw_all := lw_g (lw_at lw_m2 8 rfl) rfl
theorem q307 : (Jvm.Cond.fieldLink "java/lang/String" (1053 : Nat) "jdk/internal/util/Preconditions" "SIOOBE_FORMATTER" "Ljava/util/function/BiFunction;") ∈ lw_all := lw_g (lw_at lw_m2 9 rfl) rfl
theorem q309 : (Jvm.Cond.methodLink "java/lang/String" (1062 : Nat) ({ cls := "jdk/internal/util/Preconditions", name := "checkFromToIndex", desc := "(IIILjava/util/function/BiFunction;)I" } : Jvm.MethodName)) ∈ lw_all := lw_g (lw_at lw_m2 11 rfl) rfl
theorem q343 : (Jvm.Cond.static ({ cls := "java/lang/String", name := "checkBoundsOffCount", desc := "(III)I" } : Jvm.MethodName)) ∈ lw_all := lw_g (lw_at lw_m2 45 rfl) rfl
theorem q344 : (Jvm.Cond.code ({ cls := "java/lang/String", name := "checkBoundsOffCount", desc := "(III)I" } : Jvm.MethodName) prog_21_method_157_code (3 : Nat) (Option.some Jvm.ClassFile.FieldType.int)) ∈ lw_all := lw_g (lw_at lw_m2 46 rfl) rfl
theorem q345 : (Jvm.Cond.methodLink "java/lang/String" (1065 : Nat) ({ cls := "jdk/internal/util/Preconditions", name := "checkFromIndexSize", desc := "(IIILjava/util/function/BiFunction;)I" } : Jvm.MethodName)) ∈ lw_all := lw_g (lw_at lw_m2 47 rfl) rfl
theorem q349 : (Jvm.Cond.instanceMethod ({ cls := "java/lang/String", name := "getBytes", desc := "([BIB)V" } : Jvm.MethodName)) ∈ lw_all := lw_g (lw_at lw_m2 51 rfl) rfl
theorem q350 : (Jvm.Cond.selects "java/lang/String" ({ cls := "java/lang/String", name := "getBytes", desc := "([BIB)V" } : Jvm.MethodName) ({ cls := "java/lang/String", name := "getBytes", desc := "([BIB)V" } : Jvm.MethodName)) ∈ lw_all := lw_g (lw_at lw_m2 52 rfl) rfl
theorem q351 : (Jvm.Cond.code ({ cls := "java/lang/String", name := "getBytes", desc := "([BIB)V" } : Jvm.MethodName) prog_21_method_147_code (4 : Nat) (Option.none : Option Jvm.ClassFile.FieldType)) ∈ lw_all := lw_g (lw_at lw_m2 53 rfl) rfl
theorem q352 : (Jvm.Cond.methodLink "java/lang/String" (212 : Nat) ({ cls := "java/lang/System", name := "arraycopy", desc := "(Ljava/lang/Object;ILjava/lang/Object;II)V" } : Jvm.MethodName)) ∈ lw_all := lw_g (lw_at lw_m2 54 rfl) rfl
theorem q353 : (Jvm.Cond.methodLink "java/lang/String" (106 : Nat) ({ cls := "java/lang/StringLatin1", name := "inflate", desc := "([BI[BII)V" } : Jvm.MethodName)) ∈ lw_all := lw_g (lw_at lw_m2 55 rfl) rfl
theorem q357 : (Jvm.Cond.fieldLink "java/lang/String" (1048 : Nat) "java/lang/AbstractStringBuilder" "maybeLatin1" "Z") ∈ lw_all := lw_g (lw_at lw_m2 59 rfl) rfl
theorem q455 : (Jvm.Cond.instanceMethod ({ cls := "java/lang/String", name := "<init>", desc := "(Ljava/lang/StringBuilder;)V" } : Jvm.MethodName)) ∈ lw_all := lw_g (lw_at lw_m2 157 rfl) rfl
theorem q456 : (Jvm.Cond.code ({ cls := "java/lang/String", name := "<init>", desc := "(Ljava/lang/StringBuilder;)V" } : Jvm.MethodName) prog_21_method_53_code (2 : Nat) (Option.none : Option Jvm.ClassFile.FieldType)) ∈ lw_all := lw_g (lw_at lw_m2 158 rfl) rfl
theorem q457 : (Jvm.Cond.methodLink "java/lang/String" (489 : Nat) ({ cls := "java/lang/String", name := "<init>", desc := "(Ljava/lang/AbstractStringBuilder;Ljava/lang/Void;)V" } : Jvm.MethodName)) ∈ lw_all := lw_g (lw_at lw_m2 159 rfl) rfl
theorem q458 : (Jvm.Cond.instanceMethod ({ cls := "java/lang/String", name := "<init>", desc := "(Ljava/lang/AbstractStringBuilder;Ljava/lang/Void;)V" } : Jvm.MethodName)) ∈ lw_all := lw_g (lw_at lw_m2 160 rfl) rfl
theorem q459 : (Jvm.Cond.code ({ cls := "java/lang/String", name := "<init>", desc := "(Ljava/lang/AbstractStringBuilder;Ljava/lang/Void;)V" } : Jvm.MethodName) prog_21_method_150_code (5 : Nat) (Option.none : Option Jvm.ClassFile.FieldType)) ∈ lw_all := lw_g (lw_at lw_m2 161 rfl) rfl
theorem q460 : (Jvm.Cond.methodLink "java/lang/String" (1 : Nat) ({ cls := "java/lang/Object", name := "<init>", desc := "()V" } : Jvm.MethodName)) ∈ lw_all := lw_g (lw_at lw_m2 162 rfl) rfl
theorem q461 : (Jvm.Cond.methodLink "java/lang/String" (552 : Nat) ({ cls := "java/lang/AbstractStringBuilder", name := "getValue", desc := "()[B" } : Jvm.MethodName)) ∈ lw_all := lw_g (lw_at lw_m2 163 rfl) rfl
theorem q466 : (Jvm.Cond.methodLink "java/lang/String" (549 : Nat) ({ cls := "java/lang/AbstractStringBuilder", name := "length", desc := "()I" } : Jvm.MethodName)) ∈ lw_all := lw_g (lw_at lw_m2 168 rfl) rfl
theorem q474 : (Jvm.Cond.methodLink "java/lang/String" (1047 : Nat) ({ cls := "java/lang/AbstractStringBuilder", name := "isLatin1", desc := "()Z" } : Jvm.MethodName)) ∈ lw_all := lw_g (lw_at lw_m2 176 rfl) rfl
theorem q475 : (Jvm.Cond.methodLink "java/lang/String" (54 : Nat) ({ cls := "java/util/Arrays", name := "copyOfRange", desc := "([BII)[B" } : Jvm.MethodName)) ∈ lw_all := lw_g (lw_at lw_m2 177 rfl) rfl
theorem q510 : (Jvm.Cond.methodLink "java/lang/String" (1051 : Nat) ({ cls := "java/lang/StringUTF16", name := "compress", desc := "([BII)[B" } : Jvm.MethodName)) ∈ lw_all := lw_g (lw_at lw_m2 212 rfl) rfl
theorem q520 : (Jvm.Cond.methodLink "java/lang/String" (47 : Nat) ({ cls := "java/lang/StringUTF16", name := "coderFromArrayLen", desc := "([BI)B" } : Jvm.MethodName)) ∈ lw_all := lw_g (lw_at lw_m2 222 rfl) rfl
theorem q523 : (Jvm.Cond.fieldLink "java/lang/String" (9 : Nat) "java/lang/String" "value" "[B") ∈ lw_all := lw_g (lw_at lw_m2 225 rfl) rfl
theorem q524 : (Jvm.Cond.fieldLink "java/lang/String" (15 : Nat) "java/lang/String" "coder" "B") ∈ lw_all := lw_g (lw_at lw_m2 226 rfl) rfl
theorem q525 : (Jvm.Cond.fieldLink "java/lang/String" (19 : Nat) "java/lang/String" "hash" "I") ∈ lw_all := lw_g (lw_at lw_m2 227 rfl) rfl
theorem q526 : (Jvm.Cond.fieldLink "java/lang/String" (23 : Nat) "java/lang/String" "hashIsZero" "Z") ∈ lw_all := lw_g (lw_at lw_m2 228 rfl) rfl
theorem q527 : (Jvm.Cond.lays "java/lang/String" "java/lang/String" "hash" "I") ∈ lw_all := lw_g (lw_at lw_m2 229 rfl) rfl
theorem q528 : (Jvm.Cond.soleField "java/lang/String" "hash") ∈ lw_all := lw_g (lw_at lw_m2 230 rfl) rfl
theorem q529 : (Jvm.Cond.lays "java/lang/String" "java/lang/String" "hashIsZero" "Z") ∈ lw_all := lw_g (lw_at lw_m2 231 rfl) rfl
theorem q530 : (Jvm.Cond.soleField "java/lang/String" "hashIsZero") ∈ lw_all := lw_g (lw_at lw_m2 232 rfl) rfl
theorem q531 : (Jvm.Cond.superclass "java/lang/String" "java/lang/Object") ∈ lw_all := lw_g (lw_at lw_m2 233 rfl) rfl
theorem q539 : (Jvm.Cond.instanceMethod ({ cls := "java/lang/String", name := "charAt", desc := "(I)C" } : Jvm.MethodName)) ∈ lw_all := lw_g (lw_at lw_m3 1 rfl) rfl
theorem q540 : (Jvm.Cond.selects "java/lang/String" ({ cls := "java/lang/String", name := "charAt", desc := "(I)C" } : Jvm.MethodName) ({ cls := "java/lang/String", name := "charAt", desc := "(I)C" } : Jvm.MethodName)) ∈ lw_all := lw_g (lw_at lw_m3 2 rfl) rfl
theorem q541 : (Jvm.Cond.code ({ cls := "java/lang/String", name := "charAt", desc := "(I)C" } : Jvm.MethodName) prog_21_method_56_code (2 : Nat) (Option.some Jvm.ClassFile.FieldType.char)) ∈ lw_all := lw_g (lw_at lw_m3 3 rfl) rfl
theorem q542 : (Jvm.Cond.methodLink "java/lang/String" (492 : Nat) ({ cls := "java/lang/String", name := "isLatin1", desc := "()Z" } : Jvm.MethodName)) ∈ lw_all := lw_g (lw_at lw_m3 4 rfl) rfl
theorem q543 : (Jvm.Cond.instanceMethod ({ cls := "java/lang/String", name := "isLatin1", desc := "()Z" } : Jvm.MethodName)) ∈ lw_all := lw_g (lw_at lw_m3 5 rfl) rfl
theorem q544 : (Jvm.Cond.selects "java/lang/String" ({ cls := "java/lang/String", name := "isLatin1", desc := "()Z" } : Jvm.MethodName) ({ cls := "java/lang/String", name := "isLatin1", desc := "()Z" } : Jvm.MethodName)) ∈ lw_all := lw_g (lw_at lw_m3 6 rfl) rfl
theorem q545 : (Jvm.Cond.code ({ cls := "java/lang/String", name := "isLatin1", desc := "()Z" } : Jvm.MethodName) prog_21_method_154_code (1 : Nat) (Option.some Jvm.ClassFile.FieldType.boolean)) ∈ lw_all := lw_g (lw_at lw_m3 7 rfl) rfl
theorem q546 : (Jvm.Cond.methodLink "java/lang/String" (495 : Nat) ({ cls := "java/lang/StringLatin1", name := "charAt", desc := "([BI)C" } : Jvm.MethodName)) ∈ lw_all := lw_g (lw_at lw_m3 8 rfl) rfl
theorem q550 : (Jvm.Cond.static ({ cls := "java/lang/String", name := "checkIndex", desc := "(II)V" } : Jvm.MethodName)) ∈ lw_all := lw_g (lw_at lw_m3 12 rfl) rfl
theorem q551 : (Jvm.Cond.code ({ cls := "java/lang/String", name := "checkIndex", desc := "(II)V" } : Jvm.MethodName) prog_21_method_155_code (2 : Nat) (Option.none : Option Jvm.ClassFile.FieldType)) ∈ lw_all := lw_g (lw_at lw_m3 13 rfl) rfl
theorem q552 : (Jvm.Cond.methodLink "java/lang/String" (1059 : Nat) ({ cls := "jdk/internal/util/Preconditions", name := "checkIndex", desc := "(IILjava/util/function/BiFunction;)I" } : Jvm.MethodName)) ∈ lw_all := lw_g (lw_at lw_m3 14 rfl) rfl
theorem q555 : (Jvm.Cond.methodLink "java/lang/String" (498 : Nat) ({ cls := "java/lang/StringUTF16", name := "charAt", desc := "([BI)C" } : Jvm.MethodName)) ∈ lw_all := lw_g (lw_at lw_m3 17 rfl) rfl
theorem q566 : (Jvm.Cond.instanceMethod ({ cls := "java/lang/String", name := "indexOf", desc := "(I)I" } : Jvm.MethodName)) ∈ lw_all := lw_g (lw_at lw_m3 28 rfl) rfl
theorem q567 : (Jvm.Cond.selects "java/lang/String" ({ cls := "java/lang/String", name := "indexOf", desc := "(I)I" } : Jvm.MethodName) ({ cls := "java/lang/String", name := "indexOf", desc := "(I)I" } : Jvm.MethodName)) ∈ lw_all := lw_g (lw_at lw_m3 29 rfl) rfl
theorem q568 : (Jvm.Cond.code ({ cls := "java/lang/String", name := "indexOf", desc := "(I)I" } : Jvm.MethodName) prog_21_method_79_code (2 : Nat) (Option.some Jvm.ClassFile.FieldType.int)) ∈ lw_all := lw_g (lw_at lw_m3 30 rfl) rfl
theorem q569 : (Jvm.Cond.methodLink "java/lang/String" (633 : Nat) ({ cls := "java/lang/String", name := "indexOf", desc := "(II)I" } : Jvm.MethodName)) ∈ lw_all := lw_g (lw_at lw_m3 31 rfl) rfl
theorem q570 : (Jvm.Cond.instanceMethod ({ cls := "java/lang/String", name := "indexOf", desc := "(II)I" } : Jvm.MethodName)) ∈ lw_all := lw_g (lw_at lw_m3 32 rfl) rfl
theorem q571 : (Jvm.Cond.selects "java/lang/String" ({ cls := "java/lang/String", name := "indexOf", desc := "(II)I" } : Jvm.MethodName) ({ cls := "java/lang/String", name := "indexOf", desc := "(II)I" } : Jvm.MethodName)) ∈ lw_all := lw_g (lw_at lw_m3 33 rfl) rfl
theorem q572 : (Jvm.Cond.code ({ cls := "java/lang/String", name := "indexOf", desc := "(II)I" } : Jvm.MethodName) prog_21_method_80_code (3 : Nat) (Option.some Jvm.ClassFile.FieldType.int)) ∈ lw_all := lw_g (lw_at lw_m3 34 rfl) rfl
theorem q573 : (Jvm.Cond.methodLink "java/lang/String" (505 : Nat) ({ cls := "java/lang/String", name := "length", desc := "()I" } : Jvm.MethodName)) ∈ lw_all := lw_g (lw_at lw_m3 35 rfl) rfl
theorem q574 : (Jvm.Cond.methodLink "java/lang/String" (637 : Nat) ({ cls := "java/lang/StringLatin1", name := "indexOf", desc := "([BIII)I" } : Jvm.MethodName)) ∈ lw_all := lw_g (lw_at lw_m3 36 rfl) rfl
theorem q585 : (Jvm.Cond.methodLink "java/lang/String" (640 : Nat) ({ cls := "java/lang/StringUTF16", name := "indexOf", desc := "([BIII)I" } : Jvm.MethodName)) ∈ lw_all := lw_g (lw_at lw_m3 47 rfl) rfl
theorem q621 : (Jvm.Cond.castable "java/lang/String" "java/lang/CharSequence") ∈ lw_tbl := lw_at lw_m3 83 rfl
theorem q622 : (Jvm.Cond.selects "java/lang/String" ({ cls := "java/lang/CharSequence", name := "length", desc := "()I" } : Jvm.MethodName) ({ cls := "java/lang/String", name := "length", desc := "()I" } : Jvm.MethodName)) ∈ lw_all := lw_g (lw_at lw_m3 84 rfl) rfl
theorem q623 : (Jvm.Cond.unhidden "java/lang/String" "length" "()I") ∈ lw_tbl := lw_at lw_m3 85 rfl
theorem q624 : (Jvm.Cond.publicMethod ({ cls := "java/lang/String", name := "length", desc := "()I" } : Jvm.MethodName)) ∈ lw_tbl := lw_at lw_m3 86 rfl
theorem q663 : (Jvm.Cond.selects "java/lang/String" ({ cls := "java/lang/CharSequence", name := "charAt", desc := "(I)C" } : Jvm.MethodName) ({ cls := "java/lang/String", name := "charAt", desc := "(I)C" } : Jvm.MethodName)) ∈ lw_all := lw_g (lw_at lw_m3 125 rfl) rfl
theorem q664 : (Jvm.Cond.unhidden "java/lang/String" "charAt" "(I)C") ∈ lw_tbl := lw_at lw_m3 126 rfl
theorem q665 : (Jvm.Cond.publicMethod ({ cls := "java/lang/String", name := "charAt", desc := "(I)C" } : Jvm.MethodName)) ∈ lw_tbl := lw_at lw_m3 127 rfl
theorem q692 : (Jvm.Cond.selects "java/lang/String" ({ cls := "java/lang/CharSequence", name := "subSequence", desc := "(II)Ljava/lang/CharSequence;" } : Jvm.MethodName) ({ cls := "java/lang/String", name := "subSequence", desc := "(II)Ljava/lang/CharSequence;" } : Jvm.MethodName)) ∈ lw_all := lw_g (lw_at lw_m3 154 rfl) rfl
theorem q693 : (Jvm.Cond.unhidden "java/lang/String" "subSequence" "(II)Ljava/lang/CharSequence;") ∈ lw_tbl := lw_at lw_m3 155 rfl
theorem q694 : (Jvm.Cond.instanceMethod ({ cls := "java/lang/String", name := "subSequence", desc := "(II)Ljava/lang/CharSequence;" } : Jvm.MethodName)) ∈ lw_all := lw_g (lw_at lw_m3 156 rfl) rfl
theorem q695 : (Jvm.Cond.publicMethod ({ cls := "java/lang/String", name := "subSequence", desc := "(II)Ljava/lang/CharSequence;" } : Jvm.MethodName)) ∈ lw_tbl := lw_at lw_m3 157 rfl
theorem q696 : (Jvm.Cond.code ({ cls := "java/lang/String", name := "subSequence", desc := "(II)Ljava/lang/CharSequence;" } : Jvm.MethodName) prog_21_method_93_code (3 : Nat) (Option.some (Jvm.ClassFile.FieldType.object "java/lang/CharSequence"))) ∈ lw_all := lw_g (lw_at lw_m3 158 rfl) rfl
theorem q697 : (Jvm.Cond.methodLink "java/lang/String" (681 : Nat) ({ cls := "java/lang/String", name := "substring", desc := "(II)Ljava/lang/String;" } : Jvm.MethodName)) ∈ lw_all := lw_g (lw_at lw_m3 159 rfl) rfl
theorem q698 : (Jvm.Cond.instanceMethod ({ cls := "java/lang/String", name := "substring", desc := "(II)Ljava/lang/String;" } : Jvm.MethodName)) ∈ lw_all := lw_g (lw_at lw_m3 160 rfl) rfl
theorem q699 : (Jvm.Cond.selects "java/lang/String" ({ cls := "java/lang/String", name := "substring", desc := "(II)Ljava/lang/String;" } : Jvm.MethodName) ({ cls := "java/lang/String", name := "substring", desc := "(II)Ljava/lang/String;" } : Jvm.MethodName)) ∈ lw_all := lw_g (lw_at lw_m3 161 rfl) rfl
theorem q700 : (Jvm.Cond.code ({ cls := "java/lang/String", name := "substring", desc := "(II)Ljava/lang/String;" } : Jvm.MethodName) prog_21_method_92_code (5 : Nat) (Option.some (Jvm.ClassFile.FieldType.object "java/lang/String"))) ∈ lw_all := lw_g (lw_at lw_m3 162 rfl) rfl
theorem q701 : (Jvm.Cond.methodLink "java/lang/String" (521 : Nat) ({ cls := "java/lang/String", name := "checkBoundsBeginEnd", desc := "(III)V" } : Jvm.MethodName)) ∈ lw_all := lw_g (lw_at lw_m3 163 rfl) rfl
theorem q702 : (Jvm.Cond.methodLink "java/lang/String" (685 : Nat) ({ cls := "java/lang/StringLatin1", name := "newString", desc := "([BII)Ljava/lang/String;" } : Jvm.MethodName)) ∈ lw_all := lw_g (lw_at lw_m3 164 rfl) rfl
theorem q709 : (Jvm.Cond.instanceMethod ({ cls := "java/lang/String", name := "<init>", desc := "([BB)V" } : Jvm.MethodName)) ∈ lw_all := lw_g (lw_at lw_m3 171 rfl) rfl
theorem q710 : (Jvm.Cond.code ({ cls := "java/lang/String", name := "<init>", desc := "([BB)V" } : Jvm.MethodName) prog_21_method_151_code (3 : Nat) (Option.none : Option Jvm.ClassFile.FieldType)) ∈ lw_all := lw_g (lw_at lw_m3 172 rfl) rfl
theorem q711 : (Jvm.Cond.methodLink "java/lang/String" (689 : Nat) ({ cls := "java/lang/StringUTF16", name := "newString", desc := "([BII)Ljava/lang/String;" } : Jvm.MethodName)) ∈ lw_all := lw_g (lw_at lw_m3 173 rfl) rfl
theorem q745 : (Jvm.Cond.static ({ cls := "java/lang/String", name := "valueOf", desc := "(Ljava/lang/Object;)Ljava/lang/String;" } : Jvm.MethodName)) ∈ lw_all := lw_g (lw_at lw_m3 207 rfl) rfl
theorem q746 : (Jvm.Cond.code ({ cls := "java/lang/String", name := "valueOf", desc := "(Ljava/lang/Object;)Ljava/lang/String;" } : Jvm.MethodName) prog_21_method_133_code (1 : Nat) (Option.some (Jvm.ClassFile.FieldType.object "java/lang/String"))) ∈ lw_all := lw_g (lw_at lw_m3 208 rfl) rfl
theorem q747 : (Jvm.Cond.stringRef "java/lang/String" (1005 : Nat) "null") ∈ lw_tbl := lw_at lw_m3 209 rfl
theorem q749 : (Jvm.Cond.methodLink "java/lang/String" (1007 : Nat) ({ cls := "java/lang/Object", name := "toString", desc := "()Ljava/lang/String;" } : Jvm.MethodName)) ∈ lw_all := lw_g (lw_at lw_m3 211 rfl) rfl
theorem q767 : (Jvm.Cond.selects "java/lang/String" ({ cls := "java/lang/Object", name := "getClass", desc := "()Ljava/lang/Class;" } : Jvm.MethodName) ({ cls := "java/lang/Object", name := "getClass", desc := "()Ljava/lang/Class;" } : Jvm.MethodName)) ∈ lw_all := lw_g (lw_at lw_m3 229 rfl) rfl
theorem q798 : (Jvm.Cond.selects "java/lang/String" ({ cls := "java/lang/Object", name := "toString", desc := "()Ljava/lang/String;" } : Jvm.MethodName) ({ cls := "java/lang/String", name := "toString", desc := "()Ljava/lang/String;" } : Jvm.MethodName)) ∈ lw_all := lw_g (lw_at lw_m4 20 rfl) rfl
theorem q799 : (Jvm.Cond.instanceMethod ({ cls := "java/lang/String", name := "toString", desc := "()Ljava/lang/String;" } : Jvm.MethodName)) ∈ lw_all := lw_g (lw_at lw_m4 21 rfl) rfl
theorem q800 : (Jvm.Cond.code ({ cls := "java/lang/String", name := "toString", desc := "()Ljava/lang/String;" } : Jvm.MethodName) prog_21_method_126_code (1 : Nat) (Option.some (Jvm.ClassFile.FieldType.object "java/lang/String"))) ∈ lw_all := lw_g (lw_at lw_m4 22 rfl) rfl
theorem q955 : (Jvm.Cond.instanceMethod ({ cls := "java/lang/String", name := "value", desc := "()[B" } : Jvm.MethodName)) ∈ lw_all := lw_g (lw_at lw_m4 177 rfl) rfl
theorem q956 : (Jvm.Cond.selects "java/lang/String" ({ cls := "java/lang/String", name := "value", desc := "()[B" } : Jvm.MethodName) ({ cls := "java/lang/String", name := "value", desc := "()[B" } : Jvm.MethodName)) ∈ lw_all := lw_g (lw_at lw_m4 178 rfl) rfl
theorem q957 : (Jvm.Cond.code ({ cls := "java/lang/String", name := "value", desc := "()[B" } : Jvm.MethodName) prog_21_method_153_code (1 : Nat) (Option.some (Jvm.ClassFile.FieldType.array Jvm.ClassFile.FieldType.byte))) ∈ lw_all := lw_g (lw_at lw_m4 179 rfl) rfl
theorem q1532 : (Jvm.Cond.instanceMethod ({ cls := "java/lang/String", name := "repeat", desc := "(I)Ljava/lang/String;" } : Jvm.MethodName)) ∈ lw_all := lw_g (lw_at lw_m7 34 rfl) rfl
theorem q1533 : (Jvm.Cond.selects "java/lang/String" ({ cls := "java/lang/String", name := "repeat", desc := "(I)Ljava/lang/String;" } : Jvm.MethodName) ({ cls := "java/lang/String", name := "repeat", desc := "(I)Ljava/lang/String;" } : Jvm.MethodName)) ∈ lw_all := lw_g (lw_at lw_m7 35 rfl) rfl
theorem q1534 : (Jvm.Cond.code ({ cls := "java/lang/String", name := "repeat", desc := "(I)Ljava/lang/String;" } : Jvm.MethodName) prog_21_method_145_code (5 : Nat) (Option.some (Jvm.ClassFile.FieldType.object "java/lang/String"))) ∈ lw_all := lw_g (lw_at lw_m7 36 rfl) rfl
theorem q1535 : (Jvm.Cond.classLink "java/lang/String" (220 : Nat) "java/lang/IllegalArgumentException") ∈ lw_all := lw_g (lw_at lw_m7 37 rfl) rfl
theorem q1536 : (Jvm.Cond.classLink "java/lang/String" (447 : Nat) "java/lang/StringBuilder") ∈ lw_all := lw_g (lw_at lw_m7 38 rfl) rfl
theorem q1537 : (Jvm.Cond.methodLink "java/lang/String" (449 : Nat) ({ cls := "java/lang/StringBuilder", name := "<init>", desc := "()V" } : Jvm.MethodName)) ∈ lw_all := lw_g (lw_at lw_m7 39 rfl) rfl
theorem q1538 : (Jvm.Cond.stringRef "java/lang/String" (1039 : Nat) "count is negative: ") ∈ lw_tbl := lw_at lw_m7 40 rfl
theorem q1539 : (Jvm.Cond.methodLink "java/lang/String" (452 : Nat) ({ cls := "java/lang/StringBuilder", name := "append", desc := "(Ljava/lang/String;)Ljava/lang/StringBuilder;" } : Jvm.MethodName)) ∈ lw_all := lw_g (lw_at lw_m7 41 rfl) rfl
theorem q1540 : (Jvm.Cond.methodLink "java/lang/String" (456 : Nat) ({ cls := "java/lang/StringBuilder", name := "append", desc := "(I)Ljava/lang/StringBuilder;" } : Jvm.MethodName)) ∈ lw_all := lw_g (lw_at lw_m7 42 rfl) rfl
theorem q1541 : (Jvm.Cond.methodLink "java/lang/String" (461 : Nat) ({ cls := "java/lang/StringBuilder", name := "toString", desc := "()Ljava/lang/String;" } : Jvm.MethodName)) ∈ lw_all := lw_g (lw_at lw_m7 43 rfl) rfl
theorem q1542 : (Jvm.Cond.methodLink "java/lang/String" (969 : Nat) ({ cls := "java/lang/IllegalArgumentException", name := "<init>", desc := "(Ljava/lang/String;)V" } : Jvm.MethodName)) ∈ lw_all := lw_g (lw_at lw_m7 44 rfl) rfl
theorem q1543 : (Jvm.Cond.stringRef "java/lang/String" (7 : Nat) "") ∈ lw_tbl := lw_at lw_m7 45 rfl
theorem q1544 : (Jvm.Cond.constant "java/lang/String" (943 : Nat) (2147483647 : Int32)) ∈ lw_all := lw_g (lw_at lw_m7 46 rfl) rfl
theorem q1545 : (Jvm.Cond.methodLink "java/lang/String" (1041 : Nat) ({ cls := "java/util/Arrays", name := "fill", desc := "([BB)V" } : Jvm.MethodName)) ∈ lw_all := lw_g (lw_at lw_m7 47 rfl) rfl
theorem q1548 : (Jvm.Cond.classLink "java/lang/String" (10 : Nat) "java/lang/String") ∈ lw_all := lw_g (lw_at lw_m7 50 rfl) rfl
theorem q1549 : (Jvm.Cond.methodLink "java/lang/String" (209 : Nat) ({ cls := "java/lang/String", name := "<init>", desc := "([BB)V" } : Jvm.MethodName)) ∈ lw_all := lw_g (lw_at lw_m7 51 rfl) rfl
theorem q1550 : (Jvm.Cond.methodLink "java/lang/String" (1044 : Nat) ({ cls := "java/lang/String", name := "repeatCopyRest", desc := "([BIII)V" } : Jvm.MethodName)) ∈ lw_all := lw_g (lw_at lw_m7 52 rfl) rfl
theorem q1551 : (Jvm.Cond.static ({ cls := "java/lang/String", name := "repeatCopyRest", desc := "([BIII)V" } : Jvm.MethodName)) ∈ lw_all := lw_g (lw_at lw_m7 53 rfl) rfl
theorem q1552 : (Jvm.Cond.code ({ cls := "java/lang/String", name := "repeatCopyRest", desc := "([BIII)V" } : Jvm.MethodName) prog_21_method_146_code (4 : Nat) (Option.none : Option Jvm.ClassFile.FieldType)) ∈ lw_all := lw_g (lw_at lw_m7 54 rfl) rfl
theorem q1561 : (Jvm.Cond.static ({ cls := "java/lang/String", name := "checkOffset", desc := "(II)V" } : Jvm.MethodName)) ∈ lw_all := lw_g (lw_at lw_m7 63 rfl) rfl
theorem q1562 : (Jvm.Cond.code ({ cls := "java/lang/String", name := "checkOffset", desc := "(II)V" } : Jvm.MethodName) prog_21_method_156_code (2 : Nat) (Option.none : Option Jvm.ClassFile.FieldType)) ∈ lw_all := lw_g (lw_at lw_m7 64 rfl) rfl
theorem q1594 : (Jvm.Cond.static ({ cls := "java/lang/String", name := "indexOf", desc := "([BBILjava/lang/String;I)I" } : Jvm.MethodName)) ∈ lw_all := lw_g (lw_at lw_m7 96 rfl) rfl
theorem q1595 : (Jvm.Cond.code ({ cls := "java/lang/String", name := "indexOf", desc := "([BBILjava/lang/String;I)I" } : Jvm.MethodName) prog_21_method_87_code (8 : Nat) (Option.some Jvm.ClassFile.FieldType.int)) ∈ lw_all := lw_g (lw_at lw_m7 97 rfl) rfl
theorem q1596 : (Jvm.Cond.methodLink "java/lang/String" (659 : Nat) ({ cls := "java/lang/Math", name := "clamp", desc := "(JII)I" } : Jvm.MethodName)) ∈ lw_all := lw_g (lw_at lw_m7 98 rfl) rfl
theorem q1611 : (Jvm.Cond.methodLink "java/lang/String" (665 : Nat) ({ cls := "java/lang/StringLatin1", name := "indexOf", desc := "([BI[BII)I" } : Jvm.MethodName)) ∈ lw_all := lw_g (lw_at lw_m7 113 rfl) rfl
theorem q1614 : (Jvm.Cond.methodLink "java/lang/String" (667 : Nat) ({ cls := "java/lang/StringUTF16", name := "indexOf", desc := "([BI[BII)I" } : Jvm.MethodName)) ∈ lw_all := lw_g (lw_at lw_m7 116 rfl) rfl
theorem q1620 : (Jvm.Cond.methodLink "java/lang/String" (668 : Nat) ({ cls := "java/lang/StringUTF16", name := "indexOfLatin1", desc := "([BI[BII)I" } : Jvm.MethodName)) ∈ lw_all := lw_g (lw_at lw_m7 122 rfl) rfl
theorem q1638 : (Jvm.Cond.instanceMethod ({ cls := "java/lang/String", name := "lastIndexOf", desc := "(I)I" } : Jvm.MethodName)) ∈ lw_all := lw_g (lw_at lw_m7 140 rfl) rfl
theorem q1639 : (Jvm.Cond.selects "java/lang/String" ({ cls := "java/lang/String", name := "lastIndexOf", desc := "(I)I" } : Jvm.MethodName) ({ cls := "java/lang/String", name := "lastIndexOf", desc := "(I)I" } : Jvm.MethodName)) ∈ lw_all := lw_g (lw_at lw_m7 141 rfl) rfl
theorem q1640 : (Jvm.Cond.code ({ cls := "java/lang/String", name := "lastIndexOf", desc := "(I)I" } : Jvm.MethodName) prog_21_method_82_code (2 : Nat) (Option.some Jvm.ClassFile.FieldType.int)) ∈ lw_all := lw_g (lw_at lw_m7 142 rfl) rfl
theorem q1641 : (Jvm.Cond.methodLink "java/lang/String" (641 : Nat) ({ cls := "java/lang/String", name := "lastIndexOf", desc := "(II)I" } : Jvm.MethodName)) ∈ lw_all := lw_g (lw_at lw_m7 143 rfl) rfl
theorem q1642 : (Jvm.Cond.instanceMethod ({ cls := "java/lang/String", name := "lastIndexOf", desc := "(II)I" } : Jvm.MethodName)) ∈ lw_all := lw_g (lw_at lw_m7 144 rfl) rfl
theorem q1643 : (Jvm.Cond.selects "java/lang/String" ({ cls := "java/lang/String", name := "lastIndexOf", desc := "(II)I" } : Jvm.MethodName) ({ cls := "java/lang/String", name := "lastIndexOf", desc := "(II)I" } : Jvm.MethodName)) ∈ lw_all := lw_g (lw_at lw_m7 145 rfl) rfl
theorem q1644 : (Jvm.Cond.code ({ cls := "java/lang/String", name := "lastIndexOf", desc := "(II)I" } : Jvm.MethodName) prog_21_method_83_code (3 : Nat) (Option.some Jvm.ClassFile.FieldType.int)) ∈ lw_all := lw_g (lw_at lw_m7 146 rfl) rfl
theorem q1645 : (Jvm.Cond.methodLink "java/lang/String" (644 : Nat) ({ cls := "java/lang/StringLatin1", name := "lastIndexOf", desc := "([BII)I" } : Jvm.MethodName)) ∈ lw_all := lw_g (lw_at lw_m7 147 rfl) rfl
theorem q1648 : (Jvm.Cond.methodLink "java/lang/String" (646 : Nat) ({ cls := "java/lang/StringUTF16", name := "lastIndexOf", desc := "([BII)I" } : Jvm.MethodName)) ∈ lw_all := lw_g (lw_at lw_m7 150 rfl) rfl
theorem q1840 : (Jvm.Cond.instanceMethod ({ cls := "java/lang/String", name := "substring", desc := "(I)Ljava/lang/String;" } : Jvm.MethodName)) ∈ lw_all := lw_g (lw_at lw_m8 102 rfl) rfl
theorem q1841 : (Jvm.Cond.selects "java/lang/String" ({ cls := "java/lang/String", name := "substring", desc := "(I)Ljava/lang/String;" } : Jvm.MethodName) ({ cls := "java/lang/String", name := "substring", desc := "(I)Ljava/lang/String;" } : Jvm.MethodName)) ∈ lw_all := lw_g (lw_at lw_m8 103 rfl) rfl
theorem q1842 : (Jvm.Cond.code ({ cls := "java/lang/String", name := "substring", desc := "(I)Ljava/lang/String;" } : Jvm.MethodName) prog_21_method_91_code (2 : Nat) (Option.some (Jvm.ClassFile.FieldType.object "java/lang/String"))) ∈ lw_all := lw_g (lw_at lw_m8 104 rfl) rfl
theorem q1945 : (Jvm.Cond.instanceMethod ({ cls := "java/lang/String", name := "equals", desc := "(Ljava/lang/Object;)Z" } : Jvm.MethodName)) ∈ lw_all := lw_g (lw_at lw_m8 207 rfl) rfl
theorem q1946 : (Jvm.Cond.selects "java/lang/String" ({ cls := "java/lang/String", name := "equals", desc := "(Ljava/lang/Object;)Z" } : Jvm.MethodName) ({ cls := "java/lang/String", name := "equals", desc := "(Ljava/lang/Object;)Z" } : Jvm.MethodName)) ∈ lw_all := lw_g (lw_at lw_m8 208 rfl) rfl
theorem q1947 : (Jvm.Cond.code ({ cls := "java/lang/String", name := "equals", desc := "(Ljava/lang/Object;)Z" } : Jvm.MethodName) prog_21_method_66_code (3 : Nat) (Option.some Jvm.ClassFile.FieldType.boolean)) ∈ lw_all := lw_g (lw_at lw_m8 209 rfl) rfl
theorem q1948 : (Jvm.Cond.methodLink "java/lang/String" (541 : Nat) ({ cls := "java/lang/StringLatin1", name := "equals", desc := "([B[B)Z" } : Jvm.MethodName)) ∈ lw_all := lw_g (lw_at lw_m8 210 rfl) rfl
theorem q2242 : (Jvm.Cond.instanceMethod ({ cls := "java/lang/String", name := "startsWith", desc := "(Ljava/lang/String;)Z" } : Jvm.MethodName)) ∈ lw_all := lw_g (lw_at lw_m10 24 rfl) rfl
theorem q2243 : (Jvm.Cond.selects "java/lang/String" ({ cls := "java/lang/String", name := "startsWith", desc := "(Ljava/lang/String;)Z" } : Jvm.MethodName) ({ cls := "java/lang/String", name := "startsWith", desc := "(Ljava/lang/String;)Z" } : Jvm.MethodName)) ∈ lw_all := lw_g (lw_at lw_m10 25 rfl) rfl
theorem q2244 : (Jvm.Cond.code ({ cls := "java/lang/String", name := "startsWith", desc := "(Ljava/lang/String;)Z" } : Jvm.MethodName) prog_21_method_76_code (2 : Nat) (Option.some Jvm.ClassFile.FieldType.boolean)) ∈ lw_all := lw_g (lw_at lw_m10 26 rfl) rfl
theorem q2245 : (Jvm.Cond.methodLink "java/lang/String" (624 : Nat) ({ cls := "java/lang/String", name := "startsWith", desc := "(Ljava/lang/String;I)Z" } : Jvm.MethodName)) ∈ lw_all := lw_g (lw_at lw_m10 27 rfl) rfl
theorem q2246 : (Jvm.Cond.instanceMethod ({ cls := "java/lang/String", name := "startsWith", desc := "(Ljava/lang/String;I)Z" } : Jvm.MethodName)) ∈ lw_all := lw_g (lw_at lw_m10 28 rfl) rfl
theorem q2247 : (Jvm.Cond.selects "java/lang/String" ({ cls := "java/lang/String", name := "startsWith", desc := "(Ljava/lang/String;I)Z" } : Jvm.MethodName) ({ cls := "java/lang/String", name := "startsWith", desc := "(Ljava/lang/String;I)Z" } : Jvm.MethodName)) ∈ lw_all := lw_g (lw_at lw_m10 29 rfl) rfl
theorem q2248 : (Jvm.Cond.code ({ cls := "java/lang/String", name := "startsWith", desc := "(Ljava/lang/String;I)Z" } : Jvm.MethodName) prog_21_method_75_code (8 : Nat) (Option.some Jvm.ClassFile.FieldType.boolean)) ∈ lw_all := lw_g (lw_at lw_m10 30 rfl) rfl
theorem q2249 : (Jvm.Cond.methodLink "java/lang/String" (607 : Nat) ({ cls := "jdk/internal/util/ArraysSupport", name := "mismatch", desc := "([BI[BII)I" } : Jvm.MethodName)) ∈ lw_all := lw_g (lw_at lw_m10 31 rfl) rfl
theorem q2345 : (Jvm.Cond.methodLink "java/lang/String" (360 : Nat) ({ cls := "java/lang/StringUTF16", name := "getChar", desc := "([BI)C" } : Jvm.MethodName)) ∈ lw_all := lw_g (lw_at lw_m10 127 rfl) rfl
theorem q2347 : (Jvm.Cond.instanceMethod ({ cls := "java/lang/String", name := "endsWith", desc := "(Ljava/lang/String;)Z" } : Jvm.MethodName)) ∈ lw_all := lw_g (lw_at lw_m10 129 rfl) rfl
theorem q2348 : (Jvm.Cond.selects "java/lang/String" ({ cls := "java/lang/String", name := "endsWith", desc := "(Ljava/lang/String;)Z" } : Jvm.MethodName) ({ cls := "java/lang/String", name := "endsWith", desc := "(Ljava/lang/String;)Z" } : Jvm.MethodName)) ∈ lw_all := lw_g (lw_at lw_m10 130 rfl) rfl
theorem q2349 : (Jvm.Cond.code ({ cls := "java/lang/String", name := "endsWith", desc := "(Ljava/lang/String;)Z" } : Jvm.MethodName) prog_21_method_77_code (2 : Nat) (Option.some Jvm.ClassFile.FieldType.boolean)) ∈ lw_all := lw_g (lw_at lw_m10 131 rfl) rfl
def RJ6 : String := "java/lang/AbstractStringBuilder"
abbrev cJ6_init : ByteArray := prog_3_method_3_code
def yJ6_init : MethodName := ⟨RJ6, "<init>", "(Ljava/lang/String;)V"⟩
abbrev cJ6_append : ByteArray := prog_3_method_22_code
def yJ6_append : MethodName := ⟨RJ6, "append", "(Ljava/lang/String;)Ljava/lang/AbstractStringBuilder;"⟩
abbrev cJ6_appendNull : ByteArray := prog_3_method_26_code
def yJ6_appendNull : MethodName := ⟨RJ6, "appendNull", "()Ljava/lang/AbstractStringBuilder;"⟩
abbrev cJ6_ensureCapacityInternal : ByteArray := prog_3_method_9_code
def yJ6_ensureCapacityInternal : MethodName := ⟨RJ6, "ensureCapacityInternal", "(I)V"⟩
abbrev cJ6_newCapacity : ByteArray := prog_3_method_10_code
def yJ6_newCapacity : MethodName := ⟨RJ6, "newCapacity", "(I)I"⟩
abbrev cJ6_isLatin1 : ByteArray := prog_3_method_68_code
def yJ6_isLatin1 : MethodName := ⟨RJ6, "isLatin1", "()Z"⟩
abbrev cJ6_putStringAt : ByteArray := prog_3_method_73_code
def yJ6_putStringAt : MethodName := ⟨RJ6, "putStringAt", "(ILjava/lang/String;)V"⟩
abbrev cJ6_inflateIfNeededFor : ByteArray := prog_3_method_71_code
def yJ6_inflateIfNeededFor : MethodName := ⟨RJ6, "inflateIfNeededFor", "(Ljava/lang/String;)V"⟩
abbrev cJ6_inflate : ByteArray := prog_3_method_11_code
def yJ6_inflate : MethodName := ⟨RJ6, "inflate", "()V"⟩
abbrev cJ6_append_2 : ByteArray := prog_3_method_33_code
def yJ6_append_2 : MethodName := ⟨RJ6, "append", "(J)Ljava/lang/AbstractStringBuilder;"⟩
abbrev cJ6_append_3 : ByteArray := prog_3_method_32_code
def yJ6_append_3 : MethodName := ⟨RJ6, "append", "(I)Ljava/lang/AbstractStringBuilder;"⟩
abbrev cJ6_getValue : ByteArray := prog_3_method_64_code
def yJ6_getValue : MethodName := ⟨RJ6, "getValue", "()[B"⟩
abbrev cJ6_length : ByteArray := prog_3_method_6_code
def yJ6_length : MethodName := ⟨RJ6, "length", "()I"⟩
abbrev cJ6_init_2 : ByteArray := prog_3_method_2_code
def yJ6_init_2 : MethodName := ⟨RJ6, "<init>", "(I)V"⟩
abbrev cJ6_charAt : ByteArray := prog_3_method_14_code
def yJ6_charAt : MethodName := ⟨RJ6, "charAt", "(I)C"⟩
abbrev cJ6_subSequence : ByteArray := prog_3_method_41_code
def yJ6_subSequence : MethodName := ⟨RJ6, "subSequence", "(II)Ljava/lang/CharSequence;"⟩
abbrev cJ6_substring : ByteArray := prog_3_method_42_code
def yJ6_substring : MethodName := ⟨RJ6, "substring", "(II)Ljava/lang/String;"⟩
abbrev cJ6_append_4 : ByteArray := prog_3_method_31_code
def yJ6_append_4 : MethodName := ⟨RJ6, "append", "(C)Ljava/lang/AbstractStringBuilder;"⟩
abbrev cJ6_append_5 : ByteArray := prog_3_method_27_code
def yJ6_append_5 : MethodName := ⟨RJ6, "append", "(Ljava/lang/CharSequence;II)Ljava/lang/AbstractStringBuilder;"⟩
abbrev cJ6_appendChars : ByteArray := prog_3_method_75_code
def yJ6_appendChars : MethodName := ⟨RJ6, "appendChars", "(Ljava/lang/String;II)V"⟩
abbrev cJ6_appendChars_2 : ByteArray := prog_3_method_76_code
def yJ6_appendChars_2 : MethodName := ⟨RJ6, "appendChars", "(Ljava/lang/CharSequence;II)V"⟩
abbrev cJ6_insert : ByteArray := prog_3_method_46_code
def yJ6_insert : MethodName := ⟨RJ6, "insert", "(ILjava/lang/String;)Ljava/lang/AbstractStringBuilder;"⟩
abbrev cJ6_shift : ByteArray := prog_3_method_43_code
def yJ6_shift : MethodName := ⟨RJ6, "shift", "(II)V"⟩
abbrev cJ6_deleteCharAt : ByteArray := prog_3_method_38_code
def yJ6_deleteCharAt : MethodName := ⟨RJ6, "deleteCharAt", "(I)Ljava/lang/AbstractStringBuilder;"⟩
abbrev cJ6_indexOf : ByteArray := prog_3_method_56_code
def yJ6_indexOf : MethodName := ⟨RJ6, "indexOf", "(Ljava/lang/String;)I"⟩
abbrev cJ6_indexOf_2 : ByteArray := prog_3_method_57_code
def yJ6_indexOf_2 : MethodName := ⟨RJ6, "indexOf", "(Ljava/lang/String;I)I"⟩
abbrev cJ6_reverse : ByteArray := prog_3_method_60_code
def yJ6_reverse : MethodName := ⟨RJ6, "reverse", "()Ljava/lang/AbstractStringBuilder;"⟩
theorem q66 : (Jvm.Cond.initialized "java/lang/AbstractStringBuilder") ∈ lw_all := lw_g (lw_at lw_m1 8 rfl) rfl
theorem q215 : (Jvm.Cond.instanceMethod ({ cls := "java/lang/AbstractStringBuilder", name := "<init>", desc := "(Ljava/lang/String;)V" } : Jvm.MethodName)) ∈ lw_all := lw_g (lw_at lw_m1 157 rfl) rfl
theorem q216 : (Jvm.Cond.code ({ cls := "java/lang/AbstractStringBuilder", name := "<init>", desc := "(Ljava/lang/String;)V" } : Jvm.MethodName) prog_3_method_3_code (5 : Nat) (Option.none : Option Jvm.ClassFile.FieldType)) ∈ lw_all := lw_g (lw_at lw_m1 158 rfl) rfl
theorem q217 : (Jvm.Cond.methodLink "java/lang/AbstractStringBuilder" (3 : Nat) ({ cls := "java/lang/Object", name := "<init>", desc := "()V" } : Jvm.MethodName)) ∈ lw_all := lw_g (lw_at lw_m1 159 rfl) rfl
theorem q218 : (Jvm.Cond.methodLink "java/lang/AbstractStringBuilder" (32 : Nat) ({ cls := "java/lang/String", name := "length", desc := "()I" } : Jvm.MethodName)) ∈ lw_all := lw_g (lw_at lw_m1 160 rfl) rfl
theorem q228 : (Jvm.Cond.constant "java/lang/AbstractStringBuilder" (38 : Nat) (2147483631 : Int32)) ∈ lw_all := lw_g (lw_at lw_m1 170 rfl) rfl
theorem q229 : (Jvm.Cond.constant "java/lang/AbstractStringBuilder" (39 : Nat) (2147483647 : Int32)) ∈ lw_all := lw_g (lw_at lw_m1 171 rfl) rfl
theorem q230 : (Jvm.Cond.methodLink "java/lang/AbstractStringBuilder" (40 : Nat) ({ cls := "java/lang/String", name := "coder", desc := "()B" } : Jvm.MethodName)) ∈ lw_all := lw_g (lw_at lw_m1 172 rfl) rfl
theorem q231 : (Jvm.Cond.methodLink "java/lang/AbstractStringBuilder" (26 : Nat) ({ cls := "java/lang/StringUTF16", name := "newBytesFor", desc := "(I)[B" } : Jvm.MethodName)) ∈ lw_all := lw_g (lw_at lw_m1 173 rfl) rfl
theorem q238 : (Jvm.Cond.methodLink "java/lang/AbstractStringBuilder" (43 : Nat) ({ cls := "java/lang/AbstractStringBuilder", name := "append", desc := "(Ljava/lang/String;)Ljava/lang/AbstractStringBuilder;" } : Jvm.MethodName)) ∈ lw_all := lw_g (lw_at lw_m1 180 rfl) rfl
theorem q239 : (Jvm.Cond.instanceMethod ({ cls := "java/lang/AbstractStringBuilder", name := "append", desc := "(Ljava/lang/String;)Ljava/lang/AbstractStringBuilder;" } : Jvm.MethodName)) ∈ lw_all := lw_g (lw_at lw_m1 181 rfl) rfl
theorem q240 : (Jvm.Cond.sameMethod "java/lang/AbstractStringBuilder" "java/lang/AbstractStringBuilder" "append" "(Ljava/lang/String;)Ljava/lang/AbstractStringBuilder;") ∈ lw_all := lw_g (lw_at lw_m1 182 rfl) rfl
theorem q250 : (Jvm.Cond.code ({ cls := "java/lang/AbstractStringBuilder", name := "append", desc := "(Ljava/lang/String;)Ljava/lang/AbstractStringBuilder;" } : Jvm.MethodName) prog_3_method_22_code (3 : Nat) (Option.some (Jvm.ClassFile.FieldType.object "java/lang/AbstractStringBuilder"))) ∈ lw_all := lw_g (lw_at lw_m1 192 rfl) rfl
theorem q251 : (Jvm.Cond.methodLink "java/lang/AbstractStringBuilder" (204 : Nat) ({ cls := "java/lang/AbstractStringBuilder", name := "appendNull", desc := "()Ljava/lang/AbstractStringBuilder;" } : Jvm.MethodName)) ∈ lw_all := lw_g (lw_at lw_m1 193 rfl) rfl
theorem q252 : (Jvm.Cond.privateMethod ({ cls := "java/lang/AbstractStringBuilder", name := "appendNull", desc := "()Ljava/lang/AbstractStringBuilder;" } : Jvm.MethodName)) ∈ lw_tbl := lw_at lw_m1 194 rfl
theorem q253 : (Jvm.Cond.instanceMethod ({ cls := "java/lang/AbstractStringBuilder", name := "appendNull", desc := "()Ljava/lang/AbstractStringBuilder;" } : Jvm.MethodName)) ∈ lw_all := lw_g (lw_at lw_m1 195 rfl) rfl
theorem q254 : (Jvm.Cond.code ({ cls := "java/lang/AbstractStringBuilder", name := "appendNull", desc := "()Ljava/lang/AbstractStringBuilder;" } : Jvm.MethodName) prog_3_method_26_code (3 : Nat) (Option.some (Jvm.ClassFile.FieldType.object "java/lang/AbstractStringBuilder"))) ∈ lw_all := lw_g (lw_at lw_m1 196 rfl) rfl
theorem q255 : (Jvm.Cond.methodLink "java/lang/AbstractStringBuilder" (100 : Nat) ({ cls := "java/lang/AbstractStringBuilder", name := "ensureCapacityInternal", desc := "(I)V" } : Jvm.MethodName)) ∈ lw_all := lw_g (lw_at lw_m1 197 rfl) rfl
theorem q256 : (Jvm.Cond.privateMethod ({ cls := "java/lang/AbstractStringBuilder", name := "ensureCapacityInternal", desc := "(I)V" } : Jvm.MethodName)) ∈ lw_tbl := lw_at lw_m1 198 rfl
theorem q257 : (Jvm.Cond.instanceMethod ({ cls := "java/lang/AbstractStringBuilder", name := "ensureCapacityInternal", desc := "(I)V" } : Jvm.MethodName)) ∈ lw_all := lw_g (lw_at lw_m1 199 rfl) rfl
theorem q258 : (Jvm.Cond.code ({ cls := "java/lang/AbstractStringBuilder", name := "ensureCapacityInternal", desc := "(I)V" } : Jvm.MethodName) prog_3_method_9_code (3 : Nat) (Option.none : Option Jvm.ClassFile.FieldType)) ∈ lw_all := lw_g (lw_at lw_m1 200 rfl) rfl
theorem q259 : (Jvm.Cond.methodLink "java/lang/AbstractStringBuilder" (104 : Nat) ({ cls := "java/lang/AbstractStringBuilder", name := "newCapacity", desc := "(I)I" } : Jvm.MethodName)) ∈ lw_all := lw_g (lw_at lw_m1 201 rfl) rfl
theorem q260 : (Jvm.Cond.privateMethod ({ cls := "java/lang/AbstractStringBuilder", name := "newCapacity", desc := "(I)I" } : Jvm.MethodName)) ∈ lw_tbl := lw_at lw_m1 202 rfl
theorem q261 : (Jvm.Cond.instanceMethod ({ cls := "java/lang/AbstractStringBuilder", name := "newCapacity", desc := "(I)I" } : Jvm.MethodName)) ∈ lw_all := lw_g (lw_at lw_m1 203 rfl) rfl
theorem q262 : (Jvm.Cond.code ({ cls := "java/lang/AbstractStringBuilder", name := "newCapacity", desc := "(I)I" } : Jvm.MethodName) prog_3_method_10_code (6 : Nat) (Option.some Jvm.ClassFile.FieldType.int)) ∈ lw_all := lw_g (lw_at lw_m1 204 rfl) rfl
theorem q263 : (Jvm.Cond.methodLink "java/lang/AbstractStringBuilder" (114 : Nat) ({ cls := "jdk/internal/util/ArraysSupport", name := "newLength", desc := "(III)I" } : Jvm.MethodName)) ∈ lw_all := lw_g (lw_at lw_m1 205 rfl) rfl
theorem q273 : (Jvm.Cond.methodLink "java/lang/AbstractStringBuilder" (108 : Nat) ({ cls := "java/util/Arrays", name := "copyOf", desc := "([BI)[B" } : Jvm.MethodName)) ∈ lw_all := lw_g (lw_at lw_m1 215 rfl) rfl
theorem q289 : (Jvm.Cond.methodLink "java/lang/AbstractStringBuilder" (83 : Nat) ({ cls := "java/lang/AbstractStringBuilder", name := "isLatin1", desc := "()Z" } : Jvm.MethodName)) ∈ lw_all := lw_g (lw_at lw_m1 231 rfl) rfl
theorem q290 : (Jvm.Cond.instanceMethod ({ cls := "java/lang/AbstractStringBuilder", name := "isLatin1", desc := "()Z" } : Jvm.MethodName)) ∈ lw_all := lw_g (lw_at lw_m1 232 rfl) rfl
theorem q291 : (Jvm.Cond.sameMethod "java/lang/AbstractStringBuilder" "java/lang/AbstractStringBuilder" "isLatin1" "()Z") ∈ lw_all := lw_g (lw_at lw_m1 233 rfl) rfl
theorem q293 : (Jvm.Cond.code ({ cls := "java/lang/AbstractStringBuilder", name := "isLatin1", desc := "()Z" } : Jvm.MethodName) prog_3_method_68_code (1 : Nat) (Option.some Jvm.ClassFile.FieldType.boolean)) ∈ lw_all := lw_g (lw_at lw_m1 235 rfl) rfl
theorem q294 : (Jvm.Cond.fieldLink "java/lang/AbstractStringBuilder" (18 : Nat) "java/lang/String" "COMPACT_STRINGS" "Z") ∈ lw_all := lw_g (lw_at lw_m1 236 rfl) rfl
theorem q295 : (Jvm.Cond.methodLink "java/lang/AbstractStringBuilder" (226 : Nat) ({ cls := "java/lang/StringUTF16", name := "putCharsAt", desc := "([BICCCC)I" } : Jvm.MethodName)) ∈ lw_all := lw_g (lw_at lw_m1 237 rfl) rfl
theorem q321 : (Jvm.Cond.methodLink "java/lang/AbstractStringBuilder" (208 : Nat) ({ cls := "java/lang/AbstractStringBuilder", name := "putStringAt", desc := "(ILjava/lang/String;)V" } : Jvm.MethodName)) ∈ lw_all := lw_g (lw_at lw_m2 23 rfl) rfl
theorem q322 : (Jvm.Cond.privateMethod ({ cls := "java/lang/AbstractStringBuilder", name := "putStringAt", desc := "(ILjava/lang/String;)V" } : Jvm.MethodName)) ∈ lw_tbl := lw_at lw_m2 24 rfl
theorem q323 : (Jvm.Cond.instanceMethod ({ cls := "java/lang/AbstractStringBuilder", name := "putStringAt", desc := "(ILjava/lang/String;)V" } : Jvm.MethodName)) ∈ lw_all := lw_g (lw_at lw_m2 25 rfl) rfl
theorem q324 : (Jvm.Cond.code ({ cls := "java/lang/AbstractStringBuilder", name := "putStringAt", desc := "(ILjava/lang/String;)V" } : Jvm.MethodName) prog_3_method_73_code (3 : Nat) (Option.none : Option Jvm.ClassFile.FieldType)) ∈ lw_all := lw_g (lw_at lw_m2 26 rfl) rfl
theorem q325 : (Jvm.Cond.methodLink "java/lang/AbstractStringBuilder" (397 : Nat) ({ cls := "java/lang/AbstractStringBuilder", name := "inflateIfNeededFor", desc := "(Ljava/lang/String;)V" } : Jvm.MethodName)) ∈ lw_all := lw_g (lw_at lw_m2 27 rfl) rfl
theorem q326 : (Jvm.Cond.privateMethod ({ cls := "java/lang/AbstractStringBuilder", name := "inflateIfNeededFor", desc := "(Ljava/lang/String;)V" } : Jvm.MethodName)) ∈ lw_tbl := lw_at lw_m2 28 rfl
theorem q327 : (Jvm.Cond.instanceMethod ({ cls := "java/lang/AbstractStringBuilder", name := "inflateIfNeededFor", desc := "(Ljava/lang/String;)V" } : Jvm.MethodName)) ∈ lw_all := lw_g (lw_at lw_m2 29 rfl) rfl
theorem q328 : (Jvm.Cond.code ({ cls := "java/lang/AbstractStringBuilder", name := "inflateIfNeededFor", desc := "(Ljava/lang/String;)V" } : Jvm.MethodName) prog_3_method_71_code (2 : Nat) (Option.none : Option Jvm.ClassFile.FieldType)) ∈ lw_all := lw_g (lw_at lw_m2 30 rfl) rfl
theorem q329 : (Jvm.Cond.methodLink "java/lang/AbstractStringBuilder" (195 : Nat) ({ cls := "java/lang/AbstractStringBuilder", name := "inflate", desc := "()V" } : Jvm.MethodName)) ∈ lw_all := lw_g (lw_at lw_m2 31 rfl) rfl
theorem q330 : (Jvm.Cond.privateMethod ({ cls := "java/lang/AbstractStringBuilder", name := "inflate", desc := "()V" } : Jvm.MethodName)) ∈ lw_tbl := lw_at lw_m2 32 rfl
theorem q331 : (Jvm.Cond.instanceMethod ({ cls := "java/lang/AbstractStringBuilder", name := "inflate", desc := "()V" } : Jvm.MethodName)) ∈ lw_all := lw_g (lw_at lw_m2 33 rfl) rfl
theorem q332 : (Jvm.Cond.code ({ cls := "java/lang/AbstractStringBuilder", name := "inflate", desc := "()V" } : Jvm.MethodName) prog_3_method_11_code (2 : Nat) (Option.none : Option Jvm.ClassFile.FieldType)) ∈ lw_all := lw_g (lw_at lw_m2 34 rfl) rfl
theorem q333 : (Jvm.Cond.methodLink "java/lang/AbstractStringBuilder" (125 : Nat) ({ cls := "java/lang/StringLatin1", name := "inflate", desc := "([BI[BII)V" } : Jvm.MethodName)) ∈ lw_all := lw_g (lw_at lw_m2 35 rfl) rfl
theorem q348 : (Jvm.Cond.methodLink "java/lang/AbstractStringBuilder" (399 : Nat) ({ cls := "java/lang/String", name := "getBytes", desc := "([BIB)V" } : Jvm.MethodName)) ∈ lw_all := lw_g (lw_at lw_m2 50 rfl) rfl
theorem q354 : (Jvm.Cond.fieldLink "java/lang/AbstractStringBuilder" (15 : Nat) "java/lang/AbstractStringBuilder" "value" "[B") ∈ lw_all := lw_g (lw_at lw_m2 56 rfl) rfl
theorem q355 : (Jvm.Cond.fieldLink "java/lang/AbstractStringBuilder" (22 : Nat) "java/lang/AbstractStringBuilder" "coder" "B") ∈ lw_all := lw_g (lw_at lw_m2 57 rfl) rfl
theorem q356 : (Jvm.Cond.fieldLink "java/lang/AbstractStringBuilder" (73 : Nat) "java/lang/AbstractStringBuilder" "maybeLatin1" "Z") ∈ lw_all := lw_g (lw_at lw_m2 58 rfl) rfl
theorem q358 : (Jvm.Cond.fieldLink "java/lang/AbstractStringBuilder" (79 : Nat) "java/lang/AbstractStringBuilder" "count" "I") ∈ lw_all := lw_g (lw_at lw_m2 60 rfl) rfl
theorem q360 : (Jvm.Cond.soleField "java/lang/AbstractStringBuilder" "value") ∈ lw_all := lw_g (lw_at lw_m2 62 rfl) rfl
theorem q362 : (Jvm.Cond.soleField "java/lang/AbstractStringBuilder" "coder") ∈ lw_all := lw_g (lw_at lw_m2 64 rfl) rfl
theorem q364 : (Jvm.Cond.soleField "java/lang/AbstractStringBuilder" "maybeLatin1") ∈ lw_all := lw_g (lw_at lw_m2 66 rfl) rfl
theorem q366 : (Jvm.Cond.soleField "java/lang/AbstractStringBuilder" "count") ∈ lw_all := lw_g (lw_at lw_m2 68 rfl) rfl
theorem q396 : (Jvm.Cond.instanceMethod ({ cls := "java/lang/AbstractStringBuilder", name := "append", desc := "(J)Ljava/lang/AbstractStringBuilder;" } : Jvm.MethodName)) ∈ lw_all := lw_g (lw_at lw_m2 98 rfl) rfl
theorem q397 : (Jvm.Cond.code ({ cls := "java/lang/AbstractStringBuilder", name := "append", desc := "(J)Ljava/lang/AbstractStringBuilder;" } : Jvm.MethodName) prog_3_method_33_code (5 : Nat) (Option.some (Jvm.ClassFile.FieldType.object "java/lang/AbstractStringBuilder"))) ∈ lw_all := lw_g (lw_at lw_m2 99 rfl) rfl
theorem q398 : (Jvm.Cond.methodLink "java/lang/AbstractStringBuilder" (254 : Nat) ({ cls := "java/lang/Long", name := "stringSize", desc := "(J)I" } : Jvm.MethodName)) ∈ lw_all := lw_g (lw_at lw_m2 100 rfl) rfl
theorem q403 : (Jvm.Cond.methodLink "java/lang/AbstractStringBuilder" (259 : Nat) ({ cls := "java/lang/Long", name := "getChars", desc := "(JI[B)I" } : Jvm.MethodName)) ∈ lw_all := lw_g (lw_at lw_m2 105 rfl) rfl
theorem q412 : (Jvm.Cond.methodLink "java/lang/AbstractStringBuilder" (262 : Nat) ({ cls := "java/lang/StringUTF16", name := "getChars", desc := "(JII[B)I" } : Jvm.MethodName)) ∈ lw_all := lw_g (lw_at lw_m2 114 rfl) rfl
theorem q433 : (Jvm.Cond.instanceMethod ({ cls := "java/lang/AbstractStringBuilder", name := "append", desc := "(I)Ljava/lang/AbstractStringBuilder;" } : Jvm.MethodName)) ∈ lw_all := lw_g (lw_at lw_m2 135 rfl) rfl
theorem q434 : (Jvm.Cond.code ({ cls := "java/lang/AbstractStringBuilder", name := "append", desc := "(I)Ljava/lang/AbstractStringBuilder;" } : Jvm.MethodName) prog_3_method_32_code (4 : Nat) (Option.some (Jvm.ClassFile.FieldType.object "java/lang/AbstractStringBuilder"))) ∈ lw_all := lw_g (lw_at lw_m2 136 rfl) rfl
theorem q435 : (Jvm.Cond.methodLink "java/lang/AbstractStringBuilder" (245 : Nat) ({ cls := "java/lang/Integer", name := "stringSize", desc := "(I)I" } : Jvm.MethodName)) ∈ lw_all := lw_g (lw_at lw_m2 137 rfl) rfl
theorem q438 : (Jvm.Cond.methodLink "java/lang/AbstractStringBuilder" (248 : Nat) ({ cls := "java/lang/Integer", name := "getChars", desc := "(II[B)I" } : Jvm.MethodName)) ∈ lw_all := lw_g (lw_at lw_m2 140 rfl) rfl
theorem q443 : (Jvm.Cond.methodLink "java/lang/AbstractStringBuilder" (251 : Nat) ({ cls := "java/lang/StringUTF16", name := "getChars", desc := "(III[B)I" } : Jvm.MethodName)) ∈ lw_all := lw_g (lw_at lw_m2 145 rfl) rfl
theorem q462 : (Jvm.Cond.instanceMethod ({ cls := "java/lang/AbstractStringBuilder", name := "getValue", desc := "()[B" } : Jvm.MethodName)) ∈ lw_all := lw_g (lw_at lw_m2 164 rfl) rfl
theorem q463 : (Jvm.Cond.sameMethod "java/lang/AbstractStringBuilder" "java/lang/AbstractStringBuilder" "getValue" "()[B") ∈ lw_all := lw_g (lw_at lw_m2 165 rfl) rfl
theorem q465 : (Jvm.Cond.code ({ cls := "java/lang/AbstractStringBuilder", name := "getValue", desc := "()[B" } : Jvm.MethodName) prog_3_method_64_code (1 : Nat) (Option.some (Jvm.ClassFile.FieldType.array Jvm.ClassFile.FieldType.byte))) ∈ lw_all := lw_g (lw_at lw_m2 167 rfl) rfl
theorem q467 : (Jvm.Cond.instanceMethod ({ cls := "java/lang/AbstractStringBuilder", name := "length", desc := "()I" } : Jvm.MethodName)) ∈ lw_all := lw_g (lw_at lw_m2 169 rfl) rfl
theorem q468 : (Jvm.Cond.sameMethod "java/lang/AbstractStringBuilder" "java/lang/AbstractStringBuilder" "length" "()I") ∈ lw_all := lw_g (lw_at lw_m2 170 rfl) rfl
theorem q473 : (Jvm.Cond.code ({ cls := "java/lang/AbstractStringBuilder", name := "length", desc := "()I" } : Jvm.MethodName) prog_3_method_6_code (1 : Nat) (Option.some Jvm.ClassFile.FieldType.int)) ∈ lw_all := lw_g (lw_at lw_m2 175 rfl) rfl
theorem q498 : (Jvm.Cond.instanceMethod ({ cls := "java/lang/AbstractStringBuilder", name := "<init>", desc := "(I)V" } : Jvm.MethodName)) ∈ lw_all := lw_g (lw_at lw_m2 200 rfl) rfl
theorem q499 : (Jvm.Cond.code ({ cls := "java/lang/AbstractStringBuilder", name := "<init>", desc := "(I)V" } : Jvm.MethodName) prog_3_method_2_code (2 : Nat) (Option.none : Option Jvm.ClassFile.FieldType)) ∈ lw_all := lw_g (lw_at lw_m2 201 rfl) rfl
theorem q672 : (Jvm.Cond.instanceMethod ({ cls := "java/lang/AbstractStringBuilder", name := "charAt", desc := "(I)C" } : Jvm.MethodName)) ∈ lw_all := lw_g (lw_at lw_m3 134 rfl) rfl
theorem q673 : (Jvm.Cond.code ({ cls := "java/lang/AbstractStringBuilder", name := "charAt", desc := "(I)C" } : Jvm.MethodName) prog_3_method_14_code (5 : Nat) (Option.some Jvm.ClassFile.FieldType.char)) ∈ lw_all := lw_g (lw_at lw_m3 135 rfl) rfl
theorem q674 : (Jvm.Cond.methodLink "java/lang/AbstractStringBuilder" (138 : Nat) ({ cls := "java/lang/Math", name := "min", desc := "(II)I" } : Jvm.MethodName)) ∈ lw_all := lw_g (lw_at lw_m3 136 rfl) rfl
theorem q675 : (Jvm.Cond.methodLink "java/lang/AbstractStringBuilder" (144 : Nat) ({ cls := "java/lang/String", name := "checkIndex", desc := "(II)V" } : Jvm.MethodName)) ∈ lw_all := lw_g (lw_at lw_m3 137 rfl) rfl
theorem q676 : (Jvm.Cond.methodLink "java/lang/AbstractStringBuilder" (148 : Nat) ({ cls := "java/lang/StringUTF16", name := "getChar", desc := "([BI)C" } : Jvm.MethodName)) ∈ lw_all := lw_g (lw_at lw_m3 138 rfl) rfl
theorem q726 : (Jvm.Cond.instanceMethod ({ cls := "java/lang/AbstractStringBuilder", name := "subSequence", desc := "(II)Ljava/lang/CharSequence;" } : Jvm.MethodName)) ∈ lw_all := lw_g (lw_at lw_m3 188 rfl) rfl
theorem q727 : (Jvm.Cond.code ({ cls := "java/lang/AbstractStringBuilder", name := "subSequence", desc := "(II)Ljava/lang/CharSequence;" } : Jvm.MethodName) prog_3_method_41_code (3 : Nat) (Option.some (Jvm.ClassFile.FieldType.object "java/lang/CharSequence"))) ∈ lw_all := lw_g (lw_at lw_m3 189 rfl) rfl
theorem q728 : (Jvm.Cond.methodLink "java/lang/AbstractStringBuilder" (300 : Nat) ({ cls := "java/lang/AbstractStringBuilder", name := "substring", desc := "(II)Ljava/lang/String;" } : Jvm.MethodName)) ∈ lw_all := lw_g (lw_at lw_m3 190 rfl) rfl
theorem q729 : (Jvm.Cond.instanceMethod ({ cls := "java/lang/AbstractStringBuilder", name := "substring", desc := "(II)Ljava/lang/String;" } : Jvm.MethodName)) ∈ lw_all := lw_g (lw_at lw_m3 191 rfl) rfl
theorem q730 : (Jvm.Cond.sameMethod "java/lang/AbstractStringBuilder" "java/lang/AbstractStringBuilder" "substring" "(II)Ljava/lang/String;") ∈ lw_all := lw_g (lw_at lw_m3 192 rfl) rfl
theorem q735 : (Jvm.Cond.code ({ cls := "java/lang/AbstractStringBuilder", name := "substring", desc := "(II)Ljava/lang/String;" } : Jvm.MethodName) prog_3_method_42_code (3 : Nat) (Option.some (Jvm.ClassFile.FieldType.object "java/lang/String"))) ∈ lw_all := lw_g (lw_at lw_m3 197 rfl) rfl
theorem q736 : (Jvm.Cond.fieldLink "java/lang/AbstractStringBuilder" (179 : Nat) "jdk/internal/util/Preconditions" "SIOOBE_FORMATTER" "Ljava/util/function/BiFunction;") ∈ lw_all := lw_g (lw_at lw_m3 198 rfl) rfl
theorem q737 : (Jvm.Cond.methodLink "java/lang/AbstractStringBuilder" (161 : Nat) ({ cls := "jdk/internal/util/Preconditions", name := "checkFromToIndex", desc := "(IIILjava/util/function/BiFunction;)I" } : Jvm.MethodName)) ∈ lw_all := lw_g (lw_at lw_m3 199 rfl) rfl
theorem q738 : (Jvm.Cond.methodLink "java/lang/AbstractStringBuilder" (304 : Nat) ({ cls := "java/lang/StringLatin1", name := "newString", desc := "([BII)Ljava/lang/String;" } : Jvm.MethodName)) ∈ lw_all := lw_g (lw_at lw_m3 200 rfl) rfl
theorem q739 : (Jvm.Cond.methodLink "java/lang/AbstractStringBuilder" (308 : Nat) ({ cls := "java/lang/StringUTF16", name := "newString", desc := "([BII)Ljava/lang/String;" } : Jvm.MethodName)) ∈ lw_all := lw_g (lw_at lw_m3 201 rfl) rfl
theorem q907 : (Jvm.Cond.instanceMethod ({ cls := "java/lang/AbstractStringBuilder", name := "append", desc := "(C)Ljava/lang/AbstractStringBuilder;" } : Jvm.MethodName)) ∈ lw_all := lw_g (lw_at lw_m4 129 rfl) rfl
theorem q908 : (Jvm.Cond.code ({ cls := "java/lang/AbstractStringBuilder", name := "append", desc := "(C)Ljava/lang/AbstractStringBuilder;" } : Jvm.MethodName) prog_3_method_31_code (2 : Nat) (Option.some (Jvm.ClassFile.FieldType.object "java/lang/AbstractStringBuilder"))) ∈ lw_all := lw_g (lw_at lw_m4 130 rfl) rfl
theorem q909 : (Jvm.Cond.methodLink "java/lang/AbstractStringBuilder" (191 : Nat) ({ cls := "java/lang/StringLatin1", name := "canEncode", desc := "(C)Z" } : Jvm.MethodName)) ∈ lw_all := lw_g (lw_at lw_m4 131 rfl) rfl
theorem q912 : (Jvm.Cond.methodLink "java/lang/AbstractStringBuilder" (197 : Nat) ({ cls := "java/lang/StringUTF16", name := "putCharSB", desc := "([BII)V" } : Jvm.MethodName)) ∈ lw_all := lw_g (lw_at lw_m4 134 rfl) rfl
theorem q941 : (Jvm.Cond.instanceMethod ({ cls := "java/lang/AbstractStringBuilder", name := "append", desc := "(Ljava/lang/CharSequence;II)Ljava/lang/AbstractStringBuilder;" } : Jvm.MethodName)) ∈ lw_all := lw_g (lw_at lw_m4 163 rfl) rfl
theorem q942 : (Jvm.Cond.code ({ cls := "java/lang/AbstractStringBuilder", name := "append", desc := "(Ljava/lang/CharSequence;II)Ljava/lang/AbstractStringBuilder;" } : Jvm.MethodName) prog_3_method_27_code (5 : Nat) (Option.some (Jvm.ClassFile.FieldType.object "java/lang/AbstractStringBuilder"))) ∈ lw_all := lw_g (lw_at lw_m4 164 rfl) rfl
theorem q943 : (Jvm.Cond.stringRef "java/lang/AbstractStringBuilder" (230 : Nat) "null") ∈ lw_tbl := lw_at lw_m4 165 rfl
theorem q944 : (Jvm.Cond.interfaceEntry "java/lang/AbstractStringBuilder" (47 : Nat)) ∈ lw_tbl := lw_at lw_m4 166 rfl
theorem q945 : (Jvm.Cond.methodLink "java/lang/AbstractStringBuilder" (47 : Nat) ({ cls := "java/lang/CharSequence", name := "length", desc := "()I" } : Jvm.MethodName)) ∈ lw_all := lw_g (lw_at lw_m4 167 rfl) rfl
theorem q946 : (Jvm.Cond.fieldLink "java/lang/AbstractStringBuilder" (183 : Nat) "jdk/internal/util/Preconditions" "IOOBE_FORMATTER" "Ljava/util/function/BiFunction;") ∈ lw_all := lw_g (lw_at lw_m4 168 rfl) rfl
theorem q948 : (Jvm.Cond.classLink "java/lang/AbstractStringBuilder" (1 : Nat) "java/lang/String") ∈ lw_all := lw_g (lw_at lw_m4 170 rfl) rfl
theorem q949 : (Jvm.Cond.methodLink "java/lang/AbstractStringBuilder" (232 : Nat) ({ cls := "java/lang/AbstractStringBuilder", name := "appendChars", desc := "(Ljava/lang/String;II)V" } : Jvm.MethodName)) ∈ lw_all := lw_g (lw_at lw_m4 171 rfl) rfl
theorem q950 : (Jvm.Cond.privateMethod ({ cls := "java/lang/AbstractStringBuilder", name := "appendChars", desc := "(Ljava/lang/String;II)V" } : Jvm.MethodName)) ∈ lw_tbl := lw_at lw_m4 172 rfl
theorem q951 : (Jvm.Cond.instanceMethod ({ cls := "java/lang/AbstractStringBuilder", name := "appendChars", desc := "(Ljava/lang/String;II)V" } : Jvm.MethodName)) ∈ lw_all := lw_g (lw_at lw_m4 173 rfl) rfl
theorem q952 : (Jvm.Cond.code ({ cls := "java/lang/AbstractStringBuilder", name := "appendChars", desc := "(Ljava/lang/String;II)V" } : Jvm.MethodName) prog_3_method_75_code (8 : Nat) (Option.none : Option Jvm.ClassFile.FieldType)) ∈ lw_all := lw_g (lw_at lw_m4 174 rfl) rfl
theorem q953 : (Jvm.Cond.methodLink "java/lang/AbstractStringBuilder" (400 : Nat) ({ cls := "java/lang/String", name := "isLatin1", desc := "()Z" } : Jvm.MethodName)) ∈ lw_all := lw_g (lw_at lw_m4 175 rfl) rfl
theorem q954 : (Jvm.Cond.methodLink "java/lang/AbstractStringBuilder" (401 : Nat) ({ cls := "java/lang/String", name := "value", desc := "()[B" } : Jvm.MethodName)) ∈ lw_all := lw_g (lw_at lw_m4 176 rfl) rfl
theorem q958 : (Jvm.Cond.methodLink "java/lang/AbstractStringBuilder" (309 : Nat) ({ cls := "java/lang/System", name := "arraycopy", desc := "(Ljava/lang/Object;ILjava/lang/Object;II)V" } : Jvm.MethodName)) ∈ lw_all := lw_g (lw_at lw_m4 180 rfl) rfl
theorem q959 : (Jvm.Cond.methodLink "java/lang/AbstractStringBuilder" (404 : Nat) ({ cls := "java/lang/String", name := "charAt", desc := "(I)C" } : Jvm.MethodName)) ∈ lw_all := lw_g (lw_at lw_m4 181 rfl) rfl
theorem q960 : (Jvm.Cond.methodLink "java/lang/AbstractStringBuilder" (394 : Nat) ({ cls := "java/lang/StringUTF16", name := "putCharsSB", desc := "([BILjava/lang/CharSequence;II)V" } : Jvm.MethodName)) ∈ lw_all := lw_g (lw_at lw_m4 182 rfl) rfl
theorem q965 : (Jvm.Cond.methodLink "java/lang/AbstractStringBuilder" (236 : Nat) ({ cls := "java/lang/AbstractStringBuilder", name := "appendChars", desc := "(Ljava/lang/CharSequence;II)V" } : Jvm.MethodName)) ∈ lw_all := lw_g (lw_at lw_m4 187 rfl) rfl
theorem q966 : (Jvm.Cond.privateMethod ({ cls := "java/lang/AbstractStringBuilder", name := "appendChars", desc := "(Ljava/lang/CharSequence;II)V" } : Jvm.MethodName)) ∈ lw_tbl := lw_at lw_m4 188 rfl
theorem q967 : (Jvm.Cond.instanceMethod ({ cls := "java/lang/AbstractStringBuilder", name := "appendChars", desc := "(Ljava/lang/CharSequence;II)V" } : Jvm.MethodName)) ∈ lw_all := lw_g (lw_at lw_m4 189 rfl) rfl
theorem q968 : (Jvm.Cond.code ({ cls := "java/lang/AbstractStringBuilder", name := "appendChars", desc := "(Ljava/lang/CharSequence;II)V" } : Jvm.MethodName) prog_3_method_76_code (8 : Nat) (Option.none : Option Jvm.ClassFile.FieldType)) ∈ lw_all := lw_g (lw_at lw_m4 190 rfl) rfl
theorem q969 : (Jvm.Cond.interfaceEntry "java/lang/AbstractStringBuilder" (390 : Nat)) ∈ lw_tbl := lw_at lw_m4 191 rfl
theorem q970 : (Jvm.Cond.methodLink "java/lang/AbstractStringBuilder" (390 : Nat) ({ cls := "java/lang/CharSequence", name := "charAt", desc := "(I)C" } : Jvm.MethodName)) ∈ lw_all := lw_g (lw_at lw_m4 192 rfl) rfl
theorem q1558 : (Jvm.Cond.instanceMethod ({ cls := "java/lang/AbstractStringBuilder", name := "insert", desc := "(ILjava/lang/String;)Ljava/lang/AbstractStringBuilder;" } : Jvm.MethodName)) ∈ lw_all := lw_g (lw_at lw_m7 60 rfl) rfl
theorem q1559 : (Jvm.Cond.code ({ cls := "java/lang/AbstractStringBuilder", name := "insert", desc := "(ILjava/lang/String;)Ljava/lang/AbstractStringBuilder;" } : Jvm.MethodName) prog_3_method_46_code (4 : Nat) (Option.some (Jvm.ClassFile.FieldType.object "java/lang/AbstractStringBuilder"))) ∈ lw_all := lw_g (lw_at lw_m7 61 rfl) rfl
theorem q1560 : (Jvm.Cond.methodLink "java/lang/AbstractStringBuilder" (315 : Nat) ({ cls := "java/lang/String", name := "checkOffset", desc := "(II)V" } : Jvm.MethodName)) ∈ lw_all := lw_g (lw_at lw_m7 62 rfl) rfl
theorem q1563 : (Jvm.Cond.methodLink "java/lang/AbstractStringBuilder" (283 : Nat) ({ cls := "java/lang/AbstractStringBuilder", name := "shift", desc := "(II)V" } : Jvm.MethodName)) ∈ lw_all := lw_g (lw_at lw_m7 65 rfl) rfl
theorem q1564 : (Jvm.Cond.privateMethod ({ cls := "java/lang/AbstractStringBuilder", name := "shift", desc := "(II)V" } : Jvm.MethodName)) ∈ lw_tbl := lw_at lw_m7 66 rfl
theorem q1565 : (Jvm.Cond.instanceMethod ({ cls := "java/lang/AbstractStringBuilder", name := "shift", desc := "(II)V" } : Jvm.MethodName)) ∈ lw_all := lw_g (lw_at lw_m7 67 rfl) rfl
theorem q1566 : (Jvm.Cond.code ({ cls := "java/lang/AbstractStringBuilder", name := "shift", desc := "(II)V" } : Jvm.MethodName) prog_3_method_43_code (3 : Nat) (Option.none : Option Jvm.ClassFile.FieldType)) ∈ lw_all := lw_g (lw_at lw_m7 68 rfl) rfl
theorem q1576 : (Jvm.Cond.instanceMethod ({ cls := "java/lang/AbstractStringBuilder", name := "deleteCharAt", desc := "(I)Ljava/lang/AbstractStringBuilder;" } : Jvm.MethodName)) ∈ lw_all := lw_g (lw_at lw_m7 78 rfl) rfl
theorem q1577 : (Jvm.Cond.code ({ cls := "java/lang/AbstractStringBuilder", name := "deleteCharAt", desc := "(I)Ljava/lang/AbstractStringBuilder;" } : Jvm.MethodName) prog_3_method_38_code (2 : Nat) (Option.some (Jvm.ClassFile.FieldType.object "java/lang/AbstractStringBuilder"))) ∈ lw_all := lw_g (lw_at lw_m7 79 rfl) rfl
theorem q1583 : (Jvm.Cond.instanceMethod ({ cls := "java/lang/AbstractStringBuilder", name := "indexOf", desc := "(Ljava/lang/String;)I" } : Jvm.MethodName)) ∈ lw_all := lw_g (lw_at lw_m7 85 rfl) rfl
theorem q1584 : (Jvm.Cond.code ({ cls := "java/lang/AbstractStringBuilder", name := "indexOf", desc := "(Ljava/lang/String;)I" } : Jvm.MethodName) prog_3_method_56_code (2 : Nat) (Option.some Jvm.ClassFile.FieldType.int)) ∈ lw_all := lw_g (lw_at lw_m7 86 rfl) rfl
theorem q1585 : (Jvm.Cond.methodLink "java/lang/AbstractStringBuilder" (346 : Nat) ({ cls := "java/lang/AbstractStringBuilder", name := "indexOf", desc := "(Ljava/lang/String;I)I" } : Jvm.MethodName)) ∈ lw_all := lw_g (lw_at lw_m7 87 rfl) rfl
theorem q1586 : (Jvm.Cond.instanceMethod ({ cls := "java/lang/AbstractStringBuilder", name := "indexOf", desc := "(Ljava/lang/String;I)I" } : Jvm.MethodName)) ∈ lw_all := lw_g (lw_at lw_m7 88 rfl) rfl
theorem q1587 : (Jvm.Cond.sameMethod "java/lang/AbstractStringBuilder" "java/lang/AbstractStringBuilder" "indexOf" "(Ljava/lang/String;I)I") ∈ lw_all := lw_g (lw_at lw_m7 89 rfl) rfl
theorem q1592 : (Jvm.Cond.code ({ cls := "java/lang/AbstractStringBuilder", name := "indexOf", desc := "(Ljava/lang/String;I)I" } : Jvm.MethodName) prog_3_method_57_code (3 : Nat) (Option.some Jvm.ClassFile.FieldType.int)) ∈ lw_all := lw_g (lw_at lw_m7 94 rfl) rfl
theorem q1593 : (Jvm.Cond.methodLink "java/lang/AbstractStringBuilder" (350 : Nat) ({ cls := "java/lang/String", name := "indexOf", desc := "([BBILjava/lang/String;I)I" } : Jvm.MethodName)) ∈ lw_all := lw_g (lw_at lw_m7 95 rfl) rfl
theorem q1965 : (Jvm.Cond.instanceMethod ({ cls := "java/lang/AbstractStringBuilder", name := "reverse", desc := "()Ljava/lang/AbstractStringBuilder;" } : Jvm.MethodName)) ∈ lw_all := lw_g (lw_at lw_m8 227 rfl) rfl
theorem q1966 : (Jvm.Cond.code ({ cls := "java/lang/AbstractStringBuilder", name := "reverse", desc := "()Ljava/lang/AbstractStringBuilder;" } : Jvm.MethodName) prog_3_method_60_code (7 : Nat) (Option.some (Jvm.ClassFile.FieldType.object "java/lang/AbstractStringBuilder"))) ∈ lw_all := lw_g (lw_at lw_m8 228 rfl) rfl
theorem q1967 : (Jvm.Cond.methodLink "java/lang/AbstractStringBuilder" (358 : Nat) ({ cls := "java/lang/StringUTF16", name := "reverse", desc := "([BI)V" } : Jvm.MethodName)) ∈ lw_all := lw_g (lw_at lw_m8 229 rfl) rfl
theorem q2424 : (Jvm.Cond.sameMethod "java/lang/AbstractStringBuilder" "java/lang/AbstractStringBuilder" "appendNull" "()Ljava/lang/AbstractStringBuilder;") ∈ lw_all := lw_g (lw_at lw_m10 206 rfl) rfl
theorem q2425 : (Jvm.Cond.sameMethod "java/lang/AbstractStringBuilder" "java/lang/AbstractStringBuilder" "ensureCapacityInternal" "(I)V") ∈ lw_all := lw_g (lw_at lw_m10 207 rfl) rfl
theorem q2426 : (Jvm.Cond.sameMethod "java/lang/AbstractStringBuilder" "java/lang/AbstractStringBuilder" "newCapacity" "(I)I") ∈ lw_all := lw_g (lw_at lw_m10 208 rfl) rfl
theorem q2427 : (Jvm.Cond.sameMethod "java/lang/AbstractStringBuilder" "java/lang/AbstractStringBuilder" "putStringAt" "(ILjava/lang/String;)V") ∈ lw_all := lw_g (lw_at lw_m10 209 rfl) rfl
theorem q2428 : (Jvm.Cond.sameMethod "java/lang/AbstractStringBuilder" "java/lang/AbstractStringBuilder" "inflateIfNeededFor" "(Ljava/lang/String;)V") ∈ lw_all := lw_g (lw_at lw_m10 210 rfl) rfl
theorem q2429 : (Jvm.Cond.sameMethod "java/lang/AbstractStringBuilder" "java/lang/AbstractStringBuilder" "inflate" "()V") ∈ lw_all := lw_g (lw_at lw_m10 211 rfl) rfl
theorem q2430 : (Jvm.Cond.sameMethod "java/lang/AbstractStringBuilder" "java/lang/AbstractStringBuilder" "append" "(J)Ljava/lang/AbstractStringBuilder;") ∈ lw_all := lw_g (lw_at lw_m10 212 rfl) rfl
theorem q2431 : (Jvm.Cond.sameMethod "java/lang/AbstractStringBuilder" "java/lang/AbstractStringBuilder" "append" "(I)Ljava/lang/AbstractStringBuilder;") ∈ lw_all := lw_g (lw_at lw_m10 213 rfl) rfl
theorem q2432 : (Jvm.Cond.sameMethod "java/lang/AbstractStringBuilder" "java/lang/AbstractStringBuilder" "charAt" "(I)C") ∈ lw_all := lw_g (lw_at lw_m10 214 rfl) rfl
theorem q2433 : (Jvm.Cond.sameMethod "java/lang/AbstractStringBuilder" "java/lang/AbstractStringBuilder" "subSequence" "(II)Ljava/lang/CharSequence;") ∈ lw_all := lw_g (lw_at lw_m10 215 rfl) rfl
theorem q2434 : (Jvm.Cond.sameMethod "java/lang/AbstractStringBuilder" "java/lang/AbstractStringBuilder" "append" "(C)Ljava/lang/AbstractStringBuilder;") ∈ lw_all := lw_g (lw_at lw_m10 216 rfl) rfl
theorem q2435 : (Jvm.Cond.sameMethod "java/lang/AbstractStringBuilder" "java/lang/AbstractStringBuilder" "append" "(Ljava/lang/CharSequence;II)Ljava/lang/AbstractStringBuilder;") ∈ lw_all := lw_g (lw_at lw_m10 217 rfl) rfl
theorem q2436 : (Jvm.Cond.sameMethod "java/lang/AbstractStringBuilder" "java/lang/AbstractStringBuilder" "appendChars" "(Ljava/lang/String;II)V") ∈ lw_all := lw_g (lw_at lw_m10 218 rfl) rfl
theorem q2437 : (Jvm.Cond.sameMethod "java/lang/AbstractStringBuilder" "java/lang/AbstractStringBuilder" "appendChars" "(Ljava/lang/CharSequence;II)V") ∈ lw_all := lw_g (lw_at lw_m10 219 rfl) rfl
theorem q2440 : (Jvm.Cond.sameMethod "java/lang/AbstractStringBuilder" "java/lang/AbstractStringBuilder" "insert" "(ILjava/lang/String;)Ljava/lang/AbstractStringBuilder;") ∈ lw_all := lw_g (lw_at lw_m10 222 rfl) rfl
theorem q2441 : (Jvm.Cond.sameMethod "java/lang/AbstractStringBuilder" "java/lang/AbstractStringBuilder" "shift" "(II)V") ∈ lw_all := lw_g (lw_at lw_m10 223 rfl) rfl
theorem q2442 : (Jvm.Cond.sameMethod "java/lang/AbstractStringBuilder" "java/lang/AbstractStringBuilder" "deleteCharAt" "(I)Ljava/lang/AbstractStringBuilder;") ∈ lw_all := lw_g (lw_at lw_m10 224 rfl) rfl
theorem q2443 : (Jvm.Cond.sameMethod "java/lang/AbstractStringBuilder" "java/lang/AbstractStringBuilder" "indexOf" "(Ljava/lang/String;)I") ∈ lw_all := lw_g (lw_at lw_m10 225 rfl) rfl
theorem q2444 : (Jvm.Cond.sameMethod "java/lang/AbstractStringBuilder" "java/lang/AbstractStringBuilder" "reverse" "()Ljava/lang/AbstractStringBuilder;") ∈ lw_all := lw_g (lw_at lw_m10 226 rfl) rfl
def RJ7 : String := "java/lang/StringBuilder"
def TJ7 : u_T := fun k => match k with
  | 0 => ("java/lang/AbstractStringBuilder", "value", "[B", false)
  | 1 => ("java/lang/AbstractStringBuilder", "coder", "B", false)
  | 2 => ("java/lang/AbstractStringBuilder", "maybeLatin1", "Z", false)
  | _ => ("java/lang/AbstractStringBuilder", "count", "I", false)
def tyJ7 : Nat → FieldType := fun k => match k with
  | 0 => .array .byte
  | 1 => .byte
  | 2 => .boolean
  | _ => .int
abbrev wsJ70 : List Cond := u_ws RJ7 TJ7 4
theorem nmJ7 : ∀ a, a < 4 → ∀ b, b < 4 → a ≠ b → (TJ7 a).2.1 ≠ (TJ7 b).2.1 := by decide +kernel
theorem tyJ7_ok : ∀ k, k < 4 → parseFieldDescriptor (TJ7 k).2.2.1 = some (tyJ7 k) := by decide +kernel
abbrev cJ7_init : ByteArray := prog_22_method_3_code
def yJ7_init : MethodName := ⟨RJ7, "<init>", "(Ljava/lang/String;)V"⟩
abbrev cJ7_append : ByteArray := prog_22_method_80_code
def yJ7_append : MethodName := ⟨RJ7, "append", "(Ljava/lang/String;)Ljava/lang/AbstractStringBuilder;"⟩
abbrev cJ7_append_2 : ByteArray := prog_22_method_7_code
def yJ7_append_2 : MethodName := ⟨RJ7, "append", "(Ljava/lang/String;)Ljava/lang/StringBuilder;"⟩
abbrev cJ7_append_3 : ByteArray := prog_22_method_16_code
def yJ7_append_3 : MethodName := ⟨RJ7, "append", "(J)Ljava/lang/StringBuilder;"⟩
abbrev cJ7_append_4 : ByteArray := prog_22_method_15_code
def yJ7_append_4 : MethodName := ⟨RJ7, "append", "(I)Ljava/lang/StringBuilder;"⟩
abbrev cJ7_toString : ByteArray := prog_22_method_42_code
def yJ7_toString : MethodName := ⟨RJ7, "toString", "()Ljava/lang/String;"⟩
abbrev cJ7_length : ByteArray := prog_22_method_93_code
def yJ7_length : MethodName := ⟨RJ7, "length", "()I"⟩
abbrev cJ7_init_2 : ByteArray := prog_22_method_1_code
def yJ7_init_2 : MethodName := ⟨RJ7, "<init>", "()V"⟩
abbrev cJ7_charAt : ByteArray := prog_22_method_88_code
def yJ7_charAt : MethodName := ⟨RJ7, "charAt", "(I)C"⟩
abbrev cJ7_subSequence : ByteArray := prog_22_method_63_code
def yJ7_subSequence : MethodName := ⟨RJ7, "subSequence", "(II)Ljava/lang/CharSequence;"⟩
abbrev cJ7_substring : ByteArray := prog_22_method_62_code
def yJ7_substring : MethodName := ⟨RJ7, "substring", "(II)Ljava/lang/String;"⟩
abbrev cJ7_append_5 : ByteArray := prog_22_method_6_code
def yJ7_append_5 : MethodName := ⟨RJ7, "append", "(Ljava/lang/Object;)Ljava/lang/StringBuilder;"⟩
abbrev cJ7_init_3 : ByteArray := prog_22_method_2_code
def yJ7_init_3 : MethodName := ⟨RJ7, "<init>", "(I)V"⟩
abbrev cJ7_append_6 : ByteArray := prog_22_method_14_code
def yJ7_append_6 : MethodName := ⟨RJ7, "append", "(C)Ljava/lang/StringBuilder;"⟩
abbrev cJ7_append_7 : ByteArray := prog_22_method_10_code
def yJ7_append_7 : MethodName := ⟨RJ7, "append", "(Ljava/lang/CharSequence;II)Ljava/lang/StringBuilder;"⟩
abbrev cJ7_insert : ByteArray := prog_22_method_25_code
def yJ7_insert : MethodName := ⟨RJ7, "insert", "(ILjava/lang/String;)Ljava/lang/StringBuilder;"⟩
abbrev cJ7_deleteCharAt : ByteArray := prog_22_method_21_code
def yJ7_deleteCharAt : MethodName := ⟨RJ7, "deleteCharAt", "(I)Ljava/lang/StringBuilder;"⟩
abbrev cJ7_indexOf : ByteArray := prog_22_method_35_code
def yJ7_indexOf : MethodName := ⟨RJ7, "indexOf", "(Ljava/lang/String;)I"⟩
abbrev cJ7_indexOf_2 : ByteArray := prog_22_method_36_code
def yJ7_indexOf_2 : MethodName := ⟨RJ7, "indexOf", "(Ljava/lang/String;I)I"⟩
abbrev cJ7_reverse : ByteArray := prog_22_method_39_code
def yJ7_reverse : MethodName := ⟨RJ7, "reverse", "()Ljava/lang/StringBuilder;"⟩
theorem q67 : (Jvm.Cond.initialized "java/lang/StringBuilder") ∈ lw_all := lw_g (lw_at lw_m1 9 rfl) rfl
theorem q192 : (Jvm.Cond.instantiable "java/lang/StringBuilder" (4 : Nat)) ∈ lw_all := lw_g (lw_at lw_m1 134 rfl) rfl
theorem q212 : (Jvm.Cond.instanceMethod ({ cls := "java/lang/StringBuilder", name := "<init>", desc := "(Ljava/lang/String;)V" } : Jvm.MethodName)) ∈ lw_all := lw_g (lw_at lw_m1 154 rfl) rfl
theorem q213 : (Jvm.Cond.code ({ cls := "java/lang/StringBuilder", name := "<init>", desc := "(Ljava/lang/String;)V" } : Jvm.MethodName) prog_22_method_3_code (2 : Nat) (Option.none : Option Jvm.ClassFile.FieldType)) ∈ lw_all := lw_g (lw_at lw_m1 155 rfl) rfl
theorem q214 : (Jvm.Cond.methodLink "java/lang/StringBuilder" (7 : Nat) ({ cls := "java/lang/AbstractStringBuilder", name := "<init>", desc := "(Ljava/lang/String;)V" } : Jvm.MethodName)) ∈ lw_all := lw_g (lw_at lw_m1 156 rfl) rfl
theorem q241 : (Jvm.Cond.selects "java/lang/StringBuilder" ({ cls := "java/lang/AbstractStringBuilder", name := "append", desc := "(Ljava/lang/String;)Ljava/lang/AbstractStringBuilder;" } : Jvm.MethodName) ({ cls := "java/lang/StringBuilder", name := "append", desc := "(Ljava/lang/String;)Ljava/lang/AbstractStringBuilder;" } : Jvm.MethodName)) ∈ lw_all := lw_g (lw_at lw_m1 183 rfl) rfl
theorem q242 : (Jvm.Cond.instanceMethod ({ cls := "java/lang/StringBuilder", name := "append", desc := "(Ljava/lang/String;)Ljava/lang/AbstractStringBuilder;" } : Jvm.MethodName)) ∈ lw_all := lw_g (lw_at lw_m1 184 rfl) rfl
theorem q243 : (Jvm.Cond.code ({ cls := "java/lang/StringBuilder", name := "append", desc := "(Ljava/lang/String;)Ljava/lang/AbstractStringBuilder;" } : Jvm.MethodName) prog_22_method_80_code (2 : Nat) (Option.some (Jvm.ClassFile.FieldType.object "java/lang/AbstractStringBuilder"))) ∈ lw_all := lw_g (lw_at lw_m1 185 rfl) rfl
theorem q244 : (Jvm.Cond.methodLink "java/lang/StringBuilder" (23 : Nat) ({ cls := "java/lang/StringBuilder", name := "append", desc := "(Ljava/lang/String;)Ljava/lang/StringBuilder;" } : Jvm.MethodName)) ∈ lw_all := lw_g (lw_at lw_m1 186 rfl) rfl
theorem q245 : (Jvm.Cond.instanceMethod ({ cls := "java/lang/StringBuilder", name := "append", desc := "(Ljava/lang/String;)Ljava/lang/StringBuilder;" } : Jvm.MethodName)) ∈ lw_all := lw_g (lw_at lw_m1 187 rfl) rfl
theorem q246 : (Jvm.Cond.selects "java/lang/StringBuilder" ({ cls := "java/lang/StringBuilder", name := "append", desc := "(Ljava/lang/String;)Ljava/lang/StringBuilder;" } : Jvm.MethodName) ({ cls := "java/lang/StringBuilder", name := "append", desc := "(Ljava/lang/String;)Ljava/lang/StringBuilder;" } : Jvm.MethodName)) ∈ lw_all := lw_g (lw_at lw_m1 188 rfl) rfl
theorem q247 : (Jvm.Cond.code ({ cls := "java/lang/StringBuilder", name := "append", desc := "(Ljava/lang/String;)Ljava/lang/StringBuilder;" } : Jvm.MethodName) prog_22_method_7_code (2 : Nat) (Option.some (Jvm.ClassFile.FieldType.object "java/lang/StringBuilder"))) ∈ lw_all := lw_g (lw_at lw_m1 189 rfl) rfl
theorem q248 : (Jvm.Cond.methodLink "java/lang/StringBuilder" (29 : Nat) ({ cls := "java/lang/AbstractStringBuilder", name := "append", desc := "(Ljava/lang/String;)Ljava/lang/AbstractStringBuilder;" } : Jvm.MethodName)) ∈ lw_all := lw_g (lw_at lw_m1 190 rfl) rfl
theorem q249 : (Jvm.Cond.superclass "java/lang/StringBuilder" "java/lang/AbstractStringBuilder") ∈ lw_all := lw_g (lw_at lw_m1 191 rfl) rfl
theorem q292 : (Jvm.Cond.selects "java/lang/StringBuilder" ({ cls := "java/lang/AbstractStringBuilder", name := "isLatin1", desc := "()Z" } : Jvm.MethodName) ({ cls := "java/lang/AbstractStringBuilder", name := "isLatin1", desc := "()Z" } : Jvm.MethodName)) ∈ lw_all := lw_g (lw_at lw_m1 234 rfl) rfl
theorem q359 : (Jvm.Cond.lays "java/lang/StringBuilder" "java/lang/AbstractStringBuilder" "value" "[B") ∈ lw_all := lw_g (lw_at lw_m2 61 rfl) rfl
theorem q361 : (Jvm.Cond.lays "java/lang/StringBuilder" "java/lang/AbstractStringBuilder" "coder" "B") ∈ lw_all := lw_g (lw_at lw_m2 63 rfl) rfl
theorem q363 : (Jvm.Cond.lays "java/lang/StringBuilder" "java/lang/AbstractStringBuilder" "maybeLatin1" "Z") ∈ lw_all := lw_g (lw_at lw_m2 65 rfl) rfl
theorem q365 : (Jvm.Cond.lays "java/lang/StringBuilder" "java/lang/AbstractStringBuilder" "count" "I") ∈ lw_all := lw_g (lw_at lw_m2 67 rfl) rfl
theorem q392 : (Jvm.Cond.instanceMethod ({ cls := "java/lang/StringBuilder", name := "append", desc := "(J)Ljava/lang/StringBuilder;" } : Jvm.MethodName)) ∈ lw_all := lw_g (lw_at lw_m2 94 rfl) rfl
theorem q393 : (Jvm.Cond.selects "java/lang/StringBuilder" ({ cls := "java/lang/StringBuilder", name := "append", desc := "(J)Ljava/lang/StringBuilder;" } : Jvm.MethodName) ({ cls := "java/lang/StringBuilder", name := "append", desc := "(J)Ljava/lang/StringBuilder;" } : Jvm.MethodName)) ∈ lw_all := lw_g (lw_at lw_m2 95 rfl) rfl
theorem q394 : (Jvm.Cond.code ({ cls := "java/lang/StringBuilder", name := "append", desc := "(J)Ljava/lang/StringBuilder;" } : Jvm.MethodName) prog_22_method_16_code (3 : Nat) (Option.some (Jvm.ClassFile.FieldType.object "java/lang/StringBuilder"))) ∈ lw_all := lw_g (lw_at lw_m2 96 rfl) rfl
theorem q395 : (Jvm.Cond.methodLink "java/lang/StringBuilder" (56 : Nat) ({ cls := "java/lang/AbstractStringBuilder", name := "append", desc := "(J)Ljava/lang/AbstractStringBuilder;" } : Jvm.MethodName)) ∈ lw_all := lw_g (lw_at lw_m2 97 rfl) rfl
theorem q429 : (Jvm.Cond.instanceMethod ({ cls := "java/lang/StringBuilder", name := "append", desc := "(I)Ljava/lang/StringBuilder;" } : Jvm.MethodName)) ∈ lw_all := lw_g (lw_at lw_m2 131 rfl) rfl
theorem q430 : (Jvm.Cond.selects "java/lang/StringBuilder" ({ cls := "java/lang/StringBuilder", name := "append", desc := "(I)Ljava/lang/StringBuilder;" } : Jvm.MethodName) ({ cls := "java/lang/StringBuilder", name := "append", desc := "(I)Ljava/lang/StringBuilder;" } : Jvm.MethodName)) ∈ lw_all := lw_g (lw_at lw_m2 132 rfl) rfl
theorem q431 : (Jvm.Cond.code ({ cls := "java/lang/StringBuilder", name := "append", desc := "(I)Ljava/lang/StringBuilder;" } : Jvm.MethodName) prog_22_method_15_code (2 : Nat) (Option.some (Jvm.ClassFile.FieldType.object "java/lang/StringBuilder"))) ∈ lw_all := lw_g (lw_at lw_m2 133 rfl) rfl
theorem q432 : (Jvm.Cond.methodLink "java/lang/StringBuilder" (53 : Nat) ({ cls := "java/lang/AbstractStringBuilder", name := "append", desc := "(I)Ljava/lang/AbstractStringBuilder;" } : Jvm.MethodName)) ∈ lw_all := lw_g (lw_at lw_m2 134 rfl) rfl
theorem q450 : (Jvm.Cond.instanceMethod ({ cls := "java/lang/StringBuilder", name := "toString", desc := "()Ljava/lang/String;" } : Jvm.MethodName)) ∈ lw_all := lw_g (lw_at lw_m2 152 rfl) rfl
theorem q451 : (Jvm.Cond.selects "java/lang/StringBuilder" ({ cls := "java/lang/StringBuilder", name := "toString", desc := "()Ljava/lang/String;" } : Jvm.MethodName) ({ cls := "java/lang/StringBuilder", name := "toString", desc := "()Ljava/lang/String;" } : Jvm.MethodName)) ∈ lw_all := lw_g (lw_at lw_m2 153 rfl) rfl
theorem q452 : (Jvm.Cond.code ({ cls := "java/lang/StringBuilder", name := "toString", desc := "()Ljava/lang/String;" } : Jvm.MethodName) prog_22_method_42_code (1 : Nat) (Option.some (Jvm.ClassFile.FieldType.object "java/lang/String"))) ∈ lw_all := lw_g (lw_at lw_m2 154 rfl) rfl
theorem q453 : (Jvm.Cond.classLink "java/lang/StringBuilder" (18 : Nat) "java/lang/String") ∈ lw_all := lw_g (lw_at lw_m2 155 rfl) rfl
theorem q454 : (Jvm.Cond.methodLink "java/lang/StringBuilder" (137 : Nat) ({ cls := "java/lang/String", name := "<init>", desc := "(Ljava/lang/StringBuilder;)V" } : Jvm.MethodName)) ∈ lw_all := lw_g (lw_at lw_m2 156 rfl) rfl
theorem q464 : (Jvm.Cond.selects "java/lang/StringBuilder" ({ cls := "java/lang/AbstractStringBuilder", name := "getValue", desc := "()[B" } : Jvm.MethodName) ({ cls := "java/lang/AbstractStringBuilder", name := "getValue", desc := "()[B" } : Jvm.MethodName)) ∈ lw_all := lw_g (lw_at lw_m2 166 rfl) rfl
theorem q469 : (Jvm.Cond.selects "java/lang/StringBuilder" ({ cls := "java/lang/AbstractStringBuilder", name := "length", desc := "()I" } : Jvm.MethodName) ({ cls := "java/lang/StringBuilder", name := "length", desc := "()I" } : Jvm.MethodName)) ∈ lw_all := lw_g (lw_at lw_m2 171 rfl) rfl
theorem q470 : (Jvm.Cond.instanceMethod ({ cls := "java/lang/StringBuilder", name := "length", desc := "()I" } : Jvm.MethodName)) ∈ lw_all := lw_g (lw_at lw_m2 172 rfl) rfl
theorem q471 : (Jvm.Cond.code ({ cls := "java/lang/StringBuilder", name := "length", desc := "()I" } : Jvm.MethodName) prog_22_method_93_code (1 : Nat) (Option.some Jvm.ClassFile.FieldType.int)) ∈ lw_all := lw_g (lw_at lw_m2 173 rfl) rfl
theorem q472 : (Jvm.Cond.methodLink "java/lang/StringBuilder" (343 : Nat) ({ cls := "java/lang/AbstractStringBuilder", name := "length", desc := "()I" } : Jvm.MethodName)) ∈ lw_all := lw_g (lw_at lw_m2 174 rfl) rfl
theorem q495 : (Jvm.Cond.instanceMethod ({ cls := "java/lang/StringBuilder", name := "<init>", desc := "()V" } : Jvm.MethodName)) ∈ lw_all := lw_g (lw_at lw_m2 197 rfl) rfl
theorem q496 : (Jvm.Cond.code ({ cls := "java/lang/StringBuilder", name := "<init>", desc := "()V" } : Jvm.MethodName) prog_22_method_1_code (1 : Nat) (Option.none : Option Jvm.ClassFile.FieldType)) ∈ lw_all := lw_g (lw_at lw_m2 198 rfl) rfl
theorem q497 : (Jvm.Cond.methodLink "java/lang/StringBuilder" (1 : Nat) ({ cls := "java/lang/AbstractStringBuilder", name := "<init>", desc := "(I)V" } : Jvm.MethodName)) ∈ lw_all := lw_g (lw_at lw_m2 199 rfl) rfl
theorem q625 : (Jvm.Cond.castable "java/lang/StringBuilder" "java/lang/CharSequence") ∈ lw_tbl := lw_at lw_m3 87 rfl
theorem q626 : (Jvm.Cond.selects "java/lang/StringBuilder" ({ cls := "java/lang/CharSequence", name := "length", desc := "()I" } : Jvm.MethodName) ({ cls := "java/lang/StringBuilder", name := "length", desc := "()I" } : Jvm.MethodName)) ∈ lw_all := lw_g (lw_at lw_m3 88 rfl) rfl
theorem q627 : (Jvm.Cond.unhidden "java/lang/StringBuilder" "length" "()I") ∈ lw_tbl := lw_at lw_m3 89 rfl
theorem q628 : (Jvm.Cond.publicMethod ({ cls := "java/lang/StringBuilder", name := "length", desc := "()I" } : Jvm.MethodName)) ∈ lw_tbl := lw_at lw_m3 90 rfl
theorem q666 : (Jvm.Cond.selects "java/lang/StringBuilder" ({ cls := "java/lang/CharSequence", name := "charAt", desc := "(I)C" } : Jvm.MethodName) ({ cls := "java/lang/StringBuilder", name := "charAt", desc := "(I)C" } : Jvm.MethodName)) ∈ lw_all := lw_g (lw_at lw_m3 128 rfl) rfl
theorem q667 : (Jvm.Cond.unhidden "java/lang/StringBuilder" "charAt" "(I)C") ∈ lw_tbl := lw_at lw_m3 129 rfl
theorem q668 : (Jvm.Cond.instanceMethod ({ cls := "java/lang/StringBuilder", name := "charAt", desc := "(I)C" } : Jvm.MethodName)) ∈ lw_all := lw_g (lw_at lw_m3 130 rfl) rfl
theorem q669 : (Jvm.Cond.publicMethod ({ cls := "java/lang/StringBuilder", name := "charAt", desc := "(I)C" } : Jvm.MethodName)) ∈ lw_tbl := lw_at lw_m3 131 rfl
theorem q670 : (Jvm.Cond.code ({ cls := "java/lang/StringBuilder", name := "charAt", desc := "(I)C" } : Jvm.MethodName) prog_22_method_88_code (2 : Nat) (Option.some Jvm.ClassFile.FieldType.char)) ∈ lw_all := lw_g (lw_at lw_m3 132 rfl) rfl
theorem q671 : (Jvm.Cond.methodLink "java/lang/StringBuilder" (329 : Nat) ({ cls := "java/lang/AbstractStringBuilder", name := "charAt", desc := "(I)C" } : Jvm.MethodName)) ∈ lw_all := lw_g (lw_at lw_m3 133 rfl) rfl
theorem q720 : (Jvm.Cond.selects "java/lang/StringBuilder" ({ cls := "java/lang/CharSequence", name := "subSequence", desc := "(II)Ljava/lang/CharSequence;" } : Jvm.MethodName) ({ cls := "java/lang/StringBuilder", name := "subSequence", desc := "(II)Ljava/lang/CharSequence;" } : Jvm.MethodName)) ∈ lw_all := lw_g (lw_at lw_m3 182 rfl) rfl
theorem q721 : (Jvm.Cond.unhidden "java/lang/StringBuilder" "subSequence" "(II)Ljava/lang/CharSequence;") ∈ lw_tbl := lw_at lw_m3 183 rfl
theorem q722 : (Jvm.Cond.instanceMethod ({ cls := "java/lang/StringBuilder", name := "subSequence", desc := "(II)Ljava/lang/CharSequence;" } : Jvm.MethodName)) ∈ lw_all := lw_g (lw_at lw_m3 184 rfl) rfl
theorem q723 : (Jvm.Cond.publicMethod ({ cls := "java/lang/StringBuilder", name := "subSequence", desc := "(II)Ljava/lang/CharSequence;" } : Jvm.MethodName)) ∈ lw_tbl := lw_at lw_m3 185 rfl
theorem q724 : (Jvm.Cond.code ({ cls := "java/lang/StringBuilder", name := "subSequence", desc := "(II)Ljava/lang/CharSequence;" } : Jvm.MethodName) prog_22_method_63_code (3 : Nat) (Option.some (Jvm.ClassFile.FieldType.object "java/lang/CharSequence"))) ∈ lw_all := lw_g (lw_at lw_m3 186 rfl) rfl
theorem q725 : (Jvm.Cond.methodLink "java/lang/StringBuilder" (256 : Nat) ({ cls := "java/lang/AbstractStringBuilder", name := "subSequence", desc := "(II)Ljava/lang/CharSequence;" } : Jvm.MethodName)) ∈ lw_all := lw_g (lw_at lw_m3 187 rfl) rfl
theorem q731 : (Jvm.Cond.selects "java/lang/StringBuilder" ({ cls := "java/lang/AbstractStringBuilder", name := "substring", desc := "(II)Ljava/lang/String;" } : Jvm.MethodName) ({ cls := "java/lang/StringBuilder", name := "substring", desc := "(II)Ljava/lang/String;" } : Jvm.MethodName)) ∈ lw_all := lw_g (lw_at lw_m3 193 rfl) rfl
theorem q732 : (Jvm.Cond.instanceMethod ({ cls := "java/lang/StringBuilder", name := "substring", desc := "(II)Ljava/lang/String;" } : Jvm.MethodName)) ∈ lw_all := lw_g (lw_at lw_m3 194 rfl) rfl
theorem q733 : (Jvm.Cond.code ({ cls := "java/lang/StringBuilder", name := "substring", desc := "(II)Ljava/lang/String;" } : Jvm.MethodName) prog_22_method_62_code (3 : Nat) (Option.some (Jvm.ClassFile.FieldType.object "java/lang/String"))) ∈ lw_all := lw_g (lw_at lw_m3 195 rfl) rfl
theorem q734 : (Jvm.Cond.methodLink "java/lang/StringBuilder" (252 : Nat) ({ cls := "java/lang/AbstractStringBuilder", name := "substring", desc := "(II)Ljava/lang/String;" } : Jvm.MethodName)) ∈ lw_all := lw_g (lw_at lw_m3 196 rfl) rfl
theorem q741 : (Jvm.Cond.instanceMethod ({ cls := "java/lang/StringBuilder", name := "append", desc := "(Ljava/lang/Object;)Ljava/lang/StringBuilder;" } : Jvm.MethodName)) ∈ lw_all := lw_g (lw_at lw_m3 203 rfl) rfl
theorem q742 : (Jvm.Cond.selects "java/lang/StringBuilder" ({ cls := "java/lang/StringBuilder", name := "append", desc := "(Ljava/lang/Object;)Ljava/lang/StringBuilder;" } : Jvm.MethodName) ({ cls := "java/lang/StringBuilder", name := "append", desc := "(Ljava/lang/Object;)Ljava/lang/StringBuilder;" } : Jvm.MethodName)) ∈ lw_all := lw_g (lw_at lw_m3 204 rfl) rfl
theorem q743 : (Jvm.Cond.code ({ cls := "java/lang/StringBuilder", name := "append", desc := "(Ljava/lang/Object;)Ljava/lang/StringBuilder;" } : Jvm.MethodName) prog_22_method_6_code (2 : Nat) (Option.some (Jvm.ClassFile.FieldType.object "java/lang/StringBuilder"))) ∈ lw_all := lw_g (lw_at lw_m3 205 rfl) rfl
theorem q744 : (Jvm.Cond.methodLink "java/lang/StringBuilder" (17 : Nat) ({ cls := "java/lang/String", name := "valueOf", desc := "(Ljava/lang/Object;)Ljava/lang/String;" } : Jvm.MethodName)) ∈ lw_all := lw_g (lw_at lw_m3 206 rfl) rfl
theorem q768 : (Jvm.Cond.selects "java/lang/StringBuilder" ({ cls := "java/lang/Object", name := "getClass", desc := "()Ljava/lang/Class;" } : Jvm.MethodName) ({ cls := "java/lang/Object", name := "getClass", desc := "()Ljava/lang/Class;" } : Jvm.MethodName)) ∈ lw_all := lw_g (lw_at lw_m3 230 rfl) rfl
theorem q801 : (Jvm.Cond.selects "java/lang/StringBuilder" ({ cls := "java/lang/Object", name := "toString", desc := "()Ljava/lang/String;" } : Jvm.MethodName) ({ cls := "java/lang/StringBuilder", name := "toString", desc := "()Ljava/lang/String;" } : Jvm.MethodName)) ∈ lw_all := lw_g (lw_at lw_m4 23 rfl) rfl
theorem q900 : (Jvm.Cond.instanceMethod ({ cls := "java/lang/StringBuilder", name := "<init>", desc := "(I)V" } : Jvm.MethodName)) ∈ lw_all := lw_g (lw_at lw_m4 122 rfl) rfl
theorem q901 : (Jvm.Cond.code ({ cls := "java/lang/StringBuilder", name := "<init>", desc := "(I)V" } : Jvm.MethodName) prog_22_method_2_code (2 : Nat) (Option.none : Option Jvm.ClassFile.FieldType)) ∈ lw_all := lw_g (lw_at lw_m4 123 rfl) rfl
theorem q903 : (Jvm.Cond.instanceMethod ({ cls := "java/lang/StringBuilder", name := "append", desc := "(C)Ljava/lang/StringBuilder;" } : Jvm.MethodName)) ∈ lw_all := lw_g (lw_at lw_m4 125 rfl) rfl
theorem q904 : (Jvm.Cond.selects "java/lang/StringBuilder" ({ cls := "java/lang/StringBuilder", name := "append", desc := "(C)Ljava/lang/StringBuilder;" } : Jvm.MethodName) ({ cls := "java/lang/StringBuilder", name := "append", desc := "(C)Ljava/lang/StringBuilder;" } : Jvm.MethodName)) ∈ lw_all := lw_g (lw_at lw_m4 126 rfl) rfl
theorem q905 : (Jvm.Cond.code ({ cls := "java/lang/StringBuilder", name := "append", desc := "(C)Ljava/lang/StringBuilder;" } : Jvm.MethodName) prog_22_method_14_code (2 : Nat) (Option.some (Jvm.ClassFile.FieldType.object "java/lang/StringBuilder"))) ∈ lw_all := lw_g (lw_at lw_m4 127 rfl) rfl
theorem q906 : (Jvm.Cond.methodLink "java/lang/StringBuilder" (50 : Nat) ({ cls := "java/lang/AbstractStringBuilder", name := "append", desc := "(C)Ljava/lang/AbstractStringBuilder;" } : Jvm.MethodName)) ∈ lw_all := lw_g (lw_at lw_m4 128 rfl) rfl
theorem q937 : (Jvm.Cond.instanceMethod ({ cls := "java/lang/StringBuilder", name := "append", desc := "(Ljava/lang/CharSequence;II)Ljava/lang/StringBuilder;" } : Jvm.MethodName)) ∈ lw_all := lw_g (lw_at lw_m4 159 rfl) rfl
theorem q938 : (Jvm.Cond.selects "java/lang/StringBuilder" ({ cls := "java/lang/StringBuilder", name := "append", desc := "(Ljava/lang/CharSequence;II)Ljava/lang/StringBuilder;" } : Jvm.MethodName) ({ cls := "java/lang/StringBuilder", name := "append", desc := "(Ljava/lang/CharSequence;II)Ljava/lang/StringBuilder;" } : Jvm.MethodName)) ∈ lw_all := lw_g (lw_at lw_m4 160 rfl) rfl
theorem q939 : (Jvm.Cond.code ({ cls := "java/lang/StringBuilder", name := "append", desc := "(Ljava/lang/CharSequence;II)Ljava/lang/StringBuilder;" } : Jvm.MethodName) prog_22_method_10_code (4 : Nat) (Option.some (Jvm.ClassFile.FieldType.object "java/lang/StringBuilder"))) ∈ lw_all := lw_g (lw_at lw_m4 161 rfl) rfl
theorem q940 : (Jvm.Cond.methodLink "java/lang/StringBuilder" (38 : Nat) ({ cls := "java/lang/AbstractStringBuilder", name := "append", desc := "(Ljava/lang/CharSequence;II)Ljava/lang/AbstractStringBuilder;" } : Jvm.MethodName)) ∈ lw_all := lw_g (lw_at lw_m4 162 rfl) rfl
theorem q1554 : (Jvm.Cond.instanceMethod ({ cls := "java/lang/StringBuilder", name := "insert", desc := "(ILjava/lang/String;)Ljava/lang/StringBuilder;" } : Jvm.MethodName)) ∈ lw_all := lw_g (lw_at lw_m7 56 rfl) rfl
theorem q1555 : (Jvm.Cond.selects "java/lang/StringBuilder" ({ cls := "java/lang/StringBuilder", name := "insert", desc := "(ILjava/lang/String;)Ljava/lang/StringBuilder;" } : Jvm.MethodName) ({ cls := "java/lang/StringBuilder", name := "insert", desc := "(ILjava/lang/String;)Ljava/lang/StringBuilder;" } : Jvm.MethodName)) ∈ lw_all := lw_g (lw_at lw_m7 57 rfl) rfl
theorem q1556 : (Jvm.Cond.code ({ cls := "java/lang/StringBuilder", name := "insert", desc := "(ILjava/lang/String;)Ljava/lang/StringBuilder;" } : Jvm.MethodName) prog_22_method_25_code (3 : Nat) (Option.some (Jvm.ClassFile.FieldType.object "java/lang/StringBuilder"))) ∈ lw_all := lw_g (lw_at lw_m7 58 rfl) rfl
theorem q1557 : (Jvm.Cond.methodLink "java/lang/StringBuilder" (86 : Nat) ({ cls := "java/lang/AbstractStringBuilder", name := "insert", desc := "(ILjava/lang/String;)Ljava/lang/AbstractStringBuilder;" } : Jvm.MethodName)) ∈ lw_all := lw_g (lw_at lw_m7 59 rfl) rfl
theorem q1572 : (Jvm.Cond.instanceMethod ({ cls := "java/lang/StringBuilder", name := "deleteCharAt", desc := "(I)Ljava/lang/StringBuilder;" } : Jvm.MethodName)) ∈ lw_all := lw_g (lw_at lw_m7 74 rfl) rfl
theorem q1573 : (Jvm.Cond.selects "java/lang/StringBuilder" ({ cls := "java/lang/StringBuilder", name := "deleteCharAt", desc := "(I)Ljava/lang/StringBuilder;" } : Jvm.MethodName) ({ cls := "java/lang/StringBuilder", name := "deleteCharAt", desc := "(I)Ljava/lang/StringBuilder;" } : Jvm.MethodName)) ∈ lw_all := lw_g (lw_at lw_m7 75 rfl) rfl
theorem q1574 : (Jvm.Cond.code ({ cls := "java/lang/StringBuilder", name := "deleteCharAt", desc := "(I)Ljava/lang/StringBuilder;" } : Jvm.MethodName) prog_22_method_21_code (2 : Nat) (Option.some (Jvm.ClassFile.FieldType.object "java/lang/StringBuilder"))) ∈ lw_all := lw_g (lw_at lw_m7 76 rfl) rfl
theorem q1575 : (Jvm.Cond.methodLink "java/lang/StringBuilder" (72 : Nat) ({ cls := "java/lang/AbstractStringBuilder", name := "deleteCharAt", desc := "(I)Ljava/lang/AbstractStringBuilder;" } : Jvm.MethodName)) ∈ lw_all := lw_g (lw_at lw_m7 77 rfl) rfl
theorem q1579 : (Jvm.Cond.instanceMethod ({ cls := "java/lang/StringBuilder", name := "indexOf", desc := "(Ljava/lang/String;)I" } : Jvm.MethodName)) ∈ lw_all := lw_g (lw_at lw_m7 81 rfl) rfl
theorem q1580 : (Jvm.Cond.selects "java/lang/StringBuilder" ({ cls := "java/lang/StringBuilder", name := "indexOf", desc := "(Ljava/lang/String;)I" } : Jvm.MethodName) ({ cls := "java/lang/StringBuilder", name := "indexOf", desc := "(Ljava/lang/String;)I" } : Jvm.MethodName)) ∈ lw_all := lw_g (lw_at lw_m7 82 rfl) rfl
theorem q1581 : (Jvm.Cond.code ({ cls := "java/lang/StringBuilder", name := "indexOf", desc := "(Ljava/lang/String;)I" } : Jvm.MethodName) prog_22_method_35_code (2 : Nat) (Option.some Jvm.ClassFile.FieldType.int)) ∈ lw_all := lw_g (lw_at lw_m7 83 rfl) rfl
theorem q1582 : (Jvm.Cond.methodLink "java/lang/StringBuilder" (115 : Nat) ({ cls := "java/lang/AbstractStringBuilder", name := "indexOf", desc := "(Ljava/lang/String;)I" } : Jvm.MethodName)) ∈ lw_all := lw_g (lw_at lw_m7 84 rfl) rfl
theorem q1588 : (Jvm.Cond.selects "java/lang/StringBuilder" ({ cls := "java/lang/AbstractStringBuilder", name := "indexOf", desc := "(Ljava/lang/String;I)I" } : Jvm.MethodName) ({ cls := "java/lang/StringBuilder", name := "indexOf", desc := "(Ljava/lang/String;I)I" } : Jvm.MethodName)) ∈ lw_all := lw_g (lw_at lw_m7 90 rfl) rfl
theorem q1589 : (Jvm.Cond.instanceMethod ({ cls := "java/lang/StringBuilder", name := "indexOf", desc := "(Ljava/lang/String;I)I" } : Jvm.MethodName)) ∈ lw_all := lw_g (lw_at lw_m7 91 rfl) rfl
theorem q1590 : (Jvm.Cond.code ({ cls := "java/lang/StringBuilder", name := "indexOf", desc := "(Ljava/lang/String;I)I" } : Jvm.MethodName) prog_22_method_36_code (3 : Nat) (Option.some Jvm.ClassFile.FieldType.int)) ∈ lw_all := lw_g (lw_at lw_m7 92 rfl) rfl
theorem q1591 : (Jvm.Cond.methodLink "java/lang/StringBuilder" (119 : Nat) ({ cls := "java/lang/AbstractStringBuilder", name := "indexOf", desc := "(Ljava/lang/String;I)I" } : Jvm.MethodName)) ∈ lw_all := lw_g (lw_at lw_m7 93 rfl) rfl
theorem q1961 : (Jvm.Cond.instanceMethod ({ cls := "java/lang/StringBuilder", name := "reverse", desc := "()Ljava/lang/StringBuilder;" } : Jvm.MethodName)) ∈ lw_all := lw_g (lw_at lw_m8 223 rfl) rfl
theorem q1962 : (Jvm.Cond.selects "java/lang/StringBuilder" ({ cls := "java/lang/StringBuilder", name := "reverse", desc := "()Ljava/lang/StringBuilder;" } : Jvm.MethodName) ({ cls := "java/lang/StringBuilder", name := "reverse", desc := "()Ljava/lang/StringBuilder;" } : Jvm.MethodName)) ∈ lw_all := lw_g (lw_at lw_m8 224 rfl) rfl
theorem q1963 : (Jvm.Cond.code ({ cls := "java/lang/StringBuilder", name := "reverse", desc := "()Ljava/lang/StringBuilder;" } : Jvm.MethodName) prog_22_method_39_code (1 : Nat) (Option.some (Jvm.ClassFile.FieldType.object "java/lang/StringBuilder"))) ∈ lw_all := lw_g (lw_at lw_m8 225 rfl) rfl
theorem q1964 : (Jvm.Cond.methodLink "java/lang/StringBuilder" (127 : Nat) ({ cls := "java/lang/AbstractStringBuilder", name := "reverse", desc := "()Ljava/lang/AbstractStringBuilder;" } : Jvm.MethodName)) ∈ lw_all := lw_g (lw_at lw_m8 226 rfl) rfl
theorem q2439 : (Jvm.Cond.selects "java/lang/StringBuilder" ({ cls := "java/lang/StringBuilder", name := "length", desc := "()I" } : Jvm.MethodName) ({ cls := "java/lang/StringBuilder", name := "length", desc := "()I" } : Jvm.MethodName)) ∈ lw_all := lw_g (lw_at lw_m10 221 rfl) rfl
def RJ8 : String := "java/lang/Number"
abbrev cJ8_init : ByteArray := prog_17_method_1_code
def yJ8_init : MethodName := ⟨RJ8, "<init>", "()V"⟩
theorem q68 : (Jvm.Cond.initialized "java/lang/Number") ∈ lw_all := lw_g (lw_at lw_m1 10 rfl) rfl
theorem q824 : (Jvm.Cond.instanceMethod ({ cls := "java/lang/Number", name := "<init>", desc := "()V" } : Jvm.MethodName)) ∈ lw_all := lw_g (lw_at lw_m4 46 rfl) rfl
theorem q825 : (Jvm.Cond.code ({ cls := "java/lang/Number", name := "<init>", desc := "()V" } : Jvm.MethodName) prog_17_method_1_code (1 : Nat) (Option.none : Option Jvm.ClassFile.FieldType)) ∈ lw_all := lw_g (lw_at lw_m4 47 rfl) rfl
theorem q826 : (Jvm.Cond.methodLink "java/lang/Number" (1 : Nat) ({ cls := "java/lang/Object", name := "<init>", desc := "()V" } : Jvm.MethodName)) ∈ lw_all := lw_g (lw_at lw_m4 48 rfl) rfl
def RJ9 : String := "java/lang/Double"
abbrev cJ9_doubleToLongBits : ByteArray := prog_10_method_23_code
def yJ9_doubleToLongBits : MethodName := ⟨RJ9, "doubleToLongBits", "(D)J"⟩
abbrev cJ9_isNaN : ByteArray := prog_10_method_6_code
def yJ9_isNaN : MethodName := ⟨RJ9, "isNaN", "(D)Z"⟩
abbrev cJ9_isInfinite : ByteArray := prog_10_method_7_code
def yJ9_isInfinite : MethodName := ⟨RJ9, "isInfinite", "(D)Z"⟩
abbrev cJ9_compare : ByteArray := prog_10_method_27_code
def yJ9_compare : MethodName := ⟨RJ9, "compare", "(DD)I"⟩
theorem q69 : (Jvm.Cond.initialized "java/lang/Double") ∈ lw_all := lw_g (lw_at lw_m1 11 rfl) rfl
theorem q200 : (Jvm.Cond.static ({ cls := "java/lang/Double", name := "doubleToLongBits", desc := "(D)J" } : Jvm.MethodName)) ∈ lw_all := lw_g (lw_at lw_m1 142 rfl) rfl
theorem q201 : (Jvm.Cond.code ({ cls := "java/lang/Double", name := "doubleToLongBits", desc := "(D)J" } : Jvm.MethodName) prog_10_method_23_code (2 : Nat) (Option.some Jvm.ClassFile.FieldType.long)) ∈ lw_all := lw_g (lw_at lw_m1 143 rfl) rfl
theorem q202 : (Jvm.Cond.methodLink "java/lang/Double" (122 : Nat) ({ cls := "java/lang/Double", name := "isNaN", desc := "(D)Z" } : Jvm.MethodName)) ∈ lw_all := lw_g (lw_at lw_m1 144 rfl) rfl
theorem q203 : (Jvm.Cond.static ({ cls := "java/lang/Double", name := "isNaN", desc := "(D)Z" } : Jvm.MethodName)) ∈ lw_all := lw_g (lw_at lw_m1 145 rfl) rfl
theorem q204 : (Jvm.Cond.code ({ cls := "java/lang/Double", name := "isNaN", desc := "(D)Z" } : Jvm.MethodName) prog_10_method_6_code (2 : Nat) (Option.some Jvm.ClassFile.FieldType.boolean)) ∈ lw_all := lw_g (lw_at lw_m1 146 rfl) rfl
theorem q205 : (Jvm.Cond.methodLink "java/lang/Double" (134 : Nat) ({ cls := "java/lang/Double", name := "doubleToRawLongBits", desc := "(D)J" } : Jvm.MethodName)) ∈ lw_all := lw_g (lw_at lw_m1 147 rfl) rfl
theorem q206 : (Jvm.Cond.static ({ cls := "java/lang/Double", name := "doubleToRawLongBits", desc := "(D)J" } : Jvm.MethodName)) ∈ lw_all := lw_g (lw_at lw_m1 148 rfl) rfl
theorem q207 : (Jvm.Cond.native ({ cls := "java/lang/Double", name := "doubleToRawLongBits", desc := "(D)J" } : Jvm.MethodName)) ∈ lw_all := lw_g (lw_at lw_m1 149 rfl) rfl
theorem q208 : (Jvm.Cond.constantLong "java/lang/Double" (137 : Nat) (9221120237041090560 : Int64)) ∈ lw_all := lw_g (lw_at lw_m1 150 rfl) rfl
theorem q896 : (Jvm.Cond.static ({ cls := "java/lang/Double", name := "longBitsToDouble", desc := "(J)D" } : Jvm.MethodName)) ∈ lw_all := lw_g (lw_at lw_m4 118 rfl) rfl
theorem q897 : (Jvm.Cond.native ({ cls := "java/lang/Double", name := "longBitsToDouble", desc := "(J)D" } : Jvm.MethodName)) ∈ lw_all := lw_g (lw_at lw_m4 119 rfl) rfl
theorem q2009 : (Jvm.Cond.static ({ cls := "java/lang/Double", name := "isInfinite", desc := "(D)Z" } : Jvm.MethodName)) ∈ lw_all := lw_g (lw_at lw_m9 31 rfl) rfl
theorem q2010 : (Jvm.Cond.code ({ cls := "java/lang/Double", name := "isInfinite", desc := "(D)Z" } : Jvm.MethodName) prog_10_method_7_code (2 : Nat) (Option.some Jvm.ClassFile.FieldType.boolean)) ∈ lw_all := lw_g (lw_at lw_m9 32 rfl) rfl
theorem q2011 : (Jvm.Cond.methodLink "java/lang/Double" (38 : Nat) ({ cls := "java/lang/Math", name := "abs", desc := "(D)D" } : Jvm.MethodName)) ∈ lw_all := lw_g (lw_at lw_m9 33 rfl) rfl
theorem q2015 : (Jvm.Cond.constantDouble "java/lang/Double" (111 : Nat) (9218868437227405311 : UInt64)) ∈ lw_all := lw_g (lw_at lw_m9 37 rfl) rfl
theorem q2048 : (Jvm.Cond.static ({ cls := "java/lang/Double", name := "compare", desc := "(DD)I" } : Jvm.MethodName)) ∈ lw_all := lw_g (lw_at lw_m9 70 rfl) rfl
theorem q2049 : (Jvm.Cond.code ({ cls := "java/lang/Double", name := "compare", desc := "(DD)I" } : Jvm.MethodName) prog_10_method_27_code (8 : Nat) (Option.some Jvm.ClassFile.FieldType.int)) ∈ lw_all := lw_g (lw_at lw_m9 71 rfl) rfl
theorem q2050 : (Jvm.Cond.methodLink "java/lang/Double" (46 : Nat) ({ cls := "java/lang/Double", name := "doubleToLongBits", desc := "(D)J" } : Jvm.MethodName)) ∈ lw_all := lw_g (lw_at lw_m9 72 rfl) rfl
def RX0 : String := "NearplacesLaw"
def TX0 : u_T := fun k => match k with
  | _ => ("NearplacesLaw", "o", "LNearplaces;", true)
def tyX0 : Nat → FieldType := fun k => match k with
  | _ => .object "Nearplaces"
abbrev wsX00 : List Cond := u_ws RX0 TX0 1
theorem nmX0 : ∀ a, a < 1 → ∀ b, b < 1 → a ≠ b → (TX0 a).2.1 ≠ (TX0 b).2.1 := by decide +kernel
theorem tyX0_ok : ∀ k, k < 1 → parseFieldDescriptor (TX0 k).2.2.1 = some (tyX0 k) := by decide +kernel
abbrev cX0_told : ByteArray := method_31_code
def yX0_told : MethodName := ⟨RX0, "told", "([I)Z"⟩
abbrev cX0_init : ByteArray := method_1_code
def yX0_init : MethodName := ⟨RX0, "<init>", "()V"⟩
abbrev cX0_holds : ByteArray := method_29_code
def yX0_holds : MethodName := ⟨RX0, "holds", "([I)Z"⟩
abbrev cX0_cell : ByteArray := method_2_code
def yX0_cell : MethodName := ⟨RX0, "cell", "([II)I"⟩
abbrev cX0_some : ByteArray := method_3_code
def yX0_some : MethodName := ⟨RX0, "some", "(II)I"⟩
abbrev cX0_puts : ByteArray := method_13_code
def yX0_puts : MethodName := ⟨RX0, "puts", "(III)Z"⟩
abbrev cX0_is : ByteArray := method_10_code
def yX0_is : MethodName := ⟨RX0, "is", "(IZ)Z"⟩
abbrev cX0_isDone : ByteArray := method_9_code
def yX0_isDone : MethodName := ⟨RX0, "isDone", "(I)Z"⟩
abbrev cX0_fraction : ByteArray := method_7_code
def yX0_fraction : MethodName := ⟨RX0, "fraction", "(ZI)J"⟩
abbrev cX0_part : ByteArray := method_4_code
def yX0_part : MethodName := ⟨RX0, "part", "(Ljava/lang/String;I)J"⟩
abbrev cX0_place : ByteArray := method_8_code
def yX0_place : MethodName := ⟨RX0, "place", "(ZI)J"⟩
abbrev cX0_sign : ByteArray := method_5_code
def yX0_sign : MethodName := ⟨RX0, "sign", "(ZI)I"⟩
abbrev cX0_exponent : ByteArray := method_6_code
def yX0_exponent : MethodName := ⟨RX0, "exponent", "(ZI)I"⟩
abbrev cX0_isTold : ByteArray := method_12_code
def yX0_isTold : MethodName := ⟨RX0, "isTold", "(ZI)Z"⟩
abbrev cX0_decimal : ByteArray := method_11_code
def yX0_decimal : MethodName := ⟨RX0, "decimal", "(JI)Ljava/lang/String;"⟩
abbrev cX0_areSteps : ByteArray := method_14_code
def yX0_areSteps : MethodName := ⟨RX0, "areSteps", "(II)Z"⟩
abbrev cX0_arePairs : ByteArray := method_15_code
def yX0_arePairs : MethodName := ⟨RX0, "arePairs", "(II)Z"⟩
abbrev cX0_isHalf : ByteArray := method_16_code
def yX0_isHalf : MethodName := ⟨RX0, "isHalf", "(II)Z"⟩
abbrev cX0_shifted : ByteArray := method_18_code
def yX0_shifted : MethodName := ⟨RX0, "shifted", "(JI)J"⟩
abbrev cX0_areUnits : ByteArray := method_17_code
def yX0_areUnits : MethodName := ⟨RX0, "areUnits", "(II)Z"⟩
abbrev cX0_areSums : ByteArray := method_19_code
def yX0_areSums : MethodName := ⟨RX0, "areSums", "(III)Z"⟩
abbrev cX0_number : ByteArray := method_20_code
def yX0_number : MethodName := ⟨RX0, "number", "(I)D"⟩
abbrev cX0_isBits : ByteArray := method_21_code
def yX0_isBits : MethodName := ⟨RX0, "isBits", "(ID)Z"⟩
abbrev cX0_size : ByteArray := method_22_code
def yX0_size : MethodName := ⟨RX0, "size", "(Ljava/lang/String;)Ljava/lang/String;"⟩
abbrev cX0_areLeast : ByteArray := method_23_code
def yX0_areLeast : MethodName := ⟨RX0, "areLeast", "(I)Z"⟩
abbrev cX0_isTry : ByteArray := method_25_code
def yX0_isTry : MethodName := ⟨RX0, "isTry", "(IIJ)Z"⟩
abbrev cX0_powerPoint : ByteArray := method_24_code
def yX0_powerPoint : MethodName := ⟨RX0, "powerPoint", "(I)J"⟩
abbrev cX0_areRead : ByteArray := method_26_code
def yX0_areRead : MethodName := ⟨RX0, "areRead", "(I)Z"⟩
abbrev cX0_isSummed : ByteArray := method_28_code
def yX0_isSummed : MethodName := ⟨RX0, "isSummed", "()Z"⟩
abbrev cX0_sum : ByteArray := method_27_code
def yX0_sum : MethodName := ⟨RX0, "sum", "(JJ)J"⟩
theorem q58 : (Jvm.Cond.initialized "NearplacesLaw") ∈ lw_all := lw_g (lw_at lw_m1 0 rfl) rfl
theorem q90 : (Jvm.Cond.methodLink "NearplacesLaw" (390 : Nat) ({ cls := "NearplacesLaw", name := "told", desc := "([I)Z" } : Jvm.MethodName)) ∈ lw_all := lw_g (lw_at lw_m1 32 rfl) rfl
theorem q91 : (Jvm.Cond.static ({ cls := "NearplacesLaw", name := "told", desc := "([I)Z" } : Jvm.MethodName)) ∈ lw_all := lw_g (lw_at lw_m1 33 rfl) rfl
theorem q92 : (Jvm.Cond.codeWith ({ cls := "NearplacesLaw", name := "told", desc := "([I)Z" } : Jvm.MethodName) method_31_code (2 : Nat) (Option.some Jvm.ClassFile.FieldType.boolean) [((0 : Nat), (11 : Nat), (12 : Nat), (397 : Nat)), ((0 : Nat), (11 : Nat), (15 : Nat), (399 : Nat))]) ∈ lw_all := lw_g (lw_at lw_m1 34 rfl) rfl
theorem q93 : (Jvm.Cond.classLink "NearplacesLaw" (397 : Nat) "java/lang/IndexOutOfBoundsException") ∈ lw_all := lw_g (lw_at lw_m1 35 rfl) rfl
theorem q172 : (Jvm.Cond.classLink "NearplacesLaw" (399 : Nat) "java/lang/IllegalArgumentException") ∈ lw_all := lw_g (lw_at lw_m1 114 rfl) rfl
theorem q173 : (Jvm.Cond.classLink "NearplacesLaw" (1 : Nat) "NearplacesLaw") ∈ lw_all := lw_g (lw_at lw_m1 115 rfl) rfl
theorem q174 : (Jvm.Cond.instantiable "NearplacesLaw" (1 : Nat)) ∈ lw_all := lw_g (lw_at lw_m1 116 rfl) rfl
theorem q175 : (Jvm.Cond.methodLink "NearplacesLaw" (394 : Nat) ({ cls := "NearplacesLaw", name := "<init>", desc := "()V" } : Jvm.MethodName)) ∈ lw_all := lw_g (lw_at lw_m1 117 rfl) rfl
theorem q176 : (Jvm.Cond.instanceMethod ({ cls := "NearplacesLaw", name := "<init>", desc := "()V" } : Jvm.MethodName)) ∈ lw_all := lw_g (lw_at lw_m1 118 rfl) rfl
theorem q177 : (Jvm.Cond.code ({ cls := "NearplacesLaw", name := "<init>", desc := "()V" } : Jvm.MethodName) method_1_code (1 : Nat) (Option.none : Option Jvm.ClassFile.FieldType)) ∈ lw_all := lw_g (lw_at lw_m1 119 rfl) rfl
theorem q178 : (Jvm.Cond.methodLink "NearplacesLaw" (3 : Nat) ({ cls := "java/lang/Object", name := "<init>", desc := "()V" } : Jvm.MethodName)) ∈ lw_all := lw_g (lw_at lw_m1 120 rfl) rfl
theorem q179 : (Jvm.Cond.classLink "NearplacesLaw" (9 : Nat) "Nearplaces") ∈ lw_all := lw_g (lw_at lw_m1 121 rfl) rfl
theorem q181 : (Jvm.Cond.methodLink "NearplacesLaw" (11 : Nat) ({ cls := "Nearplaces", name := "<init>", desc := "()V" } : Jvm.MethodName)) ∈ lw_all := lw_g (lw_at lw_m1 123 rfl) rfl
theorem q753 : (Jvm.Cond.selects "NearplacesLaw" ({ cls := "java/lang/Object", name := "toString", desc := "()Ljava/lang/String;" } : Jvm.MethodName) ({ cls := "java/lang/Object", name := "toString", desc := "()Ljava/lang/String;" } : Jvm.MethodName)) ∈ lw_all := lw_g (lw_at lw_m3 215 rfl) rfl
theorem q761 : (Jvm.Cond.selects "NearplacesLaw" ({ cls := "java/lang/Object", name := "getClass", desc := "()Ljava/lang/Class;" } : Jvm.MethodName) ({ cls := "java/lang/Object", name := "getClass", desc := "()Ljava/lang/Class;" } : Jvm.MethodName)) ∈ lw_all := lw_g (lw_at lw_m3 223 rfl) rfl
theorem q1726 : (Jvm.Cond.fieldLink "NearplacesLaw" (12 : Nat) "NearplacesLaw" "o" "LNearplaces;") ∈ lw_all := lw_g (lw_at lw_m7 228 rfl) rfl
theorem q1727 : (Jvm.Cond.laysFinal "NearplacesLaw" "NearplacesLaw" "o" "LNearplaces;") ∈ lw_all := lw_g (lw_at lw_m7 229 rfl) rfl
theorem q1728 : (Jvm.Cond.soleField "NearplacesLaw" "o") ∈ lw_all := lw_g (lw_at lw_m7 230 rfl) rfl
theorem q1729 : (Jvm.Cond.superclass "NearplacesLaw" "java/lang/Object") ∈ lw_all := lw_g (lw_at lw_m7 231 rfl) rfl
theorem q1730 : (Jvm.Cond.methodLink "NearplacesLaw" (395 : Nat) ({ cls := "NearplacesLaw", name := "holds", desc := "([I)Z" } : Jvm.MethodName)) ∈ lw_all := lw_g (lw_at lw_m7 232 rfl) rfl
theorem q1731 : (Jvm.Cond.privateMethod ({ cls := "NearplacesLaw", name := "holds", desc := "([I)Z" } : Jvm.MethodName)) ∈ lw_tbl := lw_at lw_m7 233 rfl
theorem q1732 : (Jvm.Cond.instanceMethod ({ cls := "NearplacesLaw", name := "holds", desc := "([I)Z" } : Jvm.MethodName)) ∈ lw_all := lw_g (lw_at lw_m7 234 rfl) rfl
theorem q1733 : (Jvm.Cond.code ({ cls := "NearplacesLaw", name := "holds", desc := "([I)Z" } : Jvm.MethodName) method_29_code (8 : Nat) (Option.some Jvm.ClassFile.FieldType.boolean)) ∈ lw_all := lw_g (lw_at lw_m7 235 rfl) rfl
theorem q1734 : (Jvm.Cond.methodLink "NearplacesLaw" (361 : Nat) ({ cls := "NearplacesLaw", name := "cell", desc := "([II)I" } : Jvm.MethodName)) ∈ lw_all := lw_g (lw_at lw_m7 236 rfl) rfl
theorem q1735 : (Jvm.Cond.static ({ cls := "NearplacesLaw", name := "cell", desc := "([II)I" } : Jvm.MethodName)) ∈ lw_all := lw_g (lw_at lw_m7 237 rfl) rfl
theorem q1736 : (Jvm.Cond.code ({ cls := "NearplacesLaw", name := "cell", desc := "([II)I" } : Jvm.MethodName) method_2_code (2 : Nat) (Option.some Jvm.ClassFile.FieldType.int)) ∈ lw_all := lw_g (lw_at lw_m7 238 rfl) rfl
theorem q1737 : (Jvm.Cond.methodLink "NearplacesLaw" (138 : Nat) ({ cls := "NearplacesLaw", name := "some", desc := "(II)I" } : Jvm.MethodName)) ∈ lw_all := lw_g (lw_at lw_m7 239 rfl) rfl
theorem q1738 : (Jvm.Cond.static ({ cls := "NearplacesLaw", name := "some", desc := "(II)I" } : Jvm.MethodName)) ∈ lw_all := lw_g (lw_at lw_m8 0 rfl) rfl
theorem q1739 : (Jvm.Cond.code ({ cls := "NearplacesLaw", name := "some", desc := "(II)I" } : Jvm.MethodName) method_3_code (2 : Nat) (Option.some Jvm.ClassFile.FieldType.int)) ∈ lw_all := lw_g (lw_at lw_m8 1 rfl) rfl
theorem q1740 : (Jvm.Cond.constant "NearplacesLaw" (16 : Nat) (2147483647 : Int32)) ∈ lw_all := lw_g (lw_at lw_m8 2 rfl) rfl
theorem q1741 : (Jvm.Cond.methodLink "NearplacesLaw" (365 : Nat) ({ cls := "NearplacesLaw", name := "puts", desc := "(III)Z" } : Jvm.MethodName)) ∈ lw_all := lw_g (lw_at lw_m8 3 rfl) rfl
theorem q1742 : (Jvm.Cond.privateMethod ({ cls := "NearplacesLaw", name := "puts", desc := "(III)Z" } : Jvm.MethodName)) ∈ lw_tbl := lw_at lw_m8 4 rfl
theorem q1743 : (Jvm.Cond.instanceMethod ({ cls := "NearplacesLaw", name := "puts", desc := "(III)Z" } : Jvm.MethodName)) ∈ lw_all := lw_g (lw_at lw_m8 5 rfl) rfl
theorem q1744 : (Jvm.Cond.code ({ cls := "NearplacesLaw", name := "puts", desc := "(III)Z" } : Jvm.MethodName) method_13_code (15 : Nat) (Option.some Jvm.ClassFile.FieldType.boolean)) ∈ lw_all := lw_g (lw_at lw_m8 6 rfl) rfl
theorem q1745 : (Jvm.Cond.methodLink "NearplacesLaw" (141 : Nat) ({ cls := "Nearplaces", name := "house", desc := "(I)I" } : Jvm.MethodName)) ∈ lw_all := lw_g (lw_at lw_m8 7 rfl) rfl
theorem q1767 : (Jvm.Cond.methodLink "NearplacesLaw" (145 : Nat) ({ cls := "Nearplaces", name := "put", desc := "(IZII)I" } : Jvm.MethodName)) ∈ lw_all := lw_g (lw_at lw_m8 29 rfl) rfl
theorem q1815 : (Jvm.Cond.methodLink "NearplacesLaw" (149 : Nat) ({ cls := "NearplacesLaw", name := "is", desc := "(IZ)Z" } : Jvm.MethodName)) ∈ lw_all := lw_g (lw_at lw_m8 77 rfl) rfl
theorem q1816 : (Jvm.Cond.static ({ cls := "NearplacesLaw", name := "is", desc := "(IZ)Z" } : Jvm.MethodName)) ∈ lw_all := lw_g (lw_at lw_m8 78 rfl) rfl
theorem q1817 : (Jvm.Cond.code ({ cls := "NearplacesLaw", name := "is", desc := "(IZ)Z" } : Jvm.MethodName) method_10_code (2 : Nat) (Option.some Jvm.ClassFile.FieldType.boolean)) ∈ lw_all := lw_g (lw_at lw_m8 79 rfl) rfl
theorem q1818 : (Jvm.Cond.methodLink "NearplacesLaw" (47 : Nat) ({ cls := "NearplacesLaw", name := "isDone", desc := "(I)Z" } : Jvm.MethodName)) ∈ lw_all := lw_g (lw_at lw_m8 80 rfl) rfl
theorem q1819 : (Jvm.Cond.static ({ cls := "NearplacesLaw", name := "isDone", desc := "(I)Z" } : Jvm.MethodName)) ∈ lw_all := lw_g (lw_at lw_m8 81 rfl) rfl
theorem q1820 : (Jvm.Cond.code ({ cls := "NearplacesLaw", name := "isDone", desc := "(I)Z" } : Jvm.MethodName) method_9_code (1 : Nat) (Option.some Jvm.ClassFile.FieldType.boolean)) ∈ lw_all := lw_g (lw_at lw_m8 82 rfl) rfl
theorem q1821 : (Jvm.Cond.methodLink "NearplacesLaw" (99 : Nat) ({ cls := "NearplacesLaw", name := "fraction", desc := "(ZI)J" } : Jvm.MethodName)) ∈ lw_all := lw_g (lw_at lw_m8 83 rfl) rfl
theorem q1822 : (Jvm.Cond.privateMethod ({ cls := "NearplacesLaw", name := "fraction", desc := "(ZI)J" } : Jvm.MethodName)) ∈ lw_tbl := lw_at lw_m8 84 rfl
theorem q1823 : (Jvm.Cond.instanceMethod ({ cls := "NearplacesLaw", name := "fraction", desc := "(ZI)J" } : Jvm.MethodName)) ∈ lw_all := lw_g (lw_at lw_m8 85 rfl) rfl
theorem q1824 : (Jvm.Cond.code ({ cls := "NearplacesLaw", name := "fraction", desc := "(ZI)J" } : Jvm.MethodName) method_7_code (3 : Nat) (Option.some Jvm.ClassFile.FieldType.long)) ∈ lw_all := lw_g (lw_at lw_m8 86 rfl) rfl
theorem q1825 : (Jvm.Cond.methodLink "NearplacesLaw" (36 : Nat) ({ cls := "Nearplaces", name := "parts", desc := "(ZI)Ljava/lang/String;" } : Jvm.MethodName)) ∈ lw_all := lw_g (lw_at lw_m8 87 rfl) rfl
theorem q1835 : (Jvm.Cond.methodLink "NearplacesLaw" (40 : Nat) ({ cls := "NearplacesLaw", name := "part", desc := "(Ljava/lang/String;I)J" } : Jvm.MethodName)) ∈ lw_all := lw_g (lw_at lw_m8 97 rfl) rfl
theorem q1836 : (Jvm.Cond.static ({ cls := "NearplacesLaw", name := "part", desc := "(Ljava/lang/String;I)J" } : Jvm.MethodName)) ∈ lw_all := lw_g (lw_at lw_m8 98 rfl) rfl
theorem q1837 : (Jvm.Cond.code ({ cls := "NearplacesLaw", name := "part", desc := "(Ljava/lang/String;I)J" } : Jvm.MethodName) method_4_code (4 : Nat) (Option.some Jvm.ClassFile.FieldType.long)) ∈ lw_all := lw_g (lw_at lw_m8 99 rfl) rfl
theorem q1838 : (Jvm.Cond.methodLink "NearplacesLaw" (17 : Nat) ({ cls := "java/lang/String", name := "indexOf", desc := "(II)I" } : Jvm.MethodName)) ∈ lw_all := lw_g (lw_at lw_m8 100 rfl) rfl
theorem q1839 : (Jvm.Cond.methodLink "NearplacesLaw" (23 : Nat) ({ cls := "java/lang/String", name := "substring", desc := "(I)Ljava/lang/String;" } : Jvm.MethodName)) ∈ lw_all := lw_g (lw_at lw_m8 101 rfl) rfl
theorem q1843 : (Jvm.Cond.methodLink "NearplacesLaw" (27 : Nat) ({ cls := "java/lang/String", name := "substring", desc := "(II)Ljava/lang/String;" } : Jvm.MethodName)) ∈ lw_all := lw_g (lw_at lw_m8 105 rfl) rfl
theorem q1844 : (Jvm.Cond.methodLink "NearplacesLaw" (30 : Nat) ({ cls := "java/lang/Long", name := "parseLong", desc := "(Ljava/lang/String;)J" } : Jvm.MethodName)) ∈ lw_all := lw_g (lw_at lw_m8 106 rfl) rfl
theorem q1854 : (Jvm.Cond.fieldLink "NearplacesLaw" (153 : Nat) "NearplacesLaw" "EXPONENTS" "[I") ∈ lw_all := lw_g (lw_at lw_m8 116 rfl) rfl
theorem q1855 : (Jvm.Cond.laysStatic "NearplacesLaw" "EXPONENTS" "[I") ∈ lw_tbl := lw_at lw_m8 117 rfl
theorem q1856 : (Jvm.Cond.constantLong "NearplacesLaw" (103 : Nat) (4503599627370496 : Int64)) ∈ lw_all := lw_g (lw_at lw_m8 118 rfl) rfl
theorem q1857 : (Jvm.Cond.fieldLink "NearplacesLaw" (157 : Nat) "NearplacesLaw" "FRACTIONS" "[J") ∈ lw_all := lw_g (lw_at lw_m8 119 rfl) rfl
theorem q1858 : (Jvm.Cond.laysStatic "NearplacesLaw" "FRACTIONS" "[J") ∈ lw_tbl := lw_at lw_m8 120 rfl
theorem q1859 : (Jvm.Cond.methodLink "NearplacesLaw" (113 : Nat) ({ cls := "NearplacesLaw", name := "place", desc := "(ZI)J" } : Jvm.MethodName)) ∈ lw_all := lw_g (lw_at lw_m8 121 rfl) rfl
theorem q1860 : (Jvm.Cond.privateMethod ({ cls := "NearplacesLaw", name := "place", desc := "(ZI)J" } : Jvm.MethodName)) ∈ lw_tbl := lw_at lw_m8 122 rfl
theorem q1861 : (Jvm.Cond.instanceMethod ({ cls := "NearplacesLaw", name := "place", desc := "(ZI)J" } : Jvm.MethodName)) ∈ lw_all := lw_g (lw_at lw_m8 123 rfl) rfl
theorem q1862 : (Jvm.Cond.code ({ cls := "NearplacesLaw", name := "place", desc := "(ZI)J" } : Jvm.MethodName) method_8_code (3 : Nat) (Option.some Jvm.ClassFile.FieldType.long)) ∈ lw_all := lw_g (lw_at lw_m8 124 rfl) rfl
theorem q1863 : (Jvm.Cond.methodLink "NearplacesLaw" (44 : Nat) ({ cls := "Nearplaces", name := "place", desc := "(ZI)Ljava/lang/String;" } : Jvm.MethodName)) ∈ lw_all := lw_g (lw_at lw_m8 125 rfl) rfl
theorem q1871 : (Jvm.Cond.methodLink "NearplacesLaw" (132 : Nat) ({ cls := "Nearplaces", name := "window", desc := "(ZI)I" } : Jvm.MethodName)) ∈ lw_all := lw_g (lw_at lw_m8 133 rfl) rfl
theorem q1875 : (Jvm.Cond.methodLink "NearplacesLaw" (135 : Nat) ({ cls := "Nearplaces", name := "offset", desc := "(ZI)I" } : Jvm.MethodName)) ∈ lw_all := lw_g (lw_at lw_m8 137 rfl) rfl
theorem q1882 : (Jvm.Cond.methodLink "NearplacesLaw" (89 : Nat) ({ cls := "NearplacesLaw", name := "sign", desc := "(ZI)I" } : Jvm.MethodName)) ∈ lw_all := lw_g (lw_at lw_m8 144 rfl) rfl
theorem q1883 : (Jvm.Cond.privateMethod ({ cls := "NearplacesLaw", name := "sign", desc := "(ZI)I" } : Jvm.MethodName)) ∈ lw_tbl := lw_at lw_m8 145 rfl
theorem q1884 : (Jvm.Cond.instanceMethod ({ cls := "NearplacesLaw", name := "sign", desc := "(ZI)I" } : Jvm.MethodName)) ∈ lw_all := lw_g (lw_at lw_m8 146 rfl) rfl
theorem q1885 : (Jvm.Cond.code ({ cls := "NearplacesLaw", name := "sign", desc := "(ZI)I" } : Jvm.MethodName) method_5_code (3 : Nat) (Option.some Jvm.ClassFile.FieldType.int)) ∈ lw_all := lw_g (lw_at lw_m8 147 rfl) rfl
theorem q1886 : (Jvm.Cond.methodLink "NearplacesLaw" (161 : Nat) ({ cls := "Nearplaces", name := "isNear", desc := "(I)Z" } : Jvm.MethodName)) ∈ lw_all := lw_g (lw_at lw_m8 148 rfl) rfl
theorem q1897 : (Jvm.Cond.methodLink "NearplacesLaw" (105 : Nat) ({ cls := "Nearplaces", name := "upper", desc := "(ZI)I" } : Jvm.MethodName)) ∈ lw_all := lw_g (lw_at lw_m8 159 rfl) rfl
theorem q1901 : (Jvm.Cond.methodLink "NearplacesLaw" (108 : Nat) ({ cls := "Nearplaces", name := "lower", desc := "(ZI)I" } : Jvm.MethodName)) ∈ lw_all := lw_g (lw_at lw_m8 163 rfl) rfl
theorem q1905 : (Jvm.Cond.methodLink "NearplacesLaw" (164 : Nat) ({ cls := "Nearplaces", name := "putDigits", desc := "(III)I" } : Jvm.MethodName)) ∈ lw_all := lw_g (lw_at lw_m8 167 rfl) rfl
theorem q1910 : (Jvm.Cond.methodLink "NearplacesLaw" (93 : Nat) ({ cls := "NearplacesLaw", name := "exponent", desc := "(ZI)I" } : Jvm.MethodName)) ∈ lw_all := lw_g (lw_at lw_m8 172 rfl) rfl
theorem q1911 : (Jvm.Cond.privateMethod ({ cls := "NearplacesLaw", name := "exponent", desc := "(ZI)I" } : Jvm.MethodName)) ∈ lw_tbl := lw_at lw_m8 173 rfl
theorem q1912 : (Jvm.Cond.instanceMethod ({ cls := "NearplacesLaw", name := "exponent", desc := "(ZI)I" } : Jvm.MethodName)) ∈ lw_all := lw_g (lw_at lw_m8 174 rfl) rfl
theorem q1913 : (Jvm.Cond.code ({ cls := "NearplacesLaw", name := "exponent", desc := "(ZI)I" } : Jvm.MethodName) method_6_code (3 : Nat) (Option.some Jvm.ClassFile.FieldType.int)) ∈ lw_all := lw_g (lw_at lw_m8 175 rfl) rfl
theorem q1914 : (Jvm.Cond.methodLink "NearplacesLaw" (168 : Nat) ({ cls := "Nearplaces", name := "putParts", desc := "(IZIII)I" } : Jvm.MethodName)) ∈ lw_all := lw_g (lw_at lw_m8 176 rfl) rfl
theorem q1919 : (Jvm.Cond.methodLink "NearplacesLaw" (172 : Nat) ({ cls := "NearplacesLaw", name := "isTold", desc := "(ZI)Z" } : Jvm.MethodName)) ∈ lw_all := lw_g (lw_at lw_m8 181 rfl) rfl
theorem q1920 : (Jvm.Cond.privateMethod ({ cls := "NearplacesLaw", name := "isTold", desc := "(ZI)Z" } : Jvm.MethodName)) ∈ lw_tbl := lw_at lw_m8 182 rfl
theorem q1921 : (Jvm.Cond.instanceMethod ({ cls := "NearplacesLaw", name := "isTold", desc := "(ZI)Z" } : Jvm.MethodName)) ∈ lw_all := lw_g (lw_at lw_m8 183 rfl) rfl
theorem q1922 : (Jvm.Cond.code ({ cls := "NearplacesLaw", name := "isTold", desc := "(ZI)Z" } : Jvm.MethodName) method_12_code (14 : Nat) (Option.some Jvm.ClassFile.FieldType.boolean)) ∈ lw_all := lw_g (lw_at lw_m8 184 rfl) rfl
theorem q1923 : (Jvm.Cond.methodLink "NearplacesLaw" (96 : Nat) ({ cls := "Nearplaces", name := "decimals", desc := "(ZI)I" } : Jvm.MethodName)) ∈ lw_all := lw_g (lw_at lw_m8 185 rfl) rfl
theorem q1930 : (Jvm.Cond.constantLong "NearplacesLaw" (111 : Nat) (4294967295 : Int64)) ∈ lw_all := lw_g (lw_at lw_m8 192 rfl) rfl
theorem q1931 : (Jvm.Cond.methodLink "NearplacesLaw" (115 : Nat) ({ cls := "Nearplaces", name := "binary", desc := "(ZI)Ljava/lang/String;" } : Jvm.MethodName)) ∈ lw_all := lw_g (lw_at lw_m8 193 rfl) rfl
theorem q1935 : (Jvm.Cond.classLink "NearplacesLaw" (51 : Nat) "java/lang/StringBuilder") ∈ lw_all := lw_g (lw_at lw_m8 197 rfl) rfl
theorem q1936 : (Jvm.Cond.methodLink "NearplacesLaw" (53 : Nat) ({ cls := "java/lang/StringBuilder", name := "<init>", desc := "()V" } : Jvm.MethodName)) ∈ lw_all := lw_g (lw_at lw_m8 198 rfl) rfl
theorem q1937 : (Jvm.Cond.stringRef "NearplacesLaw" (118 : Nat) "-") ∈ lw_tbl := lw_at lw_m8 199 rfl
theorem q1938 : (Jvm.Cond.stringRef "NearplacesLaw" (54 : Nat) "") ∈ lw_tbl := lw_at lw_m8 200 rfl
theorem q1939 : (Jvm.Cond.methodLink "NearplacesLaw" (56 : Nat) ({ cls := "java/lang/StringBuilder", name := "append", desc := "(Ljava/lang/String;)Ljava/lang/StringBuilder;" } : Jvm.MethodName)) ∈ lw_all := lw_g (lw_at lw_m8 201 rfl) rfl
theorem q1940 : (Jvm.Cond.methodLink "NearplacesLaw" (60 : Nat) ({ cls := "java/lang/StringBuilder", name := "append", desc := "(J)Ljava/lang/StringBuilder;" } : Jvm.MethodName)) ∈ lw_all := lw_g (lw_at lw_m8 202 rfl) rfl
theorem q1941 : (Jvm.Cond.stringRef "NearplacesLaw" (120 : Nat) "*2^") ∈ lw_tbl := lw_at lw_m8 203 rfl
theorem q1942 : (Jvm.Cond.methodLink "NearplacesLaw" (75 : Nat) ({ cls := "java/lang/StringBuilder", name := "append", desc := "(I)Ljava/lang/StringBuilder;" } : Jvm.MethodName)) ∈ lw_all := lw_g (lw_at lw_m8 204 rfl) rfl
theorem q1943 : (Jvm.Cond.methodLink "NearplacesLaw" (63 : Nat) ({ cls := "java/lang/StringBuilder", name := "toString", desc := "()Ljava/lang/String;" } : Jvm.MethodName)) ∈ lw_all := lw_g (lw_at lw_m8 205 rfl) rfl
theorem q1944 : (Jvm.Cond.methodLink "NearplacesLaw" (122 : Nat) ({ cls := "java/lang/String", name := "equals", desc := "(Ljava/lang/Object;)Z" } : Jvm.MethodName)) ∈ lw_all := lw_g (lw_at lw_m8 206 rfl) rfl
theorem q1951 : (Jvm.Cond.methodLink "NearplacesLaw" (126 : Nat) ({ cls := "Nearplaces", name := "decimal", desc := "(ZI)Ljava/lang/String;" } : Jvm.MethodName)) ∈ lw_all := lw_g (lw_at lw_m8 213 rfl) rfl
theorem q1955 : (Jvm.Cond.methodLink "NearplacesLaw" (129 : Nat) ({ cls := "NearplacesLaw", name := "decimal", desc := "(JI)Ljava/lang/String;" } : Jvm.MethodName)) ∈ lw_all := lw_g (lw_at lw_m8 217 rfl) rfl
theorem q1956 : (Jvm.Cond.static ({ cls := "NearplacesLaw", name := "decimal", desc := "(JI)Ljava/lang/String;" } : Jvm.MethodName)) ∈ lw_all := lw_g (lw_at lw_m8 218 rfl) rfl
theorem q1957 : (Jvm.Cond.code ({ cls := "NearplacesLaw", name := "decimal", desc := "(JI)Ljava/lang/String;" } : Jvm.MethodName) method_11_code (10 : Nat) (Option.some (Jvm.ClassFile.FieldType.object "java/lang/String"))) ∈ lw_all := lw_g (lw_at lw_m8 219 rfl) rfl
theorem q1958 : (Jvm.Cond.methodLink "NearplacesLaw" (67 : Nat) ({ cls := "java/lang/String", name := "length", desc := "()I" } : Jvm.MethodName)) ∈ lw_all := lw_g (lw_at lw_m8 220 rfl) rfl
theorem q1959 : (Jvm.Cond.methodLink "NearplacesLaw" (71 : Nat) ({ cls := "java/lang/String", name := "charAt", desc := "(I)C" } : Jvm.MethodName)) ∈ lw_all := lw_g (lw_at lw_m8 221 rfl) rfl
theorem q1960 : (Jvm.Cond.methodLink "NearplacesLaw" (78 : Nat) ({ cls := "java/lang/StringBuilder", name := "reverse", desc := "()Ljava/lang/StringBuilder;" } : Jvm.MethodName)) ∈ lw_all := lw_g (lw_at lw_m8 222 rfl) rfl
theorem q1988 : (Jvm.Cond.methodLink "NearplacesLaw" (82 : Nat) ({ cls := "java/lang/StringBuilder", name := "append", desc := "(Ljava/lang/Object;)Ljava/lang/StringBuilder;" } : Jvm.MethodName)) ∈ lw_all := lw_g (lw_at lw_m9 10 rfl) rfl
theorem q1989 : (Jvm.Cond.stringRef "NearplacesLaw" (85 : Nat) "0") ∈ lw_tbl := lw_at lw_m9 11 rfl
theorem q1990 : (Jvm.Cond.stringRef "NearplacesLaw" (87 : Nat) ".") ∈ lw_tbl := lw_at lw_m9 12 rfl
theorem q1991 : (Jvm.Cond.methodLink "NearplacesLaw" (369 : Nat) ({ cls := "NearplacesLaw", name := "areSteps", desc := "(II)Z" } : Jvm.MethodName)) ∈ lw_all := lw_g (lw_at lw_m9 13 rfl) rfl
theorem q1992 : (Jvm.Cond.privateMethod ({ cls := "NearplacesLaw", name := "areSteps", desc := "(II)Z" } : Jvm.MethodName)) ∈ lw_tbl := lw_at lw_m9 14 rfl
theorem q1993 : (Jvm.Cond.instanceMethod ({ cls := "NearplacesLaw", name := "areSteps", desc := "(II)Z" } : Jvm.MethodName)) ∈ lw_all := lw_g (lw_at lw_m9 15 rfl) rfl
theorem q1994 : (Jvm.Cond.code ({ cls := "NearplacesLaw", name := "areSteps", desc := "(II)Z" } : Jvm.MethodName) method_14_code (15 : Nat) (Option.some Jvm.ClassFile.FieldType.boolean)) ∈ lw_all := lw_g (lw_at lw_m9 16 rfl) rfl
theorem q1995 : (Jvm.Cond.methodLink "NearplacesLaw" (176 : Nat) ({ cls := "Nearplaces", name := "up", desc := "(II)I" } : Jvm.MethodName)) ∈ lw_all := lw_g (lw_at lw_m9 17 rfl) rfl
theorem q2020 : (Jvm.Cond.constantLong "NearplacesLaw" (179 : Nat) (9218868437227405311 : Int64)) ∈ lw_all := lw_g (lw_at lw_m9 42 rfl) rfl
theorem q2021 : (Jvm.Cond.methodLink "NearplacesLaw" (181 : Nat) ({ cls := "Nearplaces", name := "down", desc := "(II)I" } : Jvm.MethodName)) ∈ lw_all := lw_g (lw_at lw_m9 43 rfl) rfl
theorem q2031 : (Jvm.Cond.constantLong "NearplacesLaw" (184 : Nat) (-9218868437227405311 : Int64)) ∈ lw_all := lw_g (lw_at lw_m9 53 rfl) rfl
theorem q2032 : (Jvm.Cond.methodLink "NearplacesLaw" (186 : Nat) ({ cls := "Nearplaces", name := "between", desc := "(ZIZI)Ljava/lang/String;" } : Jvm.MethodName)) ∈ lw_all := lw_g (lw_at lw_m9 54 rfl) rfl
theorem q2040 : (Jvm.Cond.stringRef "NearplacesLaw" (190 : Nat) "1") ∈ lw_tbl := lw_at lw_m9 62 rfl
theorem q2041 : (Jvm.Cond.stringRef "NearplacesLaw" (192 : Nat) "-1") ∈ lw_tbl := lw_at lw_m9 63 rfl
theorem q2042 : (Jvm.Cond.constantLong "NearplacesLaw" (194 : Nat) (-1 : Int64)) ∈ lw_all := lw_g (lw_at lw_m9 64 rfl) rfl
theorem q2043 : (Jvm.Cond.methodLink "NearplacesLaw" (196 : Nat) ({ cls := "Nearplaces", name := "order", desc := "(ZIZI)I" } : Jvm.MethodName)) ∈ lw_all := lw_g (lw_at lw_m9 65 rfl) rfl
theorem q2054 : (Jvm.Cond.constantLong "NearplacesLaw" (200 : Nat) (-512 : Int64)) ∈ lw_all := lw_g (lw_at lw_m9 76 rfl) rfl
theorem q2055 : (Jvm.Cond.constantLong "NearplacesLaw" (202 : Nat) (511 : Int64)) ∈ lw_all := lw_g (lw_at lw_m9 77 rfl) rfl
theorem q2056 : (Jvm.Cond.methodLink "NearplacesLaw" (204 : Nat) ({ cls := "Nearplaces", name := "steps", desc := "(III)I" } : Jvm.MethodName)) ∈ lw_all := lw_g (lw_at lw_m9 78 rfl) rfl
theorem q2060 : (Jvm.Cond.methodLink "NearplacesLaw" (207 : Nat) ({ cls := "Nearplaces", name := "isSame", desc := "(ZIZI)Z" } : Jvm.MethodName)) ∈ lw_all := lw_g (lw_at lw_m9 82 rfl) rfl
theorem q2064 : (Jvm.Cond.methodLink "NearplacesLaw" (211 : Nat) ({ cls := "Nearplaces", name := "take", desc := "(II)I" } : Jvm.MethodName)) ∈ lw_all := lw_g (lw_at lw_m9 86 rfl) rfl
theorem q2071 : (Jvm.Cond.methodLink "NearplacesLaw" (214 : Nat) ({ cls := "Nearplaces", name := "walk", desc := "(II)I" } : Jvm.MethodName)) ∈ lw_all := lw_g (lw_at lw_m9 93 rfl) rfl
theorem q2078 : (Jvm.Cond.methodLink "NearplacesLaw" (217 : Nat) ({ cls := "Nearplaces", name := "copy", desc := "(II)I" } : Jvm.MethodName)) ∈ lw_all := lw_g (lw_at lw_m9 100 rfl) rfl
theorem q2082 : (Jvm.Cond.methodLink "NearplacesLaw" (220 : Nat) ({ cls := "Nearplaces", name := "minus", desc := "(I)I" } : Jvm.MethodName)) ∈ lw_all := lw_g (lw_at lw_m9 104 rfl) rfl
theorem q2086 : (Jvm.Cond.constant "NearplacesLaw" (223 : Nat) (-2147483648 : Int32)) ∈ lw_all := lw_g (lw_at lw_m9 108 rfl) rfl
theorem q2087 : (Jvm.Cond.methodLink "NearplacesLaw" (372 : Nat) ({ cls := "NearplacesLaw", name := "arePairs", desc := "(II)Z" } : Jvm.MethodName)) ∈ lw_all := lw_g (lw_at lw_m9 109 rfl) rfl
theorem q2088 : (Jvm.Cond.privateMethod ({ cls := "NearplacesLaw", name := "arePairs", desc := "(II)Z" } : Jvm.MethodName)) ∈ lw_tbl := lw_at lw_m9 110 rfl
theorem q2089 : (Jvm.Cond.instanceMethod ({ cls := "NearplacesLaw", name := "arePairs", desc := "(II)Z" } : Jvm.MethodName)) ∈ lw_all := lw_g (lw_at lw_m9 111 rfl) rfl
theorem q2090 : (Jvm.Cond.code ({ cls := "NearplacesLaw", name := "arePairs", desc := "(II)Z" } : Jvm.MethodName) method_15_code (12 : Nat) (Option.some Jvm.ClassFile.FieldType.boolean)) ∈ lw_all := lw_g (lw_at lw_m9 112 rfl) rfl
theorem q2091 : (Jvm.Cond.methodLink "NearplacesLaw" (224 : Nat) ({ cls := "Nearplaces", name := "towards", desc := "(III)I" } : Jvm.MethodName)) ∈ lw_all := lw_g (lw_at lw_m9 113 rfl) rfl
theorem q2098 : (Jvm.Cond.methodLink "NearplacesLaw" (227 : Nat) ({ cls := "Nearplaces", name := "middle", desc := "(III)I" } : Jvm.MethodName)) ∈ lw_all := lw_g (lw_at lw_m9 120 rfl) rfl
theorem q2108 : (Jvm.Cond.methodLink "NearplacesLaw" (230 : Nat) ({ cls := "Nearplaces", name := "keep", desc := "(II)I" } : Jvm.MethodName)) ∈ lw_all := lw_g (lw_at lw_m9 130 rfl) rfl
theorem q2112 : (Jvm.Cond.methodLink "NearplacesLaw" (233 : Nat) ({ cls := "Nearplaces", name := "swap", desc := "(II)I" } : Jvm.MethodName)) ∈ lw_all := lw_g (lw_at lw_m9 134 rfl) rfl
theorem q2116 : (Jvm.Cond.methodLink "NearplacesLaw" (236 : Nat) ({ cls := "Nearplaces", name := "isWithin", desc := "(II)Z" } : Jvm.MethodName)) ∈ lw_all := lw_g (lw_at lw_m9 138 rfl) rfl
theorem q2126 : (Jvm.Cond.methodLink "NearplacesLaw" (240 : Nat) ({ cls := "NearplacesLaw", name := "isHalf", desc := "(II)Z" } : Jvm.MethodName)) ∈ lw_all := lw_g (lw_at lw_m9 148 rfl) rfl
theorem q2127 : (Jvm.Cond.privateMethod ({ cls := "NearplacesLaw", name := "isHalf", desc := "(II)Z" } : Jvm.MethodName)) ∈ lw_tbl := lw_at lw_m9 149 rfl
theorem q2128 : (Jvm.Cond.instanceMethod ({ cls := "NearplacesLaw", name := "isHalf", desc := "(II)Z" } : Jvm.MethodName)) ∈ lw_all := lw_g (lw_at lw_m9 150 rfl) rfl
theorem q2129 : (Jvm.Cond.code ({ cls := "NearplacesLaw", name := "isHalf", desc := "(II)Z" } : Jvm.MethodName) method_16_code (11 : Nat) (Option.some Jvm.ClassFile.FieldType.boolean)) ∈ lw_all := lw_g (lw_at lw_m9 151 rfl) rfl
theorem q2130 : (Jvm.Cond.methodLink "NearplacesLaw" (243 : Nat) ({ cls := "NearplacesLaw", name := "shifted", desc := "(JI)J" } : Jvm.MethodName)) ∈ lw_all := lw_g (lw_at lw_m9 152 rfl) rfl
theorem q2131 : (Jvm.Cond.static ({ cls := "NearplacesLaw", name := "shifted", desc := "(JI)J" } : Jvm.MethodName)) ∈ lw_all := lw_g (lw_at lw_m9 153 rfl) rfl
theorem q2132 : (Jvm.Cond.code ({ cls := "NearplacesLaw", name := "shifted", desc := "(JI)J" } : Jvm.MethodName) method_18_code (13 : Nat) (Option.some Jvm.ClassFile.FieldType.long)) ∈ lw_all := lw_g (lw_at lw_m9 154 rfl) rfl
theorem q2133 : (Jvm.Cond.constantLong "NearplacesLaw" (274 : Nat) (2 : Int64)) ∈ lw_all := lw_g (lw_at lw_m9 155 rfl) rfl
theorem q2134 : (Jvm.Cond.constantLong "NearplacesLaw" (276 : Nat) (9218868437227405312 : Int64)) ∈ lw_all := lw_g (lw_at lw_m9 156 rfl) rfl
theorem q2135 : (Jvm.Cond.methodLink "NearplacesLaw" (375 : Nat) ({ cls := "NearplacesLaw", name := "areUnits", desc := "(II)Z" } : Jvm.MethodName)) ∈ lw_all := lw_g (lw_at lw_m9 157 rfl) rfl
theorem q2136 : (Jvm.Cond.privateMethod ({ cls := "NearplacesLaw", name := "areUnits", desc := "(II)Z" } : Jvm.MethodName)) ∈ lw_tbl := lw_at lw_m9 158 rfl
theorem q2137 : (Jvm.Cond.instanceMethod ({ cls := "NearplacesLaw", name := "areUnits", desc := "(II)Z" } : Jvm.MethodName)) ∈ lw_all := lw_g (lw_at lw_m9 159 rfl) rfl
theorem q2138 : (Jvm.Cond.code ({ cls := "NearplacesLaw", name := "areUnits", desc := "(II)Z" } : Jvm.MethodName) method_17_code (19 : Nat) (Option.some Jvm.ClassFile.FieldType.boolean)) ∈ lw_all := lw_g (lw_at lw_m9 160 rfl) rfl
theorem q2139 : (Jvm.Cond.stringRef "NearplacesLaw" (247 : Nat) "1*2^") ∈ lw_tbl := lw_at lw_m9 161 rfl
theorem q2140 : (Jvm.Cond.methodLink "NearplacesLaw" (249 : Nat) ({ cls := "Nearplaces", name := "unit", desc := "(II)I" } : Jvm.MethodName)) ∈ lw_all := lw_g (lw_at lw_m9 162 rfl) rfl
theorem q2150 : (Jvm.Cond.methodLink "NearplacesLaw" (252 : Nat) ({ cls := "Nearplaces", name := "unitByPower", desc := "(II)I" } : Jvm.MethodName)) ∈ lw_all := lw_g (lw_at lw_m9 172 rfl) rfl
theorem q2161 : (Jvm.Cond.methodLink "NearplacesLaw" (255 : Nat) ({ cls := "Nearplaces", name := "power", desc := "(I)I" } : Jvm.MethodName)) ∈ lw_all := lw_g (lw_at lw_m9 183 rfl) rfl
theorem q2165 : (Jvm.Cond.methodLink "NearplacesLaw" (258 : Nat) ({ cls := "Nearplaces", name := "powerByUnit", desc := "(I)I" } : Jvm.MethodName)) ∈ lw_all := lw_g (lw_at lw_m9 187 rfl) rfl
theorem q2172 : (Jvm.Cond.methodLink "NearplacesLaw" (261 : Nat) ({ cls := "Nearplaces", name := "isEdge", desc := "(I)Z" } : Jvm.MethodName)) ∈ lw_all := lw_g (lw_at lw_m9 194 rfl) rfl
theorem q2176 : (Jvm.Cond.methodLink "NearplacesLaw" (264 : Nat) ({ cls := "Nearplaces", name := "isUnitStep", desc := "(I)Z" } : Jvm.MethodName)) ∈ lw_all := lw_g (lw_at lw_m9 198 rfl) rfl
theorem q2180 : (Jvm.Cond.methodLink "NearplacesLaw" (267 : Nat) ({ cls := "Nearplaces", name := "gap", desc := "(IZI)I" } : Jvm.MethodName)) ∈ lw_all := lw_g (lw_at lw_m9 202 rfl) rfl
theorem q2184 : (Jvm.Cond.methodLink "NearplacesLaw" (271 : Nat) ({ cls := "Nearplaces", name := "shift", desc := "(III)I" } : Jvm.MethodName)) ∈ lw_all := lw_g (lw_at lw_m9 206 rfl) rfl
theorem q2191 : (Jvm.Cond.methodLink "NearplacesLaw" (378 : Nat) ({ cls := "NearplacesLaw", name := "areSums", desc := "(III)Z" } : Jvm.MethodName)) ∈ lw_all := lw_g (lw_at lw_m9 213 rfl) rfl
theorem q2192 : (Jvm.Cond.privateMethod ({ cls := "NearplacesLaw", name := "areSums", desc := "(III)Z" } : Jvm.MethodName)) ∈ lw_tbl := lw_at lw_m9 214 rfl
theorem q2193 : (Jvm.Cond.instanceMethod ({ cls := "NearplacesLaw", name := "areSums", desc := "(III)Z" } : Jvm.MethodName)) ∈ lw_all := lw_g (lw_at lw_m9 215 rfl) rfl
theorem q2194 : (Jvm.Cond.code ({ cls := "NearplacesLaw", name := "areSums", desc := "(III)Z" } : Jvm.MethodName) method_19_code (24 : Nat) (Option.some Jvm.ClassFile.FieldType.boolean)) ∈ lw_all := lw_g (lw_at lw_m9 216 rfl) rfl
theorem q2195 : (Jvm.Cond.methodLink "NearplacesLaw" (278 : Nat) ({ cls := "Nearplaces", name := "exact", desc := "(IIZ)I" } : Jvm.MethodName)) ∈ lw_all := lw_g (lw_at lw_m9 217 rfl) rfl
theorem q2205 : (Jvm.Cond.methodLink "NearplacesLaw" (282 : Nat) ({ cls := "Nearplaces", name := "holds", desc := "(IIZ)I" } : Jvm.MethodName)) ∈ lw_all := lw_g (lw_at lw_m9 227 rfl) rfl
theorem q2219 : (Jvm.Cond.methodLink "NearplacesLaw" (285 : Nat) ({ cls := "Nearplaces", name := "sum", desc := "(IIZI)I" } : Jvm.MethodName)) ∈ lw_all := lw_g (lw_at lw_m10 1 rfl) rfl
theorem q2223 : (Jvm.Cond.methodLink "NearplacesLaw" (289 : Nat) ({ cls := "Nearplaces", name := "error", desc := "(IIZI)I" } : Jvm.MethodName)) ∈ lw_all := lw_g (lw_at lw_m10 5 rfl) rfl
theorem q2227 : (Jvm.Cond.methodLink "NearplacesLaw" (292 : Nat) ({ cls := "NearplacesLaw", name := "number", desc := "(I)D" } : Jvm.MethodName)) ∈ lw_all := lw_g (lw_at lw_m10 9 rfl) rfl
theorem q2228 : (Jvm.Cond.privateMethod ({ cls := "NearplacesLaw", name := "number", desc := "(I)D" } : Jvm.MethodName)) ∈ lw_tbl := lw_at lw_m10 10 rfl
theorem q2229 : (Jvm.Cond.instanceMethod ({ cls := "NearplacesLaw", name := "number", desc := "(I)D" } : Jvm.MethodName)) ∈ lw_all := lw_g (lw_at lw_m10 11 rfl) rfl
theorem q2230 : (Jvm.Cond.code ({ cls := "NearplacesLaw", name := "number", desc := "(I)D" } : Jvm.MethodName) method_20_code (2 : Nat) (Option.some Jvm.ClassFile.FieldType.double)) ∈ lw_all := lw_g (lw_at lw_m10 12 rfl) rfl
theorem q2231 : (Jvm.Cond.methodLink "NearplacesLaw" (313 : Nat) ({ cls := "java/lang/Double", name := "longBitsToDouble", desc := "(J)D" } : Jvm.MethodName)) ∈ lw_all := lw_g (lw_at lw_m10 13 rfl) rfl
theorem q2232 : (Jvm.Cond.methodLink "NearplacesLaw" (296 : Nat) ({ cls := "NearplacesLaw", name := "isBits", desc := "(ID)Z" } : Jvm.MethodName)) ∈ lw_all := lw_g (lw_at lw_m10 14 rfl) rfl
theorem q2233 : (Jvm.Cond.privateMethod ({ cls := "NearplacesLaw", name := "isBits", desc := "(ID)Z" } : Jvm.MethodName)) ∈ lw_tbl := lw_at lw_m10 15 rfl
theorem q2234 : (Jvm.Cond.instanceMethod ({ cls := "NearplacesLaw", name := "isBits", desc := "(ID)Z" } : Jvm.MethodName)) ∈ lw_all := lw_g (lw_at lw_m10 16 rfl) rfl
theorem q2235 : (Jvm.Cond.code ({ cls := "NearplacesLaw", name := "isBits", desc := "(ID)Z" } : Jvm.MethodName) method_21_code (4 : Nat) (Option.some Jvm.ClassFile.FieldType.boolean)) ∈ lw_all := lw_g (lw_at lw_m10 17 rfl) rfl
theorem q2236 : (Jvm.Cond.methodLink "NearplacesLaw" (319 : Nat) ({ cls := "java/lang/Double", name := "doubleToRawLongBits", desc := "(D)J" } : Jvm.MethodName)) ∈ lw_all := lw_g (lw_at lw_m10 18 rfl) rfl
theorem q2237 : (Jvm.Cond.stringRef "NearplacesLaw" (300 : Nat) "0*2^0") ∈ lw_tbl := lw_at lw_m10 19 rfl
theorem q2238 : (Jvm.Cond.methodLink "NearplacesLaw" (302 : Nat) ({ cls := "NearplacesLaw", name := "size", desc := "(Ljava/lang/String;)Ljava/lang/String;" } : Jvm.MethodName)) ∈ lw_all := lw_g (lw_at lw_m10 20 rfl) rfl
theorem q2239 : (Jvm.Cond.static ({ cls := "NearplacesLaw", name := "size", desc := "(Ljava/lang/String;)Ljava/lang/String;" } : Jvm.MethodName)) ∈ lw_all := lw_g (lw_at lw_m10 21 rfl) rfl
theorem q2240 : (Jvm.Cond.code ({ cls := "NearplacesLaw", name := "size", desc := "(Ljava/lang/String;)Ljava/lang/String;" } : Jvm.MethodName) method_22_code (1 : Nat) (Option.some (Jvm.ClassFile.FieldType.object "java/lang/String"))) ∈ lw_all := lw_g (lw_at lw_m10 22 rfl) rfl
theorem q2241 : (Jvm.Cond.methodLink "NearplacesLaw" (306 : Nat) ({ cls := "java/lang/String", name := "startsWith", desc := "(Ljava/lang/String;)Z" } : Jvm.MethodName)) ∈ lw_all := lw_g (lw_at lw_m10 23 rfl) rfl
theorem q2346 : (Jvm.Cond.methodLink "NearplacesLaw" (310 : Nat) ({ cls := "java/lang/String", name := "endsWith", desc := "(Ljava/lang/String;)Z" } : Jvm.MethodName)) ∈ lw_all := lw_g (lw_at lw_m10 128 rfl) rfl
theorem q2350 : (Jvm.Cond.methodLink "NearplacesLaw" (381 : Nat) ({ cls := "NearplacesLaw", name := "areLeast", desc := "(I)Z" } : Jvm.MethodName)) ∈ lw_all := lw_g (lw_at lw_m10 132 rfl) rfl
theorem q2351 : (Jvm.Cond.privateMethod ({ cls := "NearplacesLaw", name := "areLeast", desc := "(I)Z" } : Jvm.MethodName)) ∈ lw_tbl := lw_at lw_m10 133 rfl
theorem q2352 : (Jvm.Cond.instanceMethod ({ cls := "NearplacesLaw", name := "areLeast", desc := "(I)Z" } : Jvm.MethodName)) ∈ lw_all := lw_g (lw_at lw_m10 134 rfl) rfl
theorem q2353 : (Jvm.Cond.code ({ cls := "NearplacesLaw", name := "areLeast", desc := "(I)Z" } : Jvm.MethodName) method_23_code (15 : Nat) (Option.some Jvm.ClassFile.FieldType.boolean)) ∈ lw_all := lw_g (lw_at lw_m10 135 rfl) rfl
theorem q2354 : (Jvm.Cond.methodLink "NearplacesLaw" (323 : Nat) ({ cls := "NearplacesLaw", name := "isTry", desc := "(IIJ)Z" } : Jvm.MethodName)) ∈ lw_all := lw_g (lw_at lw_m10 136 rfl) rfl
theorem q2355 : (Jvm.Cond.privateMethod ({ cls := "NearplacesLaw", name := "isTry", desc := "(IIJ)Z" } : Jvm.MethodName)) ∈ lw_tbl := lw_at lw_m10 137 rfl
theorem q2356 : (Jvm.Cond.instanceMethod ({ cls := "NearplacesLaw", name := "isTry", desc := "(IIJ)Z" } : Jvm.MethodName)) ∈ lw_all := lw_g (lw_at lw_m10 138 rfl) rfl
theorem q2357 : (Jvm.Cond.code ({ cls := "NearplacesLaw", name := "isTry", desc := "(IIJ)Z" } : Jvm.MethodName) method_25_code (12 : Nat) (Option.some Jvm.ClassFile.FieldType.boolean)) ∈ lw_all := lw_g (lw_at lw_m10 139 rfl) rfl
theorem q2358 : (Jvm.Cond.constantLong "NearplacesLaw" (334 : Nat) (-9218868437227405312 : Int64)) ∈ lw_all := lw_g (lw_at lw_m10 140 rfl) rfl
theorem q2359 : (Jvm.Cond.methodLink "NearplacesLaw" (331 : Nat) ({ cls := "Nearplaces", name := "least", desc := "(III)I" } : Jvm.MethodName)) ∈ lw_all := lw_g (lw_at lw_m10 141 rfl) rfl
theorem q2367 : (Jvm.Cond.methodLink "NearplacesLaw" (327 : Nat) ({ cls := "NearplacesLaw", name := "powerPoint", desc := "(I)J" } : Jvm.MethodName)) ∈ lw_all := lw_g (lw_at lw_m10 149 rfl) rfl
theorem q2368 : (Jvm.Cond.static ({ cls := "NearplacesLaw", name := "powerPoint", desc := "(I)J" } : Jvm.MethodName)) ∈ lw_all := lw_g (lw_at lw_m10 150 rfl) rfl
theorem q2369 : (Jvm.Cond.code ({ cls := "NearplacesLaw", name := "powerPoint", desc := "(I)J" } : Jvm.MethodName) method_24_code (1 : Nat) (Option.some Jvm.ClassFile.FieldType.long)) ∈ lw_all := lw_g (lw_at lw_m10 151 rfl) rfl
theorem q2370 : (Jvm.Cond.methodLink "NearplacesLaw" (384 : Nat) ({ cls := "NearplacesLaw", name := "areRead", desc := "(I)Z" } : Jvm.MethodName)) ∈ lw_all := lw_g (lw_at lw_m10 152 rfl) rfl
theorem q2371 : (Jvm.Cond.privateMethod ({ cls := "NearplacesLaw", name := "areRead", desc := "(I)Z" } : Jvm.MethodName)) ∈ lw_tbl := lw_at lw_m10 153 rfl
theorem q2372 : (Jvm.Cond.instanceMethod ({ cls := "NearplacesLaw", name := "areRead", desc := "(I)Z" } : Jvm.MethodName)) ∈ lw_all := lw_g (lw_at lw_m10 154 rfl) rfl
theorem q2373 : (Jvm.Cond.code ({ cls := "NearplacesLaw", name := "areRead", desc := "(I)Z" } : Jvm.MethodName) method_26_code (6 : Nat) (Option.some Jvm.ClassFile.FieldType.boolean)) ∈ lw_all := lw_g (lw_at lw_m10 155 rfl) rfl
theorem q2374 : (Jvm.Cond.methodLink "NearplacesLaw" (336 : Nat) ({ cls := "Nearplaces", name := "readBinary", desc := "(ZII)I" } : Jvm.MethodName)) ∈ lw_all := lw_g (lw_at lw_m10 156 rfl) rfl
theorem q2378 : (Jvm.Cond.methodLink "NearplacesLaw" (340 : Nat) ({ cls := "Nearplaces", name := "readDecimal", desc := "(ZII)I" } : Jvm.MethodName)) ∈ lw_all := lw_g (lw_at lw_m10 160 rfl) rfl
theorem q2382 : (Jvm.Cond.methodLink "NearplacesLaw" (387 : Nat) ({ cls := "NearplacesLaw", name := "isSummed", desc := "()Z" } : Jvm.MethodName)) ∈ lw_all := lw_g (lw_at lw_m10 164 rfl) rfl
theorem q2383 : (Jvm.Cond.privateMethod ({ cls := "NearplacesLaw", name := "isSummed", desc := "()Z" } : Jvm.MethodName)) ∈ lw_tbl := lw_at lw_m10 165 rfl
theorem q2384 : (Jvm.Cond.instanceMethod ({ cls := "NearplacesLaw", name := "isSummed", desc := "()Z" } : Jvm.MethodName)) ∈ lw_all := lw_g (lw_at lw_m10 166 rfl) rfl
theorem q2385 : (Jvm.Cond.code ({ cls := "NearplacesLaw", name := "isSummed", desc := "()Z" } : Jvm.MethodName) method_28_code (7 : Nat) (Option.some Jvm.ClassFile.FieldType.boolean)) ∈ lw_all := lw_g (lw_at lw_m10 167 rfl) rfl
theorem q2386 : (Jvm.Cond.constantLong "NearplacesLaw" (345 : Nat) (7924 : Int64)) ∈ lw_all := lw_g (lw_at lw_m10 168 rfl) rfl
theorem q2387 : (Jvm.Cond.methodLink "NearplacesLaw" (347 : Nat) ({ cls := "Nearplaces", name := "digest", desc := "()J" } : Jvm.MethodName)) ∈ lw_all := lw_g (lw_at lw_m10 169 rfl) rfl
theorem q2414 : (Jvm.Cond.methodLink "NearplacesLaw" (351 : Nat) ({ cls := "NearplacesLaw", name := "sum", desc := "(JJ)J" } : Jvm.MethodName)) ∈ lw_all := lw_g (lw_at lw_m10 196 rfl) rfl
theorem q2415 : (Jvm.Cond.static ({ cls := "NearplacesLaw", name := "sum", desc := "(JJ)J" } : Jvm.MethodName)) ∈ lw_all := lw_g (lw_at lw_m10 197 rfl) rfl
theorem q2416 : (Jvm.Cond.code ({ cls := "NearplacesLaw", name := "sum", desc := "(JJ)J" } : Jvm.MethodName) method_27_code (4 : Nat) (Option.some Jvm.ClassFile.FieldType.long)) ∈ lw_all := lw_g (lw_at lw_m10 198 rfl) rfl
theorem q2417 : (Jvm.Cond.constantLong "NearplacesLaw" (343 : Nat) (31 : Int64)) ∈ lw_all := lw_g (lw_at lw_m10 199 rfl) rfl
theorem q2418 : (Jvm.Cond.methodLink "NearplacesLaw" (354 : Nat) ({ cls := "Nearplaces", name := "isSound", desc := "()Z" } : Jvm.MethodName)) ∈ lw_all := lw_g (lw_at lw_m10 200 rfl) rfl
theorem q2419 : (Jvm.Cond.methodLink "NearplacesLaw" (358 : Nat) ({ cls := "Nearplaces", name := "knock", desc := "()I" } : Jvm.MethodName)) ∈ lw_all := lw_g (lw_at lw_m10 201 rfl) rfl
def RX1 : String := "Nearplaces"
def TX1 : u_T := fun k => match k with
  | 0 => ("Nearplaces", "arguments", "[D", true)
  | 1 => ("Nearplaces", "answers", "[D", true)
  | 2 => ("Nearplaces", "argumentActs", "I", false)
  | 3 => ("Nearplaces", "answerActs", "I", false)
  | 4 => ("Nearplaces", "refused", "I", false)
  | 5 => ("Nearplaces", "knocked", "I", false)
  | 6 => ("Nearplaces", "areArgumentsRead", "[Z", true)
  | _ => ("Nearplaces", "areAnswersRead", "[Z", true)
def tyX1 : Nat → FieldType := fun k => match k with
  | 0 => .array .double
  | 1 => .array .double
  | 2 => .int
  | 3 => .int
  | 4 => .int
  | 5 => .int
  | 6 => .array .boolean
  | _ => .array .boolean
abbrev wsX10 : List Cond := u_ws RX1 TX1 8
theorem nmX1 : ∀ a, a < 8 → ∀ b, b < 8 → a ≠ b → (TX1 a).2.1 ≠ (TX1 b).2.1 := by decide +kernel
theorem tyX1_ok : ∀ k, k < 8 → parseFieldDescriptor (TX1 k).2.2.1 = some (tyX1 k) := by decide +kernel
abbrev cX1_init : ByteArray := prog_1_method_1_code
def yX1_init : MethodName := ⟨RX1, "<init>", "()V"⟩
abbrev cX1_isRead : ByteArray := prog_1_method_97_code
def yX1_isRead : MethodName := ⟨RX1, "isRead", "(D)Z"⟩
abbrev cX1_binaryOf : ByteArray := prog_1_method_58_code
def yX1_binaryOf : MethodName := ⟨RX1, "binaryOf", "(D)Ljava/lang/String;"⟩
abbrev cX1_isSigned : ByteArray := prog_1_method_10_code
def yX1_isSigned : MethodName := ⟨RX1, "isSigned", "(D)Z"⟩
abbrev cX1_digitsOf : ByteArray := prog_1_method_7_code
def yX1_digitsOf : MethodName := ⟨RX1, "digitsOf", "(D)J"⟩
abbrev cX1_wholeOf : ByteArray := prog_1_method_56_code
def yX1_wholeOf : MethodName := ⟨RX1, "wholeOf", "(D)J"⟩
abbrev cX1_fullOf : ByteArray := prog_1_method_55_code
def yX1_fullOf : MethodName := ⟨RX1, "fullOf", "(D)J"⟩
abbrev cX1_pointOf : ByteArray := prog_1_method_8_code
def yX1_pointOf : MethodName := ⟨RX1, "pointOf", "(D)J"⟩
abbrev cX1_exponentOf : ByteArray := prog_1_method_9_code
def yX1_exponentOf : MethodName := ⟨RX1, "exponentOf", "(D)I"⟩
abbrev cX1_raiseOf : ByteArray := prog_1_method_57_code
def yX1_raiseOf : MethodName := ⟨RX1, "raiseOf", "(D)I"⟩
abbrev cX1_readFromBinary : ByteArray := prog_1_method_63_code
def yX1_readFromBinary : MethodName := ⟨RX1, "readFromBinary", "(Ljava/lang/String;)D"⟩
abbrev cX1_hasMinus : ByteArray := prog_1_method_62_code
def yX1_hasMinus : MethodName := ⟨RX1, "hasMinus", "(Ljava/lang/String;)Z"⟩
abbrev cX1_bit : ByteArray := prog_1_method_5_code
def yX1_bit : MethodName := ⟨RX1, "bit", "(Z)I"⟩
abbrev cX1_signed : ByteArray := prog_1_method_47_code
def yX1_signed : MethodName := ⟨RX1, "signed", "(DZ)D"⟩
abbrev cX1_areSame : ByteArray := prog_1_method_14_code
def yX1_areSame : MethodName := ⟨RX1, "areSame", "(DD)Z"⟩
abbrev cX1_hasDecimal : ByteArray := prog_1_method_59_code
def yX1_hasDecimal : MethodName := ⟨RX1, "hasDecimal", "(D)Z"⟩
abbrev cX1_isIn : ByteArray := prog_1_method_2_code
def yX1_isIn : MethodName := ⟨RX1, "isIn", "(III)Z"⟩
abbrev cX1_decimalOf : ByteArray := prog_1_method_61_code
def yX1_decimalOf : MethodName := ⟨RX1, "decimalOf", "(D)Ljava/lang/String;"⟩
abbrev cX1_fives : ByteArray := prog_1_method_60_code
def yX1_fives : MethodName := ⟨RX1, "fives", "(I)Ljava/math/BigInteger;"⟩
abbrev cX1_readFromDecimal : ByteArray := prog_1_method_64_code
def yX1_readFromDecimal : MethodName := ⟨RX1, "readFromDecimal", "(Ljava/lang/String;)D"⟩
abbrev cX1_house : ByteArray := prog_1_method_95_code
def yX1_house : MethodName := ⟨RX1, "house", "(I)I"⟩
abbrev cX1_mustFit : ByteArray := prog_1_method_4_code
def yX1_mustFit : MethodName := ⟨RX1, "mustFit", "(Z)V"⟩
abbrev cX1_houseNow : ByteArray := prog_1_method_94_code
def yX1_houseNow : MethodName := ⟨RX1, "houseNow", "(I)I"⟩
abbrev cX1_put : ByteArray := prog_1_method_28_code
def yX1_put : MethodName := ⟨RX1, "put", "(IZII)I"⟩
abbrev cX1_mustBeCell : ByteArray := prog_1_method_3_code
def yX1_mustBeCell : MethodName := ⟨RX1, "mustBeCell", "(I)V"⟩
abbrev cX1_knotPoint : ByteArray := prog_1_method_15_code
def yX1_knotPoint : MethodName := ⟨RX1, "knotPoint", "(I)J"⟩
abbrev cX1_putPoint : ByteArray := prog_1_method_27_code
def yX1_putPoint : MethodName := ⟨RX1, "putPoint", "(IZJ)I"⟩
abbrev cX1_windowOf : ByteArray := prog_1_method_16_code
def yX1_windowOf : MethodName := ⟨RX1, "windowOf", "(J)I"⟩
abbrev cX1_refused : ByteArray := prog_1_method_6_code
def yX1_refused : MethodName := ⟨RX1, "refused", "()I"⟩
abbrev cX1_setArgument : ByteArray := prog_1_method_24_code
def yX1_setArgument : MethodName := ⟨RX1, "setArgument", "(ID)I"⟩
abbrev cX1_parts : ByteArray := prog_1_method_85_code
def yX1_parts : MethodName := ⟨RX1, "parts", "(ZI)Ljava/lang/String;"⟩
abbrev cX1_at : ByteArray := prog_1_method_23_code
def yX1_at : MethodName := ⟨RX1, "at", "(ZI)D"⟩
abbrev cX1_place : ByteArray := prog_1_method_86_code
def yX1_place : MethodName := ⟨RX1, "place", "(ZI)Ljava/lang/String;"⟩
abbrev cX1_placeOf : ByteArray := prog_1_method_12_code
def yX1_placeOf : MethodName := ⟨RX1, "placeOf", "(D)J"⟩
abbrev cX1_window : ByteArray := prog_1_method_81_code
def yX1_window : MethodName := ⟨RX1, "window", "(ZI)I"⟩
abbrev cX1_offset : ByteArray := prog_1_method_82_code
def yX1_offset : MethodName := ⟨RX1, "offset", "(ZI)I"⟩
abbrev cX1_offsetOf : ByteArray := prog_1_method_17_code
def yX1_offsetOf : MethodName := ⟨RX1, "offsetOf", "(D)I"⟩
abbrev cX1_isNear : ByteArray := prog_1_method_72_code
def yX1_isNear : MethodName := ⟨RX1, "isNear", "(I)Z"⟩
abbrev cX1_argument : ByteArray := prog_1_method_22_code
def yX1_argument : MethodName := ⟨RX1, "argument", "(I)D"⟩
abbrev cX1_isCloseBy : ByteArray := prog_1_method_19_code
def yX1_isCloseBy : MethodName := ⟨RX1, "isCloseBy", "(D)Z"⟩
abbrev cX1_upper : ByteArray := prog_1_method_83_code
def yX1_upper : MethodName := ⟨RX1, "upper", "(ZI)I"⟩
abbrev cX1_lower : ByteArray := prog_1_method_84_code
def yX1_lower : MethodName := ⟨RX1, "lower", "(ZI)I"⟩
abbrev cX1_putDigits : ByteArray := prog_1_method_29_code
def yX1_putDigits : MethodName := ⟨RX1, "putDigits", "(III)I"⟩
abbrev cX1_putParts : ByteArray := prog_1_method_30_code
def yX1_putParts : MethodName := ⟨RX1, "putParts", "(IZIII)I"⟩
abbrev cX1_decimals : ByteArray := prog_1_method_91_code
def yX1_decimals : MethodName := ⟨RX1, "decimals", "(ZI)I"⟩
abbrev cX1_decimalsOf : ByteArray := prog_1_method_90_code
def yX1_decimalsOf : MethodName := ⟨RX1, "decimalsOf", "(D)I"⟩
abbrev cX1_binary : ByteArray := prog_1_method_88_code
def yX1_binary : MethodName := ⟨RX1, "binary", "(ZI)Ljava/lang/String;"⟩
abbrev cX1_decimal : ByteArray := prog_1_method_89_code
def yX1_decimal : MethodName := ⟨RX1, "decimal", "(ZI)Ljava/lang/String;"⟩
abbrev cX1_up : ByteArray := prog_1_method_36_code
def yX1_up : MethodName := ⟨RX1, "up", "(II)I"⟩
abbrev cX1_setFinite : ByteArray := prog_1_method_26_code
def yX1_setFinite : MethodName := ⟨RX1, "setFinite", "(ID)I"⟩
abbrev cX1_setAnswer : ByteArray := prog_1_method_25_code
def yX1_setAnswer : MethodName := ⟨RX1, "setAnswer", "(ID)I"⟩
abbrev cX1_down : ByteArray := prog_1_method_37_code
def yX1_down : MethodName := ⟨RX1, "down", "(II)I"⟩
abbrev cX1_between : ByteArray := prog_1_method_87_code
def yX1_between : MethodName := ⟨RX1, "between", "(ZIZI)Ljava/lang/String;"⟩
abbrev cX1_difference : ByteArray := prog_1_method_21_code
def yX1_difference : MethodName := ⟨RX1, "difference", "(DD)Ljava/math/BigInteger;"⟩
abbrev cX1_order : ByteArray := prog_1_method_93_code
def yX1_order : MethodName := ⟨RX1, "order", "(ZIZI)I"⟩
abbrev cX1_steps : ByteArray := prog_1_method_38_code
def yX1_steps : MethodName := ⟨RX1, "steps", "(III)I"⟩
abbrev cX1_isSame : ByteArray := prog_1_method_92_code
def yX1_isSame : MethodName := ⟨RX1, "isSame", "(ZIZI)Z"⟩
abbrev cX1_take : ByteArray := prog_1_method_34_code
def yX1_take : MethodName := ⟨RX1, "take", "(II)I"⟩
abbrev cX1_isOfSet : ByteArray := prog_1_method_18_code
def yX1_isOfSet : MethodName := ⟨RX1, "isOfSet", "(D)Z"⟩
abbrev cX1_walk : ByteArray := prog_1_method_80_code
def yX1_walk : MethodName := ⟨RX1, "walk", "(II)I"⟩
abbrev cX1_copy : ByteArray := prog_1_method_31_code
def yX1_copy : MethodName := ⟨RX1, "copy", "(II)I"⟩
abbrev cX1_minus : ByteArray := prog_1_method_33_code
def yX1_minus : MethodName := ⟨RX1, "minus", "(I)I"⟩
abbrev cX1_towards : ByteArray := prog_1_method_39_code
def yX1_towards : MethodName := ⟨RX1, "towards", "(III)I"⟩
abbrev cX1_middle : ByteArray := prog_1_method_52_code
def yX1_middle : MethodName := ⟨RX1, "middle", "(III)I"⟩
abbrev cX1_middleOf : ByteArray := prog_1_method_51_code
def yX1_middleOf : MethodName := ⟨RX1, "middleOf", "(JJ)J"⟩
abbrev cX1_numberAt : ByteArray := prog_1_method_13_code
def yX1_numberAt : MethodName := ⟨RX1, "numberAt", "(J)D"⟩
abbrev cX1_keep : ByteArray := prog_1_method_35_code
def yX1_keep : MethodName := ⟨RX1, "keep", "(II)I"⟩
abbrev cX1_swap : ByteArray := prog_1_method_32_code
def yX1_swap : MethodName := ⟨RX1, "swap", "(II)I"⟩
abbrev cX1_isWithin : ByteArray := prog_1_method_74_code
def yX1_isWithin : MethodName := ⟨RX1, "isWithin", "(II)Z"⟩
abbrev cX1_areWithin : ByteArray := prog_1_method_73_code
def yX1_areWithin : MethodName := ⟨RX1, "areWithin", "(DD)Z"⟩
abbrev cX1_sizeOf : ByteArray := prog_1_method_11_code
def yX1_sizeOf : MethodName := ⟨RX1, "sizeOf", "(D)D"⟩
abbrev cX1_unit : ByteArray := prog_1_method_44_code
def yX1_unit : MethodName := ⟨RX1, "unit", "(II)I"⟩
abbrev cX1_unitByPower : ByteArray := prog_1_method_45_code
def yX1_unitByPower : MethodName := ⟨RX1, "unitByPower", "(II)I"⟩
abbrev cX1_unitOf : ByteArray := prog_1_method_43_code
def yX1_unitOf : MethodName := ⟨RX1, "unitOf", "(D)D"⟩
abbrev cX1_powerAtLeast : ByteArray := prog_1_method_42_code
def yX1_powerAtLeast : MethodName := ⟨RX1, "powerAtLeast", "(D)I"⟩
abbrev cX1_power : ByteArray := prog_1_method_67_code
def yX1_power : MethodName := ⟨RX1, "power", "(I)I"⟩
abbrev cX1_powerByUnit : ByteArray := prog_1_method_69_code
def yX1_powerByUnit : MethodName := ⟨RX1, "powerByUnit", "(I)I"⟩
abbrev cX1_powerOfUnit : ByteArray := prog_1_method_68_code
def yX1_powerOfUnit : MethodName := ⟨RX1, "powerOfUnit", "(D)I"⟩
abbrev cX1_isEdge : ByteArray := prog_1_method_70_code
def yX1_isEdge : MethodName := ⟨RX1, "isEdge", "(I)Z"⟩
abbrev cX1_isUnitStep : ByteArray := prog_1_method_71_code
def yX1_isUnitStep : MethodName := ⟨RX1, "isUnitStep", "(I)Z"⟩
abbrev cX1_gap : ByteArray := prog_1_method_46_code
def yX1_gap : MethodName := ⟨RX1, "gap", "(IZI)I"⟩
abbrev cX1_shift : ByteArray := prog_1_method_41_code
def yX1_shift : MethodName := ⟨RX1, "shift", "(III)I"⟩
abbrev cX1_powerOfShift : ByteArray := prog_1_method_40_code
def yX1_powerOfShift : MethodName := ⟨RX1, "powerOfShift", "(I)I"⟩
abbrev cX1_exact : ByteArray := prog_1_method_75_code
def yX1_exact : MethodName := ⟨RX1, "exact", "(IIZ)I"⟩
abbrev cX1_areAddable : ByteArray := prog_1_method_20_code
def yX1_areAddable : MethodName := ⟨RX1, "areAddable", "(DD)Z"⟩
abbrev cX1_lostOf : ByteArray := prog_1_method_48_code
def yX1_lostOf : MethodName := ⟨RX1, "lostOf", "(DD)D"⟩
abbrev cX1_holds : ByteArray := prog_1_method_79_code
def yX1_holds : MethodName := ⟨RX1, "holds", "(IIZ)I"⟩
abbrev cX1_isAllThere : ByteArray := prog_1_method_78_code
def yX1_isAllThere : MethodName := ⟨RX1, "isAllThere", "(DD)Z"⟩
abbrev cX1_lastOf : ByteArray := prog_1_method_76_code
def yX1_lastOf : MethodName := ⟨RX1, "lastOf", "(D)I"⟩
abbrev cX1_pieceOf : ByteArray := prog_1_method_77_code
def yX1_pieceOf : MethodName := ⟨RX1, "pieceOf", "(DI)J"⟩
abbrev cX1_sum : ByteArray := prog_1_method_49_code
def yX1_sum : MethodName := ⟨RX1, "sum", "(IIZI)I"⟩
abbrev cX1_error : ByteArray := prog_1_method_50_code
def yX1_error : MethodName := ⟨RX1, "error", "(IIZI)I"⟩
abbrev cX1_least : ByteArray := prog_1_method_54_code
def yX1_least : MethodName := ⟨RX1, "least", "(III)I"⟩
abbrev cX1_has : ByteArray := prog_1_method_53_code
def yX1_has : MethodName := ⟨RX1, "has", "(IDD)Z"⟩
abbrev cX1_readBinary : ByteArray := prog_1_method_65_code
def yX1_readBinary : MethodName := ⟨RX1, "readBinary", "(ZII)I"⟩
abbrev cX1_readDecimal : ByteArray := prog_1_method_66_code
def yX1_readDecimal : MethodName := ⟨RX1, "readDecimal", "(ZII)I"⟩
abbrev cX1_digest : ByteArray := prog_1_method_102_code
def yX1_digest : MethodName := ⟨RX1, "digest", "()J"⟩
abbrev cX1_add : ByteArray := prog_1_method_101_code
def yX1_add : MethodName := ⟨RX1, "add", "(JJ)J"⟩
abbrev cX1_isSound : ByteArray := prog_1_method_100_code
def yX1_isSound : MethodName := ⟨RX1, "isSound", "()Z"⟩
abbrev cX1_isArgumentSound : ByteArray := prog_1_method_98_code
def yX1_isArgumentSound : MethodName := ⟨RX1, "isArgumentSound", "(D)Z"⟩
abbrev cX1_isPairSound : ByteArray := prog_1_method_99_code
def yX1_isPairSound : MethodName := ⟨RX1, "isPairSound", "(DD)Z"⟩
abbrev cX1_knock : ByteArray := prog_1_method_96_code
def yX1_knock : MethodName := ⟨RX1, "knock", "()I"⟩
theorem q65 : (Jvm.Cond.initialized "Nearplaces") ∈ lw_all := lw_g (lw_at lw_m1 7 rfl) rfl
theorem q180 : (Jvm.Cond.instantiable "Nearplaces" (8 : Nat)) ∈ lw_all := lw_g (lw_at lw_m1 122 rfl) rfl
theorem q182 : (Jvm.Cond.instanceMethod ({ cls := "Nearplaces", name := "<init>", desc := "()V" } : Jvm.MethodName)) ∈ lw_all := lw_g (lw_at lw_m1 124 rfl) rfl
theorem q183 : (Jvm.Cond.code ({ cls := "Nearplaces", name := "<init>", desc := "()V" } : Jvm.MethodName) prog_1_method_1_code (3 : Nat) (Option.none : Option Jvm.ClassFile.FieldType)) ∈ lw_all := lw_g (lw_at lw_m1 125 rfl) rfl
theorem q184 : (Jvm.Cond.methodLink "Nearplaces" (5 : Nat) ({ cls := "java/lang/Object", name := "<init>", desc := "()V" } : Jvm.MethodName)) ∈ lw_all := lw_g (lw_at lw_m1 126 rfl) rfl
theorem q185 : (Jvm.Cond.methodLink "Nearplaces" (25 : Nat) ({ cls := "Nearplaces", name := "isRead", desc := "(D)Z" } : Jvm.MethodName)) ∈ lw_all := lw_g (lw_at lw_m1 127 rfl) rfl
theorem q186 : (Jvm.Cond.static ({ cls := "Nearplaces", name := "isRead", desc := "(D)Z" } : Jvm.MethodName)) ∈ lw_all := lw_g (lw_at lw_m1 128 rfl) rfl
theorem q187 : (Jvm.Cond.code ({ cls := "Nearplaces", name := "isRead", desc := "(D)Z" } : Jvm.MethodName) prog_1_method_97_code (3 : Nat) (Option.some Jvm.ClassFile.FieldType.boolean)) ∈ lw_all := lw_g (lw_at lw_m1 129 rfl) rfl
theorem q188 : (Jvm.Cond.methodLink "Nearplaces" (347 : Nat) ({ cls := "Nearplaces", name := "binaryOf", desc := "(D)Ljava/lang/String;" } : Jvm.MethodName)) ∈ lw_all := lw_g (lw_at lw_m1 130 rfl) rfl
theorem q189 : (Jvm.Cond.static ({ cls := "Nearplaces", name := "binaryOf", desc := "(D)Ljava/lang/String;" } : Jvm.MethodName)) ∈ lw_all := lw_g (lw_at lw_m1 131 rfl) rfl
theorem q190 : (Jvm.Cond.code ({ cls := "Nearplaces", name := "binaryOf", desc := "(D)Ljava/lang/String;" } : Jvm.MethodName) prog_1_method_58_code (3 : Nat) (Option.some (Jvm.ClassFile.FieldType.object "java/lang/String"))) ∈ lw_all := lw_g (lw_at lw_m1 132 rfl) rfl
theorem q191 : (Jvm.Cond.classLink "Nearplaces" (237 : Nat) "java/lang/StringBuilder") ∈ lw_all := lw_g (lw_at lw_m1 133 rfl) rfl
theorem q193 : (Jvm.Cond.methodLink "Nearplaces" (61 : Nat) ({ cls := "Nearplaces", name := "isSigned", desc := "(D)Z" } : Jvm.MethodName)) ∈ lw_all := lw_g (lw_at lw_m1 135 rfl) rfl
theorem q194 : (Jvm.Cond.static ({ cls := "Nearplaces", name := "isSigned", desc := "(D)Z" } : Jvm.MethodName)) ∈ lw_all := lw_g (lw_at lw_m1 136 rfl) rfl
theorem q195 : (Jvm.Cond.code ({ cls := "Nearplaces", name := "isSigned", desc := "(D)Z" } : Jvm.MethodName) prog_1_method_10_code (2 : Nat) (Option.some Jvm.ClassFile.FieldType.boolean)) ∈ lw_all := lw_g (lw_at lw_m1 137 rfl) rfl
theorem q196 : (Jvm.Cond.methodLink "Nearplaces" (49 : Nat) ({ cls := "Nearplaces", name := "digitsOf", desc := "(D)J" } : Jvm.MethodName)) ∈ lw_all := lw_g (lw_at lw_m1 138 rfl) rfl
theorem q197 : (Jvm.Cond.static ({ cls := "Nearplaces", name := "digitsOf", desc := "(D)J" } : Jvm.MethodName)) ∈ lw_all := lw_g (lw_at lw_m1 139 rfl) rfl
theorem q198 : (Jvm.Cond.code ({ cls := "Nearplaces", name := "digitsOf", desc := "(D)J" } : Jvm.MethodName) prog_1_method_7_code (2 : Nat) (Option.some Jvm.ClassFile.FieldType.long)) ∈ lw_all := lw_g (lw_at lw_m1 140 rfl) rfl
theorem q199 : (Jvm.Cond.methodLink "Nearplaces" (43 : Nat) ({ cls := "java/lang/Double", name := "doubleToLongBits", desc := "(D)J" } : Jvm.MethodName)) ∈ lw_all := lw_g (lw_at lw_m1 141 rfl) rfl
theorem q209 : (Jvm.Cond.stringRef "Nearplaces" (239 : Nat) "-") ∈ lw_tbl := lw_at lw_m1 151 rfl
theorem q210 : (Jvm.Cond.stringRef "Nearplaces" (241 : Nat) "") ∈ lw_tbl := lw_at lw_m1 152 rfl
theorem q211 : (Jvm.Cond.methodLink "Nearplaces" (243 : Nat) ({ cls := "java/lang/StringBuilder", name := "<init>", desc := "(Ljava/lang/String;)V" } : Jvm.MethodName)) ∈ lw_all := lw_g (lw_at lw_m1 153 rfl) rfl
theorem q369 : (Jvm.Cond.methodLink "Nearplaces" (246 : Nat) ({ cls := "Nearplaces", name := "wholeOf", desc := "(D)J" } : Jvm.MethodName)) ∈ lw_all := lw_g (lw_at lw_m2 71 rfl) rfl
theorem q370 : (Jvm.Cond.static ({ cls := "Nearplaces", name := "wholeOf", desc := "(D)J" } : Jvm.MethodName)) ∈ lw_all := lw_g (lw_at lw_m2 72 rfl) rfl
theorem q371 : (Jvm.Cond.code ({ cls := "Nearplaces", name := "wholeOf", desc := "(D)J" } : Jvm.MethodName) prog_1_method_56_code (4 : Nat) (Option.some Jvm.ClassFile.FieldType.long)) ∈ lw_all := lw_g (lw_at lw_m2 73 rfl) rfl
theorem q372 : (Jvm.Cond.methodLink "Nearplaces" (231 : Nat) ({ cls := "Nearplaces", name := "fullOf", desc := "(D)J" } : Jvm.MethodName)) ∈ lw_all := lw_g (lw_at lw_m2 74 rfl) rfl
theorem q373 : (Jvm.Cond.static ({ cls := "Nearplaces", name := "fullOf", desc := "(D)J" } : Jvm.MethodName)) ∈ lw_all := lw_g (lw_at lw_m2 75 rfl) rfl
theorem q374 : (Jvm.Cond.code ({ cls := "Nearplaces", name := "fullOf", desc := "(D)J" } : Jvm.MethodName) prog_1_method_55_code (2 : Nat) (Option.some Jvm.ClassFile.FieldType.long)) ∈ lw_all := lw_g (lw_at lw_m2 76 rfl) rfl
theorem q375 : (Jvm.Cond.methodLink "Nearplaces" (54 : Nat) ({ cls := "Nearplaces", name := "pointOf", desc := "(D)J" } : Jvm.MethodName)) ∈ lw_all := lw_g (lw_at lw_m2 77 rfl) rfl
theorem q376 : (Jvm.Cond.static ({ cls := "Nearplaces", name := "pointOf", desc := "(D)J" } : Jvm.MethodName)) ∈ lw_all := lw_g (lw_at lw_m2 78 rfl) rfl
theorem q377 : (Jvm.Cond.code ({ cls := "Nearplaces", name := "pointOf", desc := "(D)J" } : Jvm.MethodName) prog_1_method_8_code (2 : Nat) (Option.some Jvm.ClassFile.FieldType.long)) ∈ lw_all := lw_g (lw_at lw_m2 79 rfl) rfl
theorem q378 : (Jvm.Cond.constantLong "Nearplaces" (52 : Nat) (9223372036854775807 : Int64)) ∈ lw_all := lw_g (lw_at lw_m2 80 rfl) rfl
theorem q379 : (Jvm.Cond.constantLong "Nearplaces" (227 : Nat) (4503599627370495 : Int64)) ∈ lw_all := lw_g (lw_at lw_m2 81 rfl) rfl
theorem q380 : (Jvm.Cond.methodLink "Nearplaces" (93 : Nat) ({ cls := "Nearplaces", name := "exponentOf", desc := "(D)I" } : Jvm.MethodName)) ∈ lw_all := lw_g (lw_at lw_m2 82 rfl) rfl
theorem q381 : (Jvm.Cond.static ({ cls := "Nearplaces", name := "exponentOf", desc := "(D)I" } : Jvm.MethodName)) ∈ lw_all := lw_g (lw_at lw_m2 83 rfl) rfl
theorem q382 : (Jvm.Cond.code ({ cls := "Nearplaces", name := "exponentOf", desc := "(D)I" } : Jvm.MethodName) prog_1_method_9_code (2 : Nat) (Option.some Jvm.ClassFile.FieldType.int)) ∈ lw_all := lw_g (lw_at lw_m2 84 rfl) rfl
theorem q383 : (Jvm.Cond.constantLong "Nearplaces" (229 : Nat) (4503599627370496 : Int64)) ∈ lw_all := lw_g (lw_at lw_m2 85 rfl) rfl
theorem q384 : (Jvm.Cond.methodLink "Nearplaces" (234 : Nat) ({ cls := "java/lang/Long", name := "numberOfTrailingZeros", desc := "(J)I" } : Jvm.MethodName)) ∈ lw_all := lw_g (lw_at lw_m2 86 rfl) rfl
theorem q391 : (Jvm.Cond.methodLink "Nearplaces" (249 : Nat) ({ cls := "java/lang/StringBuilder", name := "append", desc := "(J)Ljava/lang/StringBuilder;" } : Jvm.MethodName)) ∈ lw_all := lw_g (lw_at lw_m2 93 rfl) rfl
theorem q422 : (Jvm.Cond.stringRef "Nearplaces" (253 : Nat) "*2^") ∈ lw_tbl := lw_at lw_m2 124 rfl
theorem q423 : (Jvm.Cond.methodLink "Nearplaces" (255 : Nat) ({ cls := "java/lang/StringBuilder", name := "append", desc := "(Ljava/lang/String;)Ljava/lang/StringBuilder;" } : Jvm.MethodName)) ∈ lw_all := lw_g (lw_at lw_m2 125 rfl) rfl
theorem q424 : (Jvm.Cond.methodLink "Nearplaces" (258 : Nat) ({ cls := "Nearplaces", name := "raiseOf", desc := "(D)I" } : Jvm.MethodName)) ∈ lw_all := lw_g (lw_at lw_m2 126 rfl) rfl
theorem q425 : (Jvm.Cond.static ({ cls := "Nearplaces", name := "raiseOf", desc := "(D)I" } : Jvm.MethodName)) ∈ lw_all := lw_g (lw_at lw_m2 127 rfl) rfl
theorem q426 : (Jvm.Cond.code ({ cls := "Nearplaces", name := "raiseOf", desc := "(D)I" } : Jvm.MethodName) prog_1_method_57_code (4 : Nat) (Option.some Jvm.ClassFile.FieldType.int)) ∈ lw_all := lw_g (lw_at lw_m2 128 rfl) rfl
theorem q427 : (Jvm.Cond.methodLink "Nearplaces" (191 : Nat) ({ cls := "java/lang/Math", name := "max", desc := "(II)I" } : Jvm.MethodName)) ∈ lw_all := lw_g (lw_at lw_m2 129 rfl) rfl
theorem q428 : (Jvm.Cond.methodLink "Nearplaces" (261 : Nat) ({ cls := "java/lang/StringBuilder", name := "append", desc := "(I)Ljava/lang/StringBuilder;" } : Jvm.MethodName)) ∈ lw_all := lw_g (lw_at lw_m2 130 rfl) rfl
theorem q449 : (Jvm.Cond.methodLink "Nearplaces" (264 : Nat) ({ cls := "java/lang/StringBuilder", name := "toString", desc := "()Ljava/lang/String;" } : Jvm.MethodName)) ∈ lw_all := lw_g (lw_at lw_m2 151 rfl) rfl
theorem q532 : (Jvm.Cond.methodLink "Nearplaces" (351 : Nat) ({ cls := "Nearplaces", name := "readFromBinary", desc := "(Ljava/lang/String;)D" } : Jvm.MethodName)) ∈ lw_all := lw_g (lw_at lw_m2 234 rfl) rfl
theorem q533 : (Jvm.Cond.static ({ cls := "Nearplaces", name := "readFromBinary", desc := "(Ljava/lang/String;)D" } : Jvm.MethodName)) ∈ lw_all := lw_g (lw_at lw_m2 235 rfl) rfl
theorem q534 : (Jvm.Cond.code ({ cls := "Nearplaces", name := "readFromBinary", desc := "(Ljava/lang/String;)D" } : Jvm.MethodName) prog_1_method_63_code (6 : Nat) (Option.some Jvm.ClassFile.FieldType.double)) ∈ lw_all := lw_g (lw_at lw_m2 236 rfl) rfl
theorem q535 : (Jvm.Cond.methodLink "Nearplaces" (308 : Nat) ({ cls := "Nearplaces", name := "hasMinus", desc := "(Ljava/lang/String;)Z" } : Jvm.MethodName)) ∈ lw_all := lw_g (lw_at lw_m2 237 rfl) rfl
theorem q536 : (Jvm.Cond.static ({ cls := "Nearplaces", name := "hasMinus", desc := "(Ljava/lang/String;)Z" } : Jvm.MethodName)) ∈ lw_all := lw_g (lw_at lw_m2 238 rfl) rfl
theorem q537 : (Jvm.Cond.code ({ cls := "Nearplaces", name := "hasMinus", desc := "(Ljava/lang/String;)Z" } : Jvm.MethodName) prog_1_method_62_code (1 : Nat) (Option.some Jvm.ClassFile.FieldType.boolean)) ∈ lw_all := lw_g (lw_at lw_m2 239 rfl) rfl
theorem q538 : (Jvm.Cond.methodLink "Nearplaces" (304 : Nat) ({ cls := "java/lang/String", name := "charAt", desc := "(I)C" } : Jvm.MethodName)) ∈ lw_all := lw_g (lw_at lw_m3 0 rfl) rfl
theorem q562 : (Jvm.Cond.methodLink "Nearplaces" (120 : Nat) ({ cls := "Nearplaces", name := "bit", desc := "(Z)I" } : Jvm.MethodName)) ∈ lw_all := lw_g (lw_at lw_m3 24 rfl) rfl
theorem q563 : (Jvm.Cond.static ({ cls := "Nearplaces", name := "bit", desc := "(Z)I" } : Jvm.MethodName)) ∈ lw_all := lw_g (lw_at lw_m3 25 rfl) rfl
theorem q564 : (Jvm.Cond.code ({ cls := "Nearplaces", name := "bit", desc := "(Z)I" } : Jvm.MethodName) prog_1_method_5_code (1 : Nat) (Option.some Jvm.ClassFile.FieldType.int)) ∈ lw_all := lw_g (lw_at lw_m3 26 rfl) rfl
theorem q565 : (Jvm.Cond.methodLink "Nearplaces" (312 : Nat) ({ cls := "java/lang/String", name := "indexOf", desc := "(I)I" } : Jvm.MethodName)) ∈ lw_all := lw_g (lw_at lw_m3 27 rfl) rfl
theorem q611 : (Jvm.Cond.methodLink "Nearplaces" (315 : Nat) ({ cls := "java/lang/Long", name := "parseLong", desc := "(Ljava/lang/CharSequence;III)J" } : Jvm.MethodName)) ∈ lw_all := lw_g (lw_at lw_m3 73 rfl) rfl
theorem q752 : (Jvm.Cond.selects "Nearplaces" ({ cls := "java/lang/Object", name := "toString", desc := "()Ljava/lang/String;" } : Jvm.MethodName) ({ cls := "java/lang/Object", name := "toString", desc := "()Ljava/lang/String;" } : Jvm.MethodName)) ∈ lw_all := lw_g (lw_at lw_m3 214 rfl) rfl
theorem q760 : (Jvm.Cond.selects "Nearplaces" ({ cls := "java/lang/Object", name := "getClass", desc := "()Ljava/lang/Class;" } : Jvm.MethodName) ({ cls := "java/lang/Object", name := "getClass", desc := "()Ljava/lang/Class;" } : Jvm.MethodName)) ∈ lw_all := lw_g (lw_at lw_m3 222 rfl) rfl
theorem q1429 : (Jvm.Cond.methodLink "Nearplaces" (319 : Nat) ({ cls := "java/lang/String", name := "length", desc := "()I" } : Jvm.MethodName)) ∈ lw_all := lw_g (lw_at lw_m6 171 rfl) rfl
theorem q1430 : (Jvm.Cond.methodLink "Nearplaces" (320 : Nat) ({ cls := "java/lang/Integer", name := "parseInt", desc := "(Ljava/lang/CharSequence;III)I" } : Jvm.MethodName)) ∈ lw_all := lw_g (lw_at lw_m6 172 rfl) rfl
theorem q1460 : (Jvm.Cond.methodLink "Nearplaces" (184 : Nat) ({ cls := "java/lang/Math", name := "scalb", desc := "(DI)D" } : Jvm.MethodName)) ∈ lw_all := lw_g (lw_at lw_m6 202 rfl) rfl
theorem q1476 : (Jvm.Cond.methodLink "Nearplaces" (207 : Nat) ({ cls := "Nearplaces", name := "signed", desc := "(DZ)D" } : Jvm.MethodName)) ∈ lw_all := lw_g (lw_at lw_m6 218 rfl) rfl
theorem q1477 : (Jvm.Cond.static ({ cls := "Nearplaces", name := "signed", desc := "(DZ)D" } : Jvm.MethodName)) ∈ lw_all := lw_g (lw_at lw_m6 219 rfl) rfl
theorem q1478 : (Jvm.Cond.code ({ cls := "Nearplaces", name := "signed", desc := "(DZ)D" } : Jvm.MethodName) prog_1_method_47_code (3 : Nat) (Option.some Jvm.ClassFile.FieldType.double)) ∈ lw_all := lw_g (lw_at lw_m6 220 rfl) rfl
theorem q1479 : (Jvm.Cond.methodLink "Nearplaces" (113 : Nat) ({ cls := "Nearplaces", name := "areSame", desc := "(DD)Z" } : Jvm.MethodName)) ∈ lw_all := lw_g (lw_at lw_m6 221 rfl) rfl
theorem q1480 : (Jvm.Cond.static ({ cls := "Nearplaces", name := "areSame", desc := "(DD)Z" } : Jvm.MethodName)) ∈ lw_all := lw_g (lw_at lw_m6 222 rfl) rfl
theorem q1481 : (Jvm.Cond.code ({ cls := "Nearplaces", name := "areSame", desc := "(DD)Z" } : Jvm.MethodName) prog_1_method_14_code (4 : Nat) (Option.some Jvm.ClassFile.FieldType.boolean)) ∈ lw_all := lw_g (lw_at lw_m6 223 rfl) rfl
theorem q1482 : (Jvm.Cond.methodLink "Nearplaces" (274 : Nat) ({ cls := "Nearplaces", name := "hasDecimal", desc := "(D)Z" } : Jvm.MethodName)) ∈ lw_all := lw_g (lw_at lw_m6 224 rfl) rfl
theorem q1483 : (Jvm.Cond.static ({ cls := "Nearplaces", name := "hasDecimal", desc := "(D)Z" } : Jvm.MethodName)) ∈ lw_all := lw_g (lw_at lw_m6 225 rfl) rfl
theorem q1484 : (Jvm.Cond.code ({ cls := "Nearplaces", name := "hasDecimal", desc := "(D)Z" } : Jvm.MethodName) prog_1_method_59_code (2 : Nat) (Option.some Jvm.ClassFile.FieldType.boolean)) ∈ lw_all := lw_g (lw_at lw_m6 226 rfl) rfl
theorem q1485 : (Jvm.Cond.methodLink "Nearplaces" (29 : Nat) ({ cls := "Nearplaces", name := "isIn", desc := "(III)Z" } : Jvm.MethodName)) ∈ lw_all := lw_g (lw_at lw_m6 227 rfl) rfl
theorem q1486 : (Jvm.Cond.static ({ cls := "Nearplaces", name := "isIn", desc := "(III)Z" } : Jvm.MethodName)) ∈ lw_all := lw_g (lw_at lw_m6 228 rfl) rfl
theorem q1487 : (Jvm.Cond.code ({ cls := "Nearplaces", name := "isIn", desc := "(III)Z" } : Jvm.MethodName) prog_1_method_2_code (3 : Nat) (Option.some Jvm.ClassFile.FieldType.boolean)) ∈ lw_all := lw_g (lw_at lw_m6 229 rfl) rfl
theorem q1488 : (Jvm.Cond.methodLink "Nearplaces" (355 : Nat) ({ cls := "Nearplaces", name := "decimalOf", desc := "(D)Ljava/lang/String;" } : Jvm.MethodName)) ∈ lw_all := lw_g (lw_at lw_m6 230 rfl) rfl
theorem q1489 : (Jvm.Cond.static ({ cls := "Nearplaces", name := "decimalOf", desc := "(D)Ljava/lang/String;" } : Jvm.MethodName)) ∈ lw_all := lw_g (lw_at lw_m6 231 rfl) rfl
theorem q1490 : (Jvm.Cond.code ({ cls := "Nearplaces", name := "decimalOf", desc := "(D)Ljava/lang/String;" } : Jvm.MethodName) prog_1_method_61_code (7 : Nat) (Option.some (Jvm.ClassFile.FieldType.object "java/lang/String"))) ∈ lw_all := lw_g (lw_at lw_m6 232 rfl) rfl
theorem q1491 : (Jvm.Cond.methodLink "Nearplaces" (99 : Nat) ({ cls := "java/math/BigInteger", name := "valueOf", desc := "(J)Ljava/math/BigInteger;" } : Jvm.MethodName)) ∈ lw_all := lw_g (lw_at lw_m6 233 rfl) rfl
theorem q1501 : (Jvm.Cond.methodLink "Nearplaces" (277 : Nat) ({ cls := "Nearplaces", name := "fives", desc := "(I)Ljava/math/BigInteger;" } : Jvm.MethodName)) ∈ lw_all := lw_g (lw_at lw_m7 3 rfl) rfl
theorem q1502 : (Jvm.Cond.static ({ cls := "Nearplaces", name := "fives", desc := "(I)Ljava/math/BigInteger;" } : Jvm.MethodName)) ∈ lw_all := lw_g (lw_at lw_m7 4 rfl) rfl
theorem q1503 : (Jvm.Cond.code ({ cls := "Nearplaces", name := "fives", desc := "(I)Ljava/math/BigInteger;" } : Jvm.MethodName) prog_1_method_60_code (1 : Nat) (Option.some (Jvm.ClassFile.FieldType.object "java/math/BigInteger"))) ∈ lw_all := lw_g (lw_at lw_m7 5 rfl) rfl
theorem q1504 : (Jvm.Cond.constantLong "Nearplaces" (268 : Nat) (5 : Int64)) ∈ lw_all := lw_g (lw_at lw_m7 6 rfl) rfl
theorem q1505 : (Jvm.Cond.methodLink "Nearplaces" (270 : Nat) ({ cls := "java/math/BigInteger", name := "pow", desc := "(I)Ljava/math/BigInteger;" } : Jvm.MethodName)) ∈ lw_all := lw_g (lw_at lw_m7 7 rfl) rfl
theorem q1526 : (Jvm.Cond.methodLink "Nearplaces" (280 : Nat) ({ cls := "java/math/BigInteger", name := "multiply", desc := "(Ljava/math/BigInteger;)Ljava/math/BigInteger;" } : Jvm.MethodName)) ∈ lw_all := lw_g (lw_at lw_m7 28 rfl) rfl
theorem q1527 : (Jvm.Cond.methodLink "Nearplaces" (283 : Nat) ({ cls := "java/math/BigInteger", name := "shiftLeft", desc := "(I)Ljava/math/BigInteger;" } : Jvm.MethodName)) ∈ lw_all := lw_g (lw_at lw_m7 29 rfl) rfl
theorem q1528 : (Jvm.Cond.methodLink "Nearplaces" (286 : Nat) ({ cls := "java/math/BigInteger", name := "toString", desc := "()Ljava/lang/String;" } : Jvm.MethodName)) ∈ lw_all := lw_g (lw_at lw_m7 30 rfl) rfl
theorem q1529 : (Jvm.Cond.methodLink "Nearplaces" (287 : Nat) ({ cls := "java/lang/StringBuilder", name := "length", desc := "()I" } : Jvm.MethodName)) ∈ lw_all := lw_g (lw_at lw_m7 31 rfl) rfl
theorem q1530 : (Jvm.Cond.stringRef "Nearplaces" (290 : Nat) "0") ∈ lw_tbl := lw_at lw_m7 32 rfl
theorem q1531 : (Jvm.Cond.methodLink "Nearplaces" (292 : Nat) ({ cls := "java/lang/String", name := "repeat", desc := "(I)Ljava/lang/String;" } : Jvm.MethodName)) ∈ lw_all := lw_g (lw_at lw_m7 33 rfl) rfl
theorem q1553 : (Jvm.Cond.methodLink "Nearplaces" (298 : Nat) ({ cls := "java/lang/StringBuilder", name := "insert", desc := "(ILjava/lang/String;)Ljava/lang/StringBuilder;" } : Jvm.MethodName)) ∈ lw_all := lw_g (lw_at lw_m7 55 rfl) rfl
theorem q1567 : (Jvm.Cond.stringRef "Nearplaces" (302 : Nat) ".") ∈ lw_tbl := lw_at lw_m7 69 rfl
theorem q1568 : (Jvm.Cond.methodLink "Nearplaces" (358 : Nat) ({ cls := "Nearplaces", name := "readFromDecimal", desc := "(Ljava/lang/String;)D" } : Jvm.MethodName)) ∈ lw_all := lw_g (lw_at lw_m7 70 rfl) rfl
theorem q1569 : (Jvm.Cond.static ({ cls := "Nearplaces", name := "readFromDecimal", desc := "(Ljava/lang/String;)D" } : Jvm.MethodName)) ∈ lw_all := lw_g (lw_at lw_m7 71 rfl) rfl
theorem q1570 : (Jvm.Cond.code ({ cls := "Nearplaces", name := "readFromDecimal", desc := "(Ljava/lang/String;)D" } : Jvm.MethodName) prog_1_method_64_code (8 : Nat) (Option.some Jvm.ClassFile.FieldType.double)) ∈ lw_all := lw_g (lw_at lw_m7 72 rfl) rfl
theorem q1571 : (Jvm.Cond.methodLink "Nearplaces" (324 : Nat) ({ cls := "java/lang/StringBuilder", name := "deleteCharAt", desc := "(I)Ljava/lang/StringBuilder;" } : Jvm.MethodName)) ∈ lw_all := lw_g (lw_at lw_m7 73 rfl) rfl
theorem q1578 : (Jvm.Cond.methodLink "Nearplaces" (327 : Nat) ({ cls := "java/lang/StringBuilder", name := "indexOf", desc := "(Ljava/lang/String;)I" } : Jvm.MethodName)) ∈ lw_all := lw_g (lw_at lw_m7 80 rfl) rfl
theorem q1626 : (Jvm.Cond.classLink "Nearplaces" (100 : Nat) "java/math/BigInteger") ∈ lw_all := lw_g (lw_at lw_m7 128 rfl) rfl
theorem q1627 : (Jvm.Cond.methodLink "Nearplaces" (330 : Nat) ({ cls := "java/math/BigInteger", name := "<init>", desc := "(Ljava/lang/String;)V" } : Jvm.MethodName)) ∈ lw_all := lw_g (lw_at lw_m7 129 rfl) rfl
theorem q1676 : (Jvm.Cond.methodLink "Nearplaces" (331 : Nat) ({ cls := "java/math/BigInteger", name := "divide", desc := "(Ljava/math/BigInteger;)Ljava/math/BigInteger;" } : Jvm.MethodName)) ∈ lw_all := lw_g (lw_at lw_m7 178 rfl) rfl
theorem q1697 : (Jvm.Cond.methodLink "Nearplaces" (334 : Nat) ({ cls := "java/math/BigInteger", name := "signum", desc := "()I" } : Jvm.MethodName)) ∈ lw_all := lw_g (lw_at lw_m7 199 rfl) rfl
theorem q1698 : (Jvm.Cond.methodLink "Nearplaces" (337 : Nat) ({ cls := "java/math/BigInteger", name := "getLowestSetBit", desc := "()I" } : Jvm.MethodName)) ∈ lw_all := lw_g (lw_at lw_m7 200 rfl) rfl
theorem q1699 : (Jvm.Cond.methodLink "Nearplaces" (340 : Nat) ({ cls := "java/math/BigInteger", name := "shiftRight", desc := "(I)Ljava/math/BigInteger;" } : Jvm.MethodName)) ∈ lw_all := lw_g (lw_at lw_m7 201 rfl) rfl
theorem q1700 : (Jvm.Cond.methodLink "Nearplaces" (343 : Nat) ({ cls := "java/math/BigInteger", name := "longValue", desc := "()J" } : Jvm.MethodName)) ∈ lw_all := lw_g (lw_at lw_m7 202 rfl) rfl
theorem q1701 : (Jvm.Cond.fieldLink "Nearplaces" (11 : Nat) "Nearplaces" "arguments" "[D") ∈ lw_all := lw_g (lw_at lw_m7 203 rfl) rfl
theorem q1702 : (Jvm.Cond.fieldLink "Nearplaces" (15 : Nat) "Nearplaces" "answers" "[D") ∈ lw_all := lw_g (lw_at lw_m7 204 rfl) rfl
theorem q1703 : (Jvm.Cond.fieldLink "Nearplaces" (117 : Nat) "Nearplaces" "argumentActs" "I") ∈ lw_all := lw_g (lw_at lw_m7 205 rfl) rfl
theorem q1704 : (Jvm.Cond.fieldLink "Nearplaces" (124 : Nat) "Nearplaces" "answerActs" "I") ∈ lw_all := lw_g (lw_at lw_m7 206 rfl) rfl
theorem q1705 : (Jvm.Cond.fieldLink "Nearplaces" (39 : Nat) "Nearplaces" "refused" "I") ∈ lw_all := lw_g (lw_at lw_m7 207 rfl) rfl
theorem q1706 : (Jvm.Cond.fieldLink "Nearplaces" (409 : Nat) "Nearplaces" "knocked" "I") ∈ lw_all := lw_g (lw_at lw_m7 208 rfl) rfl
theorem q1707 : (Jvm.Cond.fieldLink "Nearplaces" (18 : Nat) "Nearplaces" "areArgumentsRead" "[Z") ∈ lw_all := lw_g (lw_at lw_m7 209 rfl) rfl
theorem q1708 : (Jvm.Cond.fieldLink "Nearplaces" (22 : Nat) "Nearplaces" "areAnswersRead" "[Z") ∈ lw_all := lw_g (lw_at lw_m7 210 rfl) rfl
theorem q1709 : (Jvm.Cond.laysFinal "Nearplaces" "Nearplaces" "arguments" "[D") ∈ lw_all := lw_g (lw_at lw_m7 211 rfl) rfl
theorem q1710 : (Jvm.Cond.soleField "Nearplaces" "arguments") ∈ lw_all := lw_g (lw_at lw_m7 212 rfl) rfl
theorem q1711 : (Jvm.Cond.laysFinal "Nearplaces" "Nearplaces" "answers" "[D") ∈ lw_all := lw_g (lw_at lw_m7 213 rfl) rfl
theorem q1712 : (Jvm.Cond.soleField "Nearplaces" "answers") ∈ lw_all := lw_g (lw_at lw_m7 214 rfl) rfl
theorem q1713 : (Jvm.Cond.lays "Nearplaces" "Nearplaces" "argumentActs" "I") ∈ lw_all := lw_g (lw_at lw_m7 215 rfl) rfl
theorem q1714 : (Jvm.Cond.soleField "Nearplaces" "argumentActs") ∈ lw_all := lw_g (lw_at lw_m7 216 rfl) rfl
theorem q1715 : (Jvm.Cond.lays "Nearplaces" "Nearplaces" "answerActs" "I") ∈ lw_all := lw_g (lw_at lw_m7 217 rfl) rfl
theorem q1716 : (Jvm.Cond.soleField "Nearplaces" "answerActs") ∈ lw_all := lw_g (lw_at lw_m7 218 rfl) rfl
theorem q1717 : (Jvm.Cond.lays "Nearplaces" "Nearplaces" "refused" "I") ∈ lw_all := lw_g (lw_at lw_m7 219 rfl) rfl
theorem q1718 : (Jvm.Cond.soleField "Nearplaces" "refused") ∈ lw_all := lw_g (lw_at lw_m7 220 rfl) rfl
theorem q1719 : (Jvm.Cond.lays "Nearplaces" "Nearplaces" "knocked" "I") ∈ lw_all := lw_g (lw_at lw_m7 221 rfl) rfl
theorem q1720 : (Jvm.Cond.soleField "Nearplaces" "knocked") ∈ lw_all := lw_g (lw_at lw_m7 222 rfl) rfl
theorem q1721 : (Jvm.Cond.laysFinal "Nearplaces" "Nearplaces" "areArgumentsRead" "[Z") ∈ lw_all := lw_g (lw_at lw_m7 223 rfl) rfl
theorem q1722 : (Jvm.Cond.soleField "Nearplaces" "areArgumentsRead") ∈ lw_all := lw_g (lw_at lw_m7 224 rfl) rfl
theorem q1723 : (Jvm.Cond.laysFinal "Nearplaces" "Nearplaces" "areAnswersRead" "[Z") ∈ lw_all := lw_g (lw_at lw_m7 225 rfl) rfl
theorem q1724 : (Jvm.Cond.soleField "Nearplaces" "areAnswersRead") ∈ lw_all := lw_g (lw_at lw_m7 226 rfl) rfl
theorem q1725 : (Jvm.Cond.superclass "Nearplaces" "java/lang/Object") ∈ lw_all := lw_g (lw_at lw_m7 227 rfl) rfl
theorem q1746 : (Jvm.Cond.instanceMethod ({ cls := "Nearplaces", name := "house", desc := "(I)I" } : Jvm.MethodName)) ∈ lw_all := lw_g (lw_at lw_m8 8 rfl) rfl
theorem q1747 : (Jvm.Cond.selects "Nearplaces" ({ cls := "Nearplaces", name := "house", desc := "(I)I" } : Jvm.MethodName) ({ cls := "Nearplaces", name := "house", desc := "(I)I" } : Jvm.MethodName)) ∈ lw_all := lw_g (lw_at lw_m8 9 rfl) rfl
theorem q1748 : (Jvm.Cond.code ({ cls := "Nearplaces", name := "house", desc := "(I)I" } : Jvm.MethodName) prog_1_method_95_code (2 : Nat) (Option.some Jvm.ClassFile.FieldType.int)) ∈ lw_all := lw_g (lw_at lw_m8 10 rfl) rfl
theorem q1749 : (Jvm.Cond.methodLink "Nearplaces" (140 : Nat) ({ cls := "Nearplaces", name := "mustFit", desc := "(Z)V" } : Jvm.MethodName)) ∈ lw_all := lw_g (lw_at lw_m8 11 rfl) rfl
theorem q1750 : (Jvm.Cond.static ({ cls := "Nearplaces", name := "mustFit", desc := "(Z)V" } : Jvm.MethodName)) ∈ lw_all := lw_g (lw_at lw_m8 12 rfl) rfl
theorem q1751 : (Jvm.Cond.code ({ cls := "Nearplaces", name := "mustFit", desc := "(Z)V" } : Jvm.MethodName) prog_1_method_4_code (1 : Nat) (Option.none : Option Jvm.ClassFile.FieldType)) ∈ lw_all := lw_g (lw_at lw_m8 13 rfl) rfl
theorem q1752 : (Jvm.Cond.classLink "Nearplaces" (36 : Nat) "java/lang/IllegalArgumentException") ∈ lw_all := lw_g (lw_at lw_m8 14 rfl) rfl
theorem q1753 : (Jvm.Cond.methodLink "Nearplaces" (38 : Nat) ({ cls := "java/lang/IllegalArgumentException", name := "<init>", desc := "()V" } : Jvm.MethodName)) ∈ lw_all := lw_g (lw_at lw_m8 15 rfl) rfl
theorem q1763 : (Jvm.Cond.methodLink "Nearplaces" (412 : Nat) ({ cls := "Nearplaces", name := "houseNow", desc := "(I)I" } : Jvm.MethodName)) ∈ lw_all := lw_g (lw_at lw_m8 25 rfl) rfl
theorem q1764 : (Jvm.Cond.privateMethod ({ cls := "Nearplaces", name := "houseNow", desc := "(I)I" } : Jvm.MethodName)) ∈ lw_tbl := lw_at lw_m8 26 rfl
theorem q1765 : (Jvm.Cond.instanceMethod ({ cls := "Nearplaces", name := "houseNow", desc := "(I)I" } : Jvm.MethodName)) ∈ lw_all := lw_g (lw_at lw_m8 27 rfl) rfl
theorem q1766 : (Jvm.Cond.code ({ cls := "Nearplaces", name := "houseNow", desc := "(I)I" } : Jvm.MethodName) prog_1_method_94_code (2 : Nat) (Option.some Jvm.ClassFile.FieldType.int)) ∈ lw_all := lw_g (lw_at lw_m8 28 rfl) rfl
theorem q1768 : (Jvm.Cond.instanceMethod ({ cls := "Nearplaces", name := "put", desc := "(IZII)I" } : Jvm.MethodName)) ∈ lw_all := lw_g (lw_at lw_m8 30 rfl) rfl
theorem q1769 : (Jvm.Cond.selects "Nearplaces" ({ cls := "Nearplaces", name := "put", desc := "(IZII)I" } : Jvm.MethodName) ({ cls := "Nearplaces", name := "put", desc := "(IZII)I" } : Jvm.MethodName)) ∈ lw_all := lw_g (lw_at lw_m8 31 rfl) rfl
theorem q1770 : (Jvm.Cond.code ({ cls := "Nearplaces", name := "put", desc := "(IZII)I" } : Jvm.MethodName) prog_1_method_28_code (5 : Nat) (Option.some Jvm.ClassFile.FieldType.int)) ∈ lw_all := lw_g (lw_at lw_m8 32 rfl) rfl
theorem q1771 : (Jvm.Cond.methodLink "Nearplaces" (109 : Nat) ({ cls := "Nearplaces", name := "mustBeCell", desc := "(I)V" } : Jvm.MethodName)) ∈ lw_all := lw_g (lw_at lw_m8 33 rfl) rfl
theorem q1772 : (Jvm.Cond.static ({ cls := "Nearplaces", name := "mustBeCell", desc := "(I)V" } : Jvm.MethodName)) ∈ lw_all := lw_g (lw_at lw_m8 34 rfl) rfl
theorem q1773 : (Jvm.Cond.code ({ cls := "Nearplaces", name := "mustBeCell", desc := "(I)V" } : Jvm.MethodName) prog_1_method_3_code (1 : Nat) (Option.none : Option Jvm.ClassFile.FieldType)) ∈ lw_all := lw_g (lw_at lw_m8 35 rfl) rfl
theorem q1774 : (Jvm.Cond.classLink "Nearplaces" (33 : Nat) "java/lang/IndexOutOfBoundsException") ∈ lw_all := lw_g (lw_at lw_m8 36 rfl) rfl
theorem q1783 : (Jvm.Cond.methodLink "Nearplaces" (35 : Nat) ({ cls := "java/lang/IndexOutOfBoundsException", name := "<init>", desc := "()V" } : Jvm.MethodName)) ∈ lw_all := lw_g (lw_at lw_m8 45 rfl) rfl
theorem q1789 : (Jvm.Cond.methodLink "Nearplaces" (74 : Nat) ({ cls := "Nearplaces", name := "knotPoint", desc := "(I)J" } : Jvm.MethodName)) ∈ lw_all := lw_g (lw_at lw_m8 51 rfl) rfl
theorem q1790 : (Jvm.Cond.static ({ cls := "Nearplaces", name := "knotPoint", desc := "(I)J" } : Jvm.MethodName)) ∈ lw_all := lw_g (lw_at lw_m8 52 rfl) rfl
theorem q1791 : (Jvm.Cond.code ({ cls := "Nearplaces", name := "knotPoint", desc := "(I)J" } : Jvm.MethodName) prog_1_method_15_code (1 : Nat) (Option.some Jvm.ClassFile.FieldType.long)) ∈ lw_all := lw_g (lw_at lw_m8 53 rfl) rfl
theorem q1792 : (Jvm.Cond.fieldLink "Nearplaces" (64 : Nat) "Nearplaces" "EXPONENTS" "[I") ∈ lw_all := lw_g (lw_at lw_m8 54 rfl) rfl
theorem q1793 : (Jvm.Cond.laysStatic "Nearplaces" "EXPONENTS" "[I") ∈ lw_tbl := lw_at lw_m8 55 rfl
theorem q1794 : (Jvm.Cond.fieldLink "Nearplaces" (68 : Nat) "Nearplaces" "FRACTIONS" "[J") ∈ lw_all := lw_g (lw_at lw_m8 56 rfl) rfl
theorem q1795 : (Jvm.Cond.laysStatic "Nearplaces" "FRACTIONS" "[J") ∈ lw_tbl := lw_at lw_m8 57 rfl
theorem q1796 : (Jvm.Cond.methodLink "Nearplaces" (144 : Nat) ({ cls := "Nearplaces", name := "putPoint", desc := "(IZJ)I" } : Jvm.MethodName)) ∈ lw_all := lw_g (lw_at lw_m8 58 rfl) rfl
theorem q1797 : (Jvm.Cond.privateMethod ({ cls := "Nearplaces", name := "putPoint", desc := "(IZJ)I" } : Jvm.MethodName)) ∈ lw_tbl := lw_at lw_m8 59 rfl
theorem q1798 : (Jvm.Cond.instanceMethod ({ cls := "Nearplaces", name := "putPoint", desc := "(IZJ)I" } : Jvm.MethodName)) ∈ lw_all := lw_g (lw_at lw_m8 60 rfl) rfl
theorem q1799 : (Jvm.Cond.code ({ cls := "Nearplaces", name := "putPoint", desc := "(IZJ)I" } : Jvm.MethodName) prog_1_method_27_code (7 : Nat) (Option.some Jvm.ClassFile.FieldType.int)) ∈ lw_all := lw_g (lw_at lw_m8 61 rfl) rfl
theorem q1800 : (Jvm.Cond.methodLink "Nearplaces" (82 : Nat) ({ cls := "Nearplaces", name := "windowOf", desc := "(J)I" } : Jvm.MethodName)) ∈ lw_all := lw_g (lw_at lw_m8 62 rfl) rfl
theorem q1801 : (Jvm.Cond.static ({ cls := "Nearplaces", name := "windowOf", desc := "(J)I" } : Jvm.MethodName)) ∈ lw_all := lw_g (lw_at lw_m8 63 rfl) rfl
theorem q1802 : (Jvm.Cond.code ({ cls := "Nearplaces", name := "windowOf", desc := "(J)I" } : Jvm.MethodName) prog_1_method_16_code (5 : Nat) (Option.some Jvm.ClassFile.FieldType.int)) ∈ lw_all := lw_g (lw_at lw_m8 64 rfl) rfl
theorem q1803 : (Jvm.Cond.constantLong "Nearplaces" (72 : Nat) (9218868437227405311 : Int64)) ∈ lw_all := lw_g (lw_at lw_m8 65 rfl) rfl
theorem q1804 : (Jvm.Cond.constantLong "Nearplaces" (78 : Nat) (-512 : Int64)) ∈ lw_all := lw_g (lw_at lw_m8 66 rfl) rfl
theorem q1805 : (Jvm.Cond.constantLong "Nearplaces" (80 : Nat) (511 : Int64)) ∈ lw_all := lw_g (lw_at lw_m8 67 rfl) rfl
theorem q1806 : (Jvm.Cond.methodLink "Nearplaces" (130 : Nat) ({ cls := "Nearplaces", name := "refused", desc := "()I" } : Jvm.MethodName)) ∈ lw_all := lw_g (lw_at lw_m8 68 rfl) rfl
theorem q1807 : (Jvm.Cond.privateMethod ({ cls := "Nearplaces", name := "refused", desc := "()I" } : Jvm.MethodName)) ∈ lw_tbl := lw_at lw_m8 69 rfl
theorem q1808 : (Jvm.Cond.instanceMethod ({ cls := "Nearplaces", name := "refused", desc := "()I" } : Jvm.MethodName)) ∈ lw_all := lw_g (lw_at lw_m8 70 rfl) rfl
theorem q1809 : (Jvm.Cond.code ({ cls := "Nearplaces", name := "refused", desc := "()I" } : Jvm.MethodName) prog_1_method_6_code (1 : Nat) (Option.some Jvm.ClassFile.FieldType.int)) ∈ lw_all := lw_g (lw_at lw_m8 71 rfl) rfl
theorem q1810 : (Jvm.Cond.methodLink "Nearplaces" (57 : Nat) ({ cls := "java/lang/Double", name := "longBitsToDouble", desc := "(J)D" } : Jvm.MethodName)) ∈ lw_all := lw_g (lw_at lw_m8 72 rfl) rfl
theorem q1811 : (Jvm.Cond.methodLink "Nearplaces" (137 : Nat) ({ cls := "Nearplaces", name := "setArgument", desc := "(ID)I" } : Jvm.MethodName)) ∈ lw_all := lw_g (lw_at lw_m8 73 rfl) rfl
theorem q1812 : (Jvm.Cond.privateMethod ({ cls := "Nearplaces", name := "setArgument", desc := "(ID)I" } : Jvm.MethodName)) ∈ lw_tbl := lw_at lw_m8 74 rfl
theorem q1813 : (Jvm.Cond.instanceMethod ({ cls := "Nearplaces", name := "setArgument", desc := "(ID)I" } : Jvm.MethodName)) ∈ lw_all := lw_g (lw_at lw_m8 75 rfl) rfl
theorem q1814 : (Jvm.Cond.code ({ cls := "Nearplaces", name := "setArgument", desc := "(ID)I" } : Jvm.MethodName) prog_1_method_24_code (5 : Nat) (Option.some Jvm.ClassFile.FieldType.int)) ∈ lw_all := lw_g (lw_at lw_m8 76 rfl) rfl
theorem q1826 : (Jvm.Cond.instanceMethod ({ cls := "Nearplaces", name := "parts", desc := "(ZI)Ljava/lang/String;" } : Jvm.MethodName)) ∈ lw_all := lw_g (lw_at lw_m8 88 rfl) rfl
theorem q1827 : (Jvm.Cond.selects "Nearplaces" ({ cls := "Nearplaces", name := "parts", desc := "(ZI)Ljava/lang/String;" } : Jvm.MethodName) ({ cls := "Nearplaces", name := "parts", desc := "(ZI)Ljava/lang/String;" } : Jvm.MethodName)) ∈ lw_all := lw_g (lw_at lw_m8 89 rfl) rfl
theorem q1828 : (Jvm.Cond.code ({ cls := "Nearplaces", name := "parts", desc := "(ZI)Ljava/lang/String;" } : Jvm.MethodName) prog_1_method_85_code (6 : Nat) (Option.some (Jvm.ClassFile.FieldType.object "java/lang/String"))) ∈ lw_all := lw_g (lw_at lw_m8 90 rfl) rfl
theorem q1829 : (Jvm.Cond.methodLink "Nearplaces" (157 : Nat) ({ cls := "Nearplaces", name := "at", desc := "(ZI)D" } : Jvm.MethodName)) ∈ lw_all := lw_g (lw_at lw_m8 91 rfl) rfl
theorem q1830 : (Jvm.Cond.privateMethod ({ cls := "Nearplaces", name := "at", desc := "(ZI)D" } : Jvm.MethodName)) ∈ lw_tbl := lw_at lw_m8 92 rfl
theorem q1831 : (Jvm.Cond.instanceMethod ({ cls := "Nearplaces", name := "at", desc := "(ZI)D" } : Jvm.MethodName)) ∈ lw_all := lw_g (lw_at lw_m8 93 rfl) rfl
theorem q1832 : (Jvm.Cond.code ({ cls := "Nearplaces", name := "at", desc := "(ZI)D" } : Jvm.MethodName) prog_1_method_23_code (3 : Nat) (Option.some Jvm.ClassFile.FieldType.double)) ∈ lw_all := lw_g (lw_at lw_m8 94 rfl) rfl
theorem q1833 : (Jvm.Cond.methodLink "Nearplaces" (389 : Nat) ({ cls := "java/lang/StringBuilder", name := "<init>", desc := "()V" } : Jvm.MethodName)) ∈ lw_all := lw_g (lw_at lw_m8 95 rfl) rfl
theorem q1834 : (Jvm.Cond.methodLink "Nearplaces" (390 : Nat) ({ cls := "java/lang/StringBuilder", name := "append", desc := "(C)Ljava/lang/StringBuilder;" } : Jvm.MethodName)) ∈ lw_all := lw_g (lw_at lw_m8 96 rfl) rfl
theorem q1864 : (Jvm.Cond.instanceMethod ({ cls := "Nearplaces", name := "place", desc := "(ZI)Ljava/lang/String;" } : Jvm.MethodName)) ∈ lw_all := lw_g (lw_at lw_m8 126 rfl) rfl
theorem q1865 : (Jvm.Cond.selects "Nearplaces" ({ cls := "Nearplaces", name := "place", desc := "(ZI)Ljava/lang/String;" } : Jvm.MethodName) ({ cls := "Nearplaces", name := "place", desc := "(ZI)Ljava/lang/String;" } : Jvm.MethodName)) ∈ lw_all := lw_g (lw_at lw_m8 127 rfl) rfl
theorem q1866 : (Jvm.Cond.code ({ cls := "Nearplaces", name := "place", desc := "(ZI)Ljava/lang/String;" } : Jvm.MethodName) prog_1_method_86_code (3 : Nat) (Option.some (Jvm.ClassFile.FieldType.object "java/lang/String"))) ∈ lw_all := lw_g (lw_at lw_m8 128 rfl) rfl
theorem q1867 : (Jvm.Cond.methodLink "Nearplaces" (96 : Nat) ({ cls := "Nearplaces", name := "placeOf", desc := "(D)J" } : Jvm.MethodName)) ∈ lw_all := lw_g (lw_at lw_m8 129 rfl) rfl
theorem q1868 : (Jvm.Cond.static ({ cls := "Nearplaces", name := "placeOf", desc := "(D)J" } : Jvm.MethodName)) ∈ lw_all := lw_g (lw_at lw_m8 130 rfl) rfl
theorem q1869 : (Jvm.Cond.code ({ cls := "Nearplaces", name := "placeOf", desc := "(D)J" } : Jvm.MethodName) prog_1_method_12_code (2 : Nat) (Option.some Jvm.ClassFile.FieldType.long)) ∈ lw_all := lw_g (lw_at lw_m8 131 rfl) rfl
theorem q1870 : (Jvm.Cond.methodLink "Nearplaces" (393 : Nat) ({ cls := "java/lang/Long", name := "toString", desc := "(J)Ljava/lang/String;" } : Jvm.MethodName)) ∈ lw_all := lw_g (lw_at lw_m8 132 rfl) rfl
theorem q1872 : (Jvm.Cond.instanceMethod ({ cls := "Nearplaces", name := "window", desc := "(ZI)I" } : Jvm.MethodName)) ∈ lw_all := lw_g (lw_at lw_m8 134 rfl) rfl
theorem q1873 : (Jvm.Cond.selects "Nearplaces" ({ cls := "Nearplaces", name := "window", desc := "(ZI)I" } : Jvm.MethodName) ({ cls := "Nearplaces", name := "window", desc := "(ZI)I" } : Jvm.MethodName)) ∈ lw_all := lw_g (lw_at lw_m8 135 rfl) rfl
theorem q1874 : (Jvm.Cond.code ({ cls := "Nearplaces", name := "window", desc := "(ZI)I" } : Jvm.MethodName) prog_1_method_81_code (3 : Nat) (Option.some Jvm.ClassFile.FieldType.int)) ∈ lw_all := lw_g (lw_at lw_m8 136 rfl) rfl
theorem q1876 : (Jvm.Cond.instanceMethod ({ cls := "Nearplaces", name := "offset", desc := "(ZI)I" } : Jvm.MethodName)) ∈ lw_all := lw_g (lw_at lw_m8 138 rfl) rfl
theorem q1877 : (Jvm.Cond.selects "Nearplaces" ({ cls := "Nearplaces", name := "offset", desc := "(ZI)I" } : Jvm.MethodName) ({ cls := "Nearplaces", name := "offset", desc := "(ZI)I" } : Jvm.MethodName)) ∈ lw_all := lw_g (lw_at lw_m8 139 rfl) rfl
theorem q1878 : (Jvm.Cond.code ({ cls := "Nearplaces", name := "offset", desc := "(ZI)I" } : Jvm.MethodName) prog_1_method_82_code (3 : Nat) (Option.some Jvm.ClassFile.FieldType.int)) ∈ lw_all := lw_g (lw_at lw_m8 140 rfl) rfl
theorem q1879 : (Jvm.Cond.methodLink "Nearplaces" (86 : Nat) ({ cls := "Nearplaces", name := "offsetOf", desc := "(D)I" } : Jvm.MethodName)) ∈ lw_all := lw_g (lw_at lw_m8 141 rfl) rfl
theorem q1880 : (Jvm.Cond.static ({ cls := "Nearplaces", name := "offsetOf", desc := "(D)I" } : Jvm.MethodName)) ∈ lw_all := lw_g (lw_at lw_m8 142 rfl) rfl
theorem q1881 : (Jvm.Cond.code ({ cls := "Nearplaces", name := "offsetOf", desc := "(D)I" } : Jvm.MethodName) prog_1_method_17_code (3 : Nat) (Option.some Jvm.ClassFile.FieldType.int)) ∈ lw_all := lw_g (lw_at lw_m8 143 rfl) rfl
theorem q1887 : (Jvm.Cond.instanceMethod ({ cls := "Nearplaces", name := "isNear", desc := "(I)Z" } : Jvm.MethodName)) ∈ lw_all := lw_g (lw_at lw_m8 149 rfl) rfl
theorem q1888 : (Jvm.Cond.selects "Nearplaces" ({ cls := "Nearplaces", name := "isNear", desc := "(I)Z" } : Jvm.MethodName) ({ cls := "Nearplaces", name := "isNear", desc := "(I)Z" } : Jvm.MethodName)) ∈ lw_all := lw_g (lw_at lw_m8 150 rfl) rfl
theorem q1889 : (Jvm.Cond.code ({ cls := "Nearplaces", name := "isNear", desc := "(I)Z" } : Jvm.MethodName) prog_1_method_72_code (2 : Nat) (Option.some Jvm.ClassFile.FieldType.boolean)) ∈ lw_all := lw_g (lw_at lw_m8 151 rfl) rfl
theorem q1890 : (Jvm.Cond.methodLink "Nearplaces" (153 : Nat) ({ cls := "Nearplaces", name := "argument", desc := "(I)D" } : Jvm.MethodName)) ∈ lw_all := lw_g (lw_at lw_m8 152 rfl) rfl
theorem q1891 : (Jvm.Cond.privateMethod ({ cls := "Nearplaces", name := "argument", desc := "(I)D" } : Jvm.MethodName)) ∈ lw_tbl := lw_at lw_m8 153 rfl
theorem q1892 : (Jvm.Cond.instanceMethod ({ cls := "Nearplaces", name := "argument", desc := "(I)D" } : Jvm.MethodName)) ∈ lw_all := lw_g (lw_at lw_m8 154 rfl) rfl
theorem q1893 : (Jvm.Cond.code ({ cls := "Nearplaces", name := "argument", desc := "(I)D" } : Jvm.MethodName) prog_1_method_22_code (2 : Nat) (Option.some Jvm.ClassFile.FieldType.double)) ∈ lw_all := lw_g (lw_at lw_m8 155 rfl) rfl
theorem q1894 : (Jvm.Cond.methodLink "Nearplaces" (90 : Nat) ({ cls := "Nearplaces", name := "isCloseBy", desc := "(D)Z" } : Jvm.MethodName)) ∈ lw_all := lw_g (lw_at lw_m8 156 rfl) rfl
theorem q1895 : (Jvm.Cond.static ({ cls := "Nearplaces", name := "isCloseBy", desc := "(D)Z" } : Jvm.MethodName)) ∈ lw_all := lw_g (lw_at lw_m8 157 rfl) rfl
theorem q1896 : (Jvm.Cond.code ({ cls := "Nearplaces", name := "isCloseBy", desc := "(D)Z" } : Jvm.MethodName) prog_1_method_19_code (2 : Nat) (Option.some Jvm.ClassFile.FieldType.boolean)) ∈ lw_all := lw_g (lw_at lw_m8 158 rfl) rfl
theorem q1898 : (Jvm.Cond.instanceMethod ({ cls := "Nearplaces", name := "upper", desc := "(ZI)I" } : Jvm.MethodName)) ∈ lw_all := lw_g (lw_at lw_m8 160 rfl) rfl
theorem q1899 : (Jvm.Cond.selects "Nearplaces" ({ cls := "Nearplaces", name := "upper", desc := "(ZI)I" } : Jvm.MethodName) ({ cls := "Nearplaces", name := "upper", desc := "(ZI)I" } : Jvm.MethodName)) ∈ lw_all := lw_g (lw_at lw_m8 161 rfl) rfl
theorem q1900 : (Jvm.Cond.code ({ cls := "Nearplaces", name := "upper", desc := "(ZI)I" } : Jvm.MethodName) prog_1_method_83_code (3 : Nat) (Option.some Jvm.ClassFile.FieldType.int)) ∈ lw_all := lw_g (lw_at lw_m8 162 rfl) rfl
theorem q1902 : (Jvm.Cond.instanceMethod ({ cls := "Nearplaces", name := "lower", desc := "(ZI)I" } : Jvm.MethodName)) ∈ lw_all := lw_g (lw_at lw_m8 164 rfl) rfl
theorem q1903 : (Jvm.Cond.selects "Nearplaces" ({ cls := "Nearplaces", name := "lower", desc := "(ZI)I" } : Jvm.MethodName) ({ cls := "Nearplaces", name := "lower", desc := "(ZI)I" } : Jvm.MethodName)) ∈ lw_all := lw_g (lw_at lw_m8 165 rfl) rfl
theorem q1904 : (Jvm.Cond.code ({ cls := "Nearplaces", name := "lower", desc := "(ZI)I" } : Jvm.MethodName) prog_1_method_84_code (3 : Nat) (Option.some Jvm.ClassFile.FieldType.int)) ∈ lw_all := lw_g (lw_at lw_m8 166 rfl) rfl
theorem q1906 : (Jvm.Cond.instanceMethod ({ cls := "Nearplaces", name := "putDigits", desc := "(III)I" } : Jvm.MethodName)) ∈ lw_all := lw_g (lw_at lw_m8 168 rfl) rfl
theorem q1907 : (Jvm.Cond.selects "Nearplaces" ({ cls := "Nearplaces", name := "putDigits", desc := "(III)I" } : Jvm.MethodName) ({ cls := "Nearplaces", name := "putDigits", desc := "(III)I" } : Jvm.MethodName)) ∈ lw_all := lw_g (lw_at lw_m8 169 rfl) rfl
theorem q1908 : (Jvm.Cond.code ({ cls := "Nearplaces", name := "putDigits", desc := "(III)I" } : Jvm.MethodName) prog_1_method_29_code (6 : Nat) (Option.some Jvm.ClassFile.FieldType.int)) ∈ lw_all := lw_g (lw_at lw_m8 170 rfl) rfl
theorem q1909 : (Jvm.Cond.constantLong "Nearplaces" (150 : Nat) (4294967295 : Int64)) ∈ lw_all := lw_g (lw_at lw_m8 171 rfl) rfl
theorem q1915 : (Jvm.Cond.instanceMethod ({ cls := "Nearplaces", name := "putParts", desc := "(IZIII)I" } : Jvm.MethodName)) ∈ lw_all := lw_g (lw_at lw_m8 177 rfl) rfl
theorem q1916 : (Jvm.Cond.selects "Nearplaces" ({ cls := "Nearplaces", name := "putParts", desc := "(IZIII)I" } : Jvm.MethodName) ({ cls := "Nearplaces", name := "putParts", desc := "(IZIII)I" } : Jvm.MethodName)) ∈ lw_all := lw_g (lw_at lw_m8 178 rfl) rfl
theorem q1917 : (Jvm.Cond.code ({ cls := "Nearplaces", name := "putParts", desc := "(IZIII)I" } : Jvm.MethodName) prog_1_method_30_code (8 : Nat) (Option.some Jvm.ClassFile.FieldType.int)) ∈ lw_all := lw_g (lw_at lw_m8 179 rfl) rfl
theorem q1918 : (Jvm.Cond.constant "Nearplaces" (152 : Nat) (1048575 : Int32)) ∈ lw_all := lw_g (lw_at lw_m8 180 rfl) rfl
theorem q1924 : (Jvm.Cond.instanceMethod ({ cls := "Nearplaces", name := "decimals", desc := "(ZI)I" } : Jvm.MethodName)) ∈ lw_all := lw_g (lw_at lw_m8 186 rfl) rfl
theorem q1925 : (Jvm.Cond.selects "Nearplaces" ({ cls := "Nearplaces", name := "decimals", desc := "(ZI)I" } : Jvm.MethodName) ({ cls := "Nearplaces", name := "decimals", desc := "(ZI)I" } : Jvm.MethodName)) ∈ lw_all := lw_g (lw_at lw_m8 187 rfl) rfl
theorem q1926 : (Jvm.Cond.code ({ cls := "Nearplaces", name := "decimals", desc := "(ZI)I" } : Jvm.MethodName) prog_1_method_91_code (3 : Nat) (Option.some Jvm.ClassFile.FieldType.int)) ∈ lw_all := lw_g (lw_at lw_m8 188 rfl) rfl
theorem q1927 : (Jvm.Cond.methodLink "Nearplaces" (400 : Nat) ({ cls := "Nearplaces", name := "decimalsOf", desc := "(D)I" } : Jvm.MethodName)) ∈ lw_all := lw_g (lw_at lw_m8 189 rfl) rfl
theorem q1928 : (Jvm.Cond.static ({ cls := "Nearplaces", name := "decimalsOf", desc := "(D)I" } : Jvm.MethodName)) ∈ lw_all := lw_g (lw_at lw_m8 190 rfl) rfl
theorem q1929 : (Jvm.Cond.code ({ cls := "Nearplaces", name := "decimalsOf", desc := "(D)I" } : Jvm.MethodName) prog_1_method_90_code (2 : Nat) (Option.some Jvm.ClassFile.FieldType.int)) ∈ lw_all := lw_g (lw_at lw_m8 191 rfl) rfl
theorem q1932 : (Jvm.Cond.instanceMethod ({ cls := "Nearplaces", name := "binary", desc := "(ZI)Ljava/lang/String;" } : Jvm.MethodName)) ∈ lw_all := lw_g (lw_at lw_m8 194 rfl) rfl
theorem q1933 : (Jvm.Cond.selects "Nearplaces" ({ cls := "Nearplaces", name := "binary", desc := "(ZI)Ljava/lang/String;" } : Jvm.MethodName) ({ cls := "Nearplaces", name := "binary", desc := "(ZI)Ljava/lang/String;" } : Jvm.MethodName)) ∈ lw_all := lw_g (lw_at lw_m8 195 rfl) rfl
theorem q1934 : (Jvm.Cond.code ({ cls := "Nearplaces", name := "binary", desc := "(ZI)Ljava/lang/String;" } : Jvm.MethodName) prog_1_method_88_code (3 : Nat) (Option.some (Jvm.ClassFile.FieldType.object "java/lang/String"))) ∈ lw_all := lw_g (lw_at lw_m8 196 rfl) rfl
theorem q1952 : (Jvm.Cond.instanceMethod ({ cls := "Nearplaces", name := "decimal", desc := "(ZI)Ljava/lang/String;" } : Jvm.MethodName)) ∈ lw_all := lw_g (lw_at lw_m8 214 rfl) rfl
theorem q1953 : (Jvm.Cond.selects "Nearplaces" ({ cls := "Nearplaces", name := "decimal", desc := "(ZI)Ljava/lang/String;" } : Jvm.MethodName) ({ cls := "Nearplaces", name := "decimal", desc := "(ZI)Ljava/lang/String;" } : Jvm.MethodName)) ∈ lw_all := lw_g (lw_at lw_m8 215 rfl) rfl
theorem q1954 : (Jvm.Cond.code ({ cls := "Nearplaces", name := "decimal", desc := "(ZI)Ljava/lang/String;" } : Jvm.MethodName) prog_1_method_89_code (3 : Nat) (Option.some (Jvm.ClassFile.FieldType.object "java/lang/String"))) ∈ lw_all := lw_g (lw_at lw_m8 216 rfl) rfl
theorem q1996 : (Jvm.Cond.instanceMethod ({ cls := "Nearplaces", name := "up", desc := "(II)I" } : Jvm.MethodName)) ∈ lw_all := lw_g (lw_at lw_m9 18 rfl) rfl
theorem q1997 : (Jvm.Cond.selects "Nearplaces" ({ cls := "Nearplaces", name := "up", desc := "(II)I" } : Jvm.MethodName) ({ cls := "Nearplaces", name := "up", desc := "(II)I" } : Jvm.MethodName)) ∈ lw_all := lw_g (lw_at lw_m9 19 rfl) rfl
theorem q1998 : (Jvm.Cond.code ({ cls := "Nearplaces", name := "up", desc := "(II)I" } : Jvm.MethodName) prog_1_method_36_code (5 : Nat) (Option.some Jvm.ClassFile.FieldType.int)) ∈ lw_all := lw_g (lw_at lw_m9 20 rfl) rfl
theorem q1999 : (Jvm.Cond.methodLink "Nearplaces" (164 : Nat) ({ cls := "java/lang/Math", name := "nextUp", desc := "(D)D" } : Jvm.MethodName)) ∈ lw_all := lw_g (lw_at lw_m9 21 rfl) rfl
theorem q2004 : (Jvm.Cond.methodLink "Nearplaces" (170 : Nat) ({ cls := "Nearplaces", name := "setFinite", desc := "(ID)I" } : Jvm.MethodName)) ∈ lw_all := lw_g (lw_at lw_m9 26 rfl) rfl
theorem q2005 : (Jvm.Cond.privateMethod ({ cls := "Nearplaces", name := "setFinite", desc := "(ID)I" } : Jvm.MethodName)) ∈ lw_tbl := lw_at lw_m9 27 rfl
theorem q2006 : (Jvm.Cond.instanceMethod ({ cls := "Nearplaces", name := "setFinite", desc := "(ID)I" } : Jvm.MethodName)) ∈ lw_all := lw_g (lw_at lw_m9 28 rfl) rfl
theorem q2007 : (Jvm.Cond.code ({ cls := "Nearplaces", name := "setFinite", desc := "(ID)I" } : Jvm.MethodName) prog_1_method_26_code (4 : Nat) (Option.some Jvm.ClassFile.FieldType.int)) ∈ lw_all := lw_g (lw_at lw_m9 29 rfl) rfl
theorem q2008 : (Jvm.Cond.methodLink "Nearplaces" (127 : Nat) ({ cls := "java/lang/Double", name := "isInfinite", desc := "(D)Z" } : Jvm.MethodName)) ∈ lw_all := lw_g (lw_at lw_m9 30 rfl) rfl
theorem q2016 : (Jvm.Cond.methodLink "Nearplaces" (133 : Nat) ({ cls := "Nearplaces", name := "setAnswer", desc := "(ID)I" } : Jvm.MethodName)) ∈ lw_all := lw_g (lw_at lw_m9 38 rfl) rfl
theorem q2017 : (Jvm.Cond.privateMethod ({ cls := "Nearplaces", name := "setAnswer", desc := "(ID)I" } : Jvm.MethodName)) ∈ lw_tbl := lw_at lw_m9 39 rfl
theorem q2018 : (Jvm.Cond.instanceMethod ({ cls := "Nearplaces", name := "setAnswer", desc := "(ID)I" } : Jvm.MethodName)) ∈ lw_all := lw_g (lw_at lw_m9 40 rfl) rfl
theorem q2019 : (Jvm.Cond.code ({ cls := "Nearplaces", name := "setAnswer", desc := "(ID)I" } : Jvm.MethodName) prog_1_method_25_code (5 : Nat) (Option.some Jvm.ClassFile.FieldType.int)) ∈ lw_all := lw_g (lw_at lw_m9 41 rfl) rfl
theorem q2022 : (Jvm.Cond.instanceMethod ({ cls := "Nearplaces", name := "down", desc := "(II)I" } : Jvm.MethodName)) ∈ lw_all := lw_g (lw_at lw_m9 44 rfl) rfl
theorem q2023 : (Jvm.Cond.selects "Nearplaces" ({ cls := "Nearplaces", name := "down", desc := "(II)I" } : Jvm.MethodName) ({ cls := "Nearplaces", name := "down", desc := "(II)I" } : Jvm.MethodName)) ∈ lw_all := lw_g (lw_at lw_m9 45 rfl) rfl
theorem q2024 : (Jvm.Cond.code ({ cls := "Nearplaces", name := "down", desc := "(II)I" } : Jvm.MethodName) prog_1_method_37_code (5 : Nat) (Option.some Jvm.ClassFile.FieldType.int)) ∈ lw_all := lw_g (lw_at lw_m9 46 rfl) rfl
theorem q2025 : (Jvm.Cond.methodLink "Nearplaces" (173 : Nat) ({ cls := "java/lang/Math", name := "nextDown", desc := "(D)D" } : Jvm.MethodName)) ∈ lw_all := lw_g (lw_at lw_m9 47 rfl) rfl
theorem q2033 : (Jvm.Cond.instanceMethod ({ cls := "Nearplaces", name := "between", desc := "(ZIZI)Ljava/lang/String;" } : Jvm.MethodName)) ∈ lw_all := lw_g (lw_at lw_m9 55 rfl) rfl
theorem q2034 : (Jvm.Cond.selects "Nearplaces" ({ cls := "Nearplaces", name := "between", desc := "(ZIZI)Ljava/lang/String;" } : Jvm.MethodName) ({ cls := "Nearplaces", name := "between", desc := "(ZIZI)Ljava/lang/String;" } : Jvm.MethodName)) ∈ lw_all := lw_g (lw_at lw_m9 56 rfl) rfl
theorem q2035 : (Jvm.Cond.code ({ cls := "Nearplaces", name := "between", desc := "(ZIZI)Ljava/lang/String;" } : Jvm.MethodName) prog_1_method_87_code (7 : Nat) (Option.some (Jvm.ClassFile.FieldType.object "java/lang/String"))) ∈ lw_all := lw_g (lw_at lw_m9 57 rfl) rfl
theorem q2036 : (Jvm.Cond.methodLink "Nearplaces" (396 : Nat) ({ cls := "Nearplaces", name := "difference", desc := "(DD)Ljava/math/BigInteger;" } : Jvm.MethodName)) ∈ lw_all := lw_g (lw_at lw_m9 58 rfl) rfl
theorem q2037 : (Jvm.Cond.static ({ cls := "Nearplaces", name := "difference", desc := "(DD)Ljava/math/BigInteger;" } : Jvm.MethodName)) ∈ lw_all := lw_g (lw_at lw_m9 59 rfl) rfl
theorem q2038 : (Jvm.Cond.code ({ cls := "Nearplaces", name := "difference", desc := "(DD)Ljava/math/BigInteger;" } : Jvm.MethodName) prog_1_method_21_code (4 : Nat) (Option.some (Jvm.ClassFile.FieldType.object "java/math/BigInteger"))) ∈ lw_all := lw_g (lw_at lw_m9 60 rfl) rfl
theorem q2039 : (Jvm.Cond.methodLink "Nearplaces" (105 : Nat) ({ cls := "java/math/BigInteger", name := "subtract", desc := "(Ljava/math/BigInteger;)Ljava/math/BigInteger;" } : Jvm.MethodName)) ∈ lw_all := lw_g (lw_at lw_m9 61 rfl) rfl
theorem q2044 : (Jvm.Cond.instanceMethod ({ cls := "Nearplaces", name := "order", desc := "(ZIZI)I" } : Jvm.MethodName)) ∈ lw_all := lw_g (lw_at lw_m9 66 rfl) rfl
theorem q2045 : (Jvm.Cond.selects "Nearplaces" ({ cls := "Nearplaces", name := "order", desc := "(ZIZI)I" } : Jvm.MethodName) ({ cls := "Nearplaces", name := "order", desc := "(ZIZI)I" } : Jvm.MethodName)) ∈ lw_all := lw_g (lw_at lw_m9 67 rfl) rfl
theorem q2046 : (Jvm.Cond.code ({ cls := "Nearplaces", name := "order", desc := "(ZIZI)I" } : Jvm.MethodName) prog_1_method_93_code (7 : Nat) (Option.some Jvm.ClassFile.FieldType.int)) ∈ lw_all := lw_g (lw_at lw_m9 68 rfl) rfl
theorem q2047 : (Jvm.Cond.methodLink "Nearplaces" (403 : Nat) ({ cls := "java/lang/Double", name := "compare", desc := "(DD)I" } : Jvm.MethodName)) ∈ lw_all := lw_g (lw_at lw_m9 69 rfl) rfl
theorem q2051 : (Jvm.Cond.methodLink "Nearplaces" (407 : Nat) ({ cls := "java/lang/Integer", name := "signum", desc := "(I)I" } : Jvm.MethodName)) ∈ lw_all := lw_g (lw_at lw_m9 73 rfl) rfl
theorem q2057 : (Jvm.Cond.instanceMethod ({ cls := "Nearplaces", name := "steps", desc := "(III)I" } : Jvm.MethodName)) ∈ lw_all := lw_g (lw_at lw_m9 79 rfl) rfl
theorem q2058 : (Jvm.Cond.selects "Nearplaces" ({ cls := "Nearplaces", name := "steps", desc := "(III)I" } : Jvm.MethodName) ({ cls := "Nearplaces", name := "steps", desc := "(III)I" } : Jvm.MethodName)) ∈ lw_all := lw_g (lw_at lw_m9 80 rfl) rfl
theorem q2059 : (Jvm.Cond.code ({ cls := "Nearplaces", name := "steps", desc := "(III)I" } : Jvm.MethodName) prog_1_method_38_code (9 : Nat) (Option.some Jvm.ClassFile.FieldType.int)) ∈ lw_all := lw_g (lw_at lw_m9 81 rfl) rfl
theorem q2061 : (Jvm.Cond.instanceMethod ({ cls := "Nearplaces", name := "isSame", desc := "(ZIZI)Z" } : Jvm.MethodName)) ∈ lw_all := lw_g (lw_at lw_m9 83 rfl) rfl
theorem q2062 : (Jvm.Cond.selects "Nearplaces" ({ cls := "Nearplaces", name := "isSame", desc := "(ZIZI)Z" } : Jvm.MethodName) ({ cls := "Nearplaces", name := "isSame", desc := "(ZIZI)Z" } : Jvm.MethodName)) ∈ lw_all := lw_g (lw_at lw_m9 84 rfl) rfl
theorem q2063 : (Jvm.Cond.code ({ cls := "Nearplaces", name := "isSame", desc := "(ZIZI)Z" } : Jvm.MethodName) prog_1_method_92_code (7 : Nat) (Option.some Jvm.ClassFile.FieldType.boolean)) ∈ lw_all := lw_g (lw_at lw_m9 85 rfl) rfl
theorem q2065 : (Jvm.Cond.instanceMethod ({ cls := "Nearplaces", name := "take", desc := "(II)I" } : Jvm.MethodName)) ∈ lw_all := lw_g (lw_at lw_m9 87 rfl) rfl
theorem q2066 : (Jvm.Cond.selects "Nearplaces" ({ cls := "Nearplaces", name := "take", desc := "(II)I" } : Jvm.MethodName) ({ cls := "Nearplaces", name := "take", desc := "(II)I" } : Jvm.MethodName)) ∈ lw_all := lw_g (lw_at lw_m9 88 rfl) rfl
theorem q2067 : (Jvm.Cond.code ({ cls := "Nearplaces", name := "take", desc := "(II)I" } : Jvm.MethodName) prog_1_method_34_code (5 : Nat) (Option.some Jvm.ClassFile.FieldType.int)) ∈ lw_all := lw_g (lw_at lw_m9 89 rfl) rfl
theorem q2068 : (Jvm.Cond.methodLink "Nearplaces" (161 : Nat) ({ cls := "Nearplaces", name := "isOfSet", desc := "(D)Z" } : Jvm.MethodName)) ∈ lw_all := lw_g (lw_at lw_m9 90 rfl) rfl
theorem q2069 : (Jvm.Cond.static ({ cls := "Nearplaces", name := "isOfSet", desc := "(D)Z" } : Jvm.MethodName)) ∈ lw_all := lw_g (lw_at lw_m9 91 rfl) rfl
theorem q2070 : (Jvm.Cond.code ({ cls := "Nearplaces", name := "isOfSet", desc := "(D)Z" } : Jvm.MethodName) prog_1_method_18_code (2 : Nat) (Option.some Jvm.ClassFile.FieldType.boolean)) ∈ lw_all := lw_g (lw_at lw_m9 92 rfl) rfl
theorem q2072 : (Jvm.Cond.instanceMethod ({ cls := "Nearplaces", name := "walk", desc := "(II)I" } : Jvm.MethodName)) ∈ lw_all := lw_g (lw_at lw_m9 94 rfl) rfl
theorem q2073 : (Jvm.Cond.selects "Nearplaces" ({ cls := "Nearplaces", name := "walk", desc := "(II)I" } : Jvm.MethodName) ({ cls := "Nearplaces", name := "walk", desc := "(II)I" } : Jvm.MethodName)) ∈ lw_all := lw_g (lw_at lw_m9 95 rfl) rfl
theorem q2074 : (Jvm.Cond.code ({ cls := "Nearplaces", name := "walk", desc := "(II)I" } : Jvm.MethodName) prog_1_method_80_code (12 : Nat) (Option.some Jvm.ClassFile.FieldType.int)) ∈ lw_all := lw_g (lw_at lw_m9 96 rfl) rfl
theorem q2075 : (Jvm.Cond.methodLink "Nearplaces" (383 : Nat) ({ cls := "java/lang/Math", name := "min", desc := "(JJ)J" } : Jvm.MethodName)) ∈ lw_all := lw_g (lw_at lw_m9 97 rfl) rfl
theorem q2076 : (Jvm.Cond.methodLink "Nearplaces" (385 : Nat) ({ cls := "java/lang/Math", name := "max", desc := "(JJ)J" } : Jvm.MethodName)) ∈ lw_all := lw_g (lw_at lw_m9 98 rfl) rfl
theorem q2077 : (Jvm.Cond.constantLong "Nearplaces" (387 : Nat) (1023 : Int64)) ∈ lw_all := lw_g (lw_at lw_m9 99 rfl) rfl
theorem q2079 : (Jvm.Cond.instanceMethod ({ cls := "Nearplaces", name := "copy", desc := "(II)I" } : Jvm.MethodName)) ∈ lw_all := lw_g (lw_at lw_m9 101 rfl) rfl
theorem q2080 : (Jvm.Cond.selects "Nearplaces" ({ cls := "Nearplaces", name := "copy", desc := "(II)I" } : Jvm.MethodName) ({ cls := "Nearplaces", name := "copy", desc := "(II)I" } : Jvm.MethodName)) ∈ lw_all := lw_g (lw_at lw_m9 102 rfl) rfl
theorem q2081 : (Jvm.Cond.code ({ cls := "Nearplaces", name := "copy", desc := "(II)I" } : Jvm.MethodName) prog_1_method_31_code (5 : Nat) (Option.some Jvm.ClassFile.FieldType.int)) ∈ lw_all := lw_g (lw_at lw_m9 103 rfl) rfl
theorem q2083 : (Jvm.Cond.instanceMethod ({ cls := "Nearplaces", name := "minus", desc := "(I)I" } : Jvm.MethodName)) ∈ lw_all := lw_g (lw_at lw_m9 105 rfl) rfl
theorem q2084 : (Jvm.Cond.selects "Nearplaces" ({ cls := "Nearplaces", name := "minus", desc := "(I)I" } : Jvm.MethodName) ({ cls := "Nearplaces", name := "minus", desc := "(I)I" } : Jvm.MethodName)) ∈ lw_all := lw_g (lw_at lw_m9 106 rfl) rfl
theorem q2085 : (Jvm.Cond.code ({ cls := "Nearplaces", name := "minus", desc := "(I)I" } : Jvm.MethodName) prog_1_method_33_code (2 : Nat) (Option.some Jvm.ClassFile.FieldType.int)) ∈ lw_all := lw_g (lw_at lw_m9 107 rfl) rfl
theorem q2092 : (Jvm.Cond.instanceMethod ({ cls := "Nearplaces", name := "towards", desc := "(III)I" } : Jvm.MethodName)) ∈ lw_all := lw_g (lw_at lw_m9 114 rfl) rfl
theorem q2093 : (Jvm.Cond.selects "Nearplaces" ({ cls := "Nearplaces", name := "towards", desc := "(III)I" } : Jvm.MethodName) ({ cls := "Nearplaces", name := "towards", desc := "(III)I" } : Jvm.MethodName)) ∈ lw_all := lw_g (lw_at lw_m9 115 rfl) rfl
theorem q2094 : (Jvm.Cond.code ({ cls := "Nearplaces", name := "towards", desc := "(III)I" } : Jvm.MethodName) prog_1_method_39_code (8 : Nat) (Option.some Jvm.ClassFile.FieldType.int)) ∈ lw_all := lw_g (lw_at lw_m9 116 rfl) rfl
theorem q2095 : (Jvm.Cond.methodLink "Nearplaces" (176 : Nat) ({ cls := "java/lang/Math", name := "nextAfter", desc := "(DD)D" } : Jvm.MethodName)) ∈ lw_all := lw_g (lw_at lw_m9 117 rfl) rfl
theorem q2099 : (Jvm.Cond.instanceMethod ({ cls := "Nearplaces", name := "middle", desc := "(III)I" } : Jvm.MethodName)) ∈ lw_all := lw_g (lw_at lw_m9 121 rfl) rfl
theorem q2100 : (Jvm.Cond.selects "Nearplaces" ({ cls := "Nearplaces", name := "middle", desc := "(III)I" } : Jvm.MethodName) ({ cls := "Nearplaces", name := "middle", desc := "(III)I" } : Jvm.MethodName)) ∈ lw_all := lw_g (lw_at lw_m9 122 rfl) rfl
theorem q2101 : (Jvm.Cond.code ({ cls := "Nearplaces", name := "middle", desc := "(III)I" } : Jvm.MethodName) prog_1_method_52_code (9 : Nat) (Option.some Jvm.ClassFile.FieldType.int)) ∈ lw_all := lw_g (lw_at lw_m9 123 rfl) rfl
theorem q2102 : (Jvm.Cond.methodLink "Nearplaces" (214 : Nat) ({ cls := "Nearplaces", name := "middleOf", desc := "(JJ)J" } : Jvm.MethodName)) ∈ lw_all := lw_g (lw_at lw_m9 124 rfl) rfl
theorem q2103 : (Jvm.Cond.static ({ cls := "Nearplaces", name := "middleOf", desc := "(JJ)J" } : Jvm.MethodName)) ∈ lw_all := lw_g (lw_at lw_m9 125 rfl) rfl
theorem q2104 : (Jvm.Cond.code ({ cls := "Nearplaces", name := "middleOf", desc := "(JJ)J" } : Jvm.MethodName) prog_1_method_51_code (4 : Nat) (Option.some Jvm.ClassFile.FieldType.long)) ∈ lw_all := lw_g (lw_at lw_m9 126 rfl) rfl
theorem q2105 : (Jvm.Cond.methodLink "Nearplaces" (218 : Nat) ({ cls := "Nearplaces", name := "numberAt", desc := "(J)D" } : Jvm.MethodName)) ∈ lw_all := lw_g (lw_at lw_m9 127 rfl) rfl
theorem q2106 : (Jvm.Cond.static ({ cls := "Nearplaces", name := "numberAt", desc := "(J)D" } : Jvm.MethodName)) ∈ lw_all := lw_g (lw_at lw_m9 128 rfl) rfl
theorem q2107 : (Jvm.Cond.code ({ cls := "Nearplaces", name := "numberAt", desc := "(J)D" } : Jvm.MethodName) prog_1_method_13_code (2 : Nat) (Option.some Jvm.ClassFile.FieldType.double)) ∈ lw_all := lw_g (lw_at lw_m9 129 rfl) rfl
theorem q2109 : (Jvm.Cond.instanceMethod ({ cls := "Nearplaces", name := "keep", desc := "(II)I" } : Jvm.MethodName)) ∈ lw_all := lw_g (lw_at lw_m9 131 rfl) rfl
theorem q2110 : (Jvm.Cond.selects "Nearplaces" ({ cls := "Nearplaces", name := "keep", desc := "(II)I" } : Jvm.MethodName) ({ cls := "Nearplaces", name := "keep", desc := "(II)I" } : Jvm.MethodName)) ∈ lw_all := lw_g (lw_at lw_m9 132 rfl) rfl
theorem q2111 : (Jvm.Cond.code ({ cls := "Nearplaces", name := "keep", desc := "(II)I" } : Jvm.MethodName) prog_1_method_35_code (5 : Nat) (Option.some Jvm.ClassFile.FieldType.int)) ∈ lw_all := lw_g (lw_at lw_m9 133 rfl) rfl
theorem q2113 : (Jvm.Cond.instanceMethod ({ cls := "Nearplaces", name := "swap", desc := "(II)I" } : Jvm.MethodName)) ∈ lw_all := lw_g (lw_at lw_m9 135 rfl) rfl
theorem q2114 : (Jvm.Cond.selects "Nearplaces" ({ cls := "Nearplaces", name := "swap", desc := "(II)I" } : Jvm.MethodName) ({ cls := "Nearplaces", name := "swap", desc := "(II)I" } : Jvm.MethodName)) ∈ lw_all := lw_g (lw_at lw_m9 136 rfl) rfl
theorem q2115 : (Jvm.Cond.code ({ cls := "Nearplaces", name := "swap", desc := "(II)I" } : Jvm.MethodName) prog_1_method_32_code (8 : Nat) (Option.some Jvm.ClassFile.FieldType.int)) ∈ lw_all := lw_g (lw_at lw_m9 137 rfl) rfl
theorem q2117 : (Jvm.Cond.instanceMethod ({ cls := "Nearplaces", name := "isWithin", desc := "(II)Z" } : Jvm.MethodName)) ∈ lw_all := lw_g (lw_at lw_m9 139 rfl) rfl
theorem q2118 : (Jvm.Cond.selects "Nearplaces" ({ cls := "Nearplaces", name := "isWithin", desc := "(II)Z" } : Jvm.MethodName) ({ cls := "Nearplaces", name := "isWithin", desc := "(II)Z" } : Jvm.MethodName)) ∈ lw_all := lw_g (lw_at lw_m9 140 rfl) rfl
theorem q2119 : (Jvm.Cond.code ({ cls := "Nearplaces", name := "isWithin", desc := "(II)Z" } : Jvm.MethodName) prog_1_method_74_code (5 : Nat) (Option.some Jvm.ClassFile.FieldType.boolean)) ∈ lw_all := lw_g (lw_at lw_m9 141 rfl) rfl
theorem q2120 : (Jvm.Cond.methodLink "Nearplaces" (367 : Nat) ({ cls := "Nearplaces", name := "areWithin", desc := "(DD)Z" } : Jvm.MethodName)) ∈ lw_all := lw_g (lw_at lw_m9 142 rfl) rfl
theorem q2121 : (Jvm.Cond.static ({ cls := "Nearplaces", name := "areWithin", desc := "(DD)Z" } : Jvm.MethodName)) ∈ lw_all := lw_g (lw_at lw_m9 143 rfl) rfl
theorem q2122 : (Jvm.Cond.code ({ cls := "Nearplaces", name := "areWithin", desc := "(DD)Z" } : Jvm.MethodName) prog_1_method_73_code (8 : Nat) (Option.some Jvm.ClassFile.FieldType.boolean)) ∈ lw_all := lw_g (lw_at lw_m9 144 rfl) rfl
theorem q2123 : (Jvm.Cond.methodLink "Nearplaces" (364 : Nat) ({ cls := "Nearplaces", name := "sizeOf", desc := "(D)D" } : Jvm.MethodName)) ∈ lw_all := lw_g (lw_at lw_m9 145 rfl) rfl
theorem q2124 : (Jvm.Cond.static ({ cls := "Nearplaces", name := "sizeOf", desc := "(D)D" } : Jvm.MethodName)) ∈ lw_all := lw_g (lw_at lw_m9 146 rfl) rfl
theorem q2125 : (Jvm.Cond.code ({ cls := "Nearplaces", name := "sizeOf", desc := "(D)D" } : Jvm.MethodName) prog_1_method_11_code (2 : Nat) (Option.some Jvm.ClassFile.FieldType.double)) ∈ lw_all := lw_g (lw_at lw_m9 147 rfl) rfl
theorem q2141 : (Jvm.Cond.instanceMethod ({ cls := "Nearplaces", name := "unit", desc := "(II)I" } : Jvm.MethodName)) ∈ lw_all := lw_g (lw_at lw_m9 163 rfl) rfl
theorem q2142 : (Jvm.Cond.selects "Nearplaces" ({ cls := "Nearplaces", name := "unit", desc := "(II)I" } : Jvm.MethodName) ({ cls := "Nearplaces", name := "unit", desc := "(II)I" } : Jvm.MethodName)) ∈ lw_all := lw_g (lw_at lw_m9 164 rfl) rfl
theorem q2143 : (Jvm.Cond.code ({ cls := "Nearplaces", name := "unit", desc := "(II)I" } : Jvm.MethodName) prog_1_method_44_code (5 : Nat) (Option.some Jvm.ClassFile.FieldType.int)) ∈ lw_all := lw_g (lw_at lw_m9 165 rfl) rfl
theorem q2144 : (Jvm.Cond.methodLink "Nearplaces" (198 : Nat) ({ cls := "java/lang/Math", name := "ulp", desc := "(D)D" } : Jvm.MethodName)) ∈ lw_all := lw_g (lw_at lw_m9 166 rfl) rfl
theorem q2151 : (Jvm.Cond.instanceMethod ({ cls := "Nearplaces", name := "unitByPower", desc := "(II)I" } : Jvm.MethodName)) ∈ lw_all := lw_g (lw_at lw_m9 173 rfl) rfl
theorem q2152 : (Jvm.Cond.selects "Nearplaces" ({ cls := "Nearplaces", name := "unitByPower", desc := "(II)I" } : Jvm.MethodName) ({ cls := "Nearplaces", name := "unitByPower", desc := "(II)I" } : Jvm.MethodName)) ∈ lw_all := lw_g (lw_at lw_m9 174 rfl) rfl
theorem q2153 : (Jvm.Cond.code ({ cls := "Nearplaces", name := "unitByPower", desc := "(II)I" } : Jvm.MethodName) prog_1_method_45_code (5 : Nat) (Option.some Jvm.ClassFile.FieldType.int)) ∈ lw_all := lw_g (lw_at lw_m9 175 rfl) rfl
theorem q2154 : (Jvm.Cond.methodLink "Nearplaces" (201 : Nat) ({ cls := "Nearplaces", name := "unitOf", desc := "(D)D" } : Jvm.MethodName)) ∈ lw_all := lw_g (lw_at lw_m9 176 rfl) rfl
theorem q2155 : (Jvm.Cond.static ({ cls := "Nearplaces", name := "unitOf", desc := "(D)D" } : Jvm.MethodName)) ∈ lw_all := lw_g (lw_at lw_m9 177 rfl) rfl
theorem q2156 : (Jvm.Cond.code ({ cls := "Nearplaces", name := "unitOf", desc := "(D)D" } : Jvm.MethodName) prog_1_method_43_code (2 : Nat) (Option.some Jvm.ClassFile.FieldType.double)) ∈ lw_all := lw_g (lw_at lw_m9 178 rfl) rfl
theorem q2157 : (Jvm.Cond.methodLink "Nearplaces" (195 : Nat) ({ cls := "Nearplaces", name := "powerAtLeast", desc := "(D)I" } : Jvm.MethodName)) ∈ lw_all := lw_g (lw_at lw_m9 179 rfl) rfl
theorem q2158 : (Jvm.Cond.static ({ cls := "Nearplaces", name := "powerAtLeast", desc := "(D)I" } : Jvm.MethodName)) ∈ lw_all := lw_g (lw_at lw_m9 180 rfl) rfl
theorem q2159 : (Jvm.Cond.code ({ cls := "Nearplaces", name := "powerAtLeast", desc := "(D)I" } : Jvm.MethodName) prog_1_method_42_code (2 : Nat) (Option.some Jvm.ClassFile.FieldType.int)) ∈ lw_all := lw_g (lw_at lw_m9 181 rfl) rfl
theorem q2160 : (Jvm.Cond.methodLink "Nearplaces" (188 : Nat) ({ cls := "java/lang/Math", name := "getExponent", desc := "(D)I" } : Jvm.MethodName)) ∈ lw_all := lw_g (lw_at lw_m9 182 rfl) rfl
theorem q2162 : (Jvm.Cond.instanceMethod ({ cls := "Nearplaces", name := "power", desc := "(I)I" } : Jvm.MethodName)) ∈ lw_all := lw_g (lw_at lw_m9 184 rfl) rfl
theorem q2163 : (Jvm.Cond.selects "Nearplaces" ({ cls := "Nearplaces", name := "power", desc := "(I)I" } : Jvm.MethodName) ({ cls := "Nearplaces", name := "power", desc := "(I)I" } : Jvm.MethodName)) ∈ lw_all := lw_g (lw_at lw_m9 185 rfl) rfl
theorem q2164 : (Jvm.Cond.code ({ cls := "Nearplaces", name := "power", desc := "(I)I" } : Jvm.MethodName) prog_1_method_67_code (2 : Nat) (Option.some Jvm.ClassFile.FieldType.int)) ∈ lw_all := lw_g (lw_at lw_m9 186 rfl) rfl
theorem q2166 : (Jvm.Cond.instanceMethod ({ cls := "Nearplaces", name := "powerByUnit", desc := "(I)I" } : Jvm.MethodName)) ∈ lw_all := lw_g (lw_at lw_m9 188 rfl) rfl
theorem q2167 : (Jvm.Cond.selects "Nearplaces" ({ cls := "Nearplaces", name := "powerByUnit", desc := "(I)I" } : Jvm.MethodName) ({ cls := "Nearplaces", name := "powerByUnit", desc := "(I)I" } : Jvm.MethodName)) ∈ lw_all := lw_g (lw_at lw_m9 189 rfl) rfl
theorem q2168 : (Jvm.Cond.code ({ cls := "Nearplaces", name := "powerByUnit", desc := "(I)I" } : Jvm.MethodName) prog_1_method_69_code (2 : Nat) (Option.some Jvm.ClassFile.FieldType.int)) ∈ lw_all := lw_g (lw_at lw_m9 190 rfl) rfl
theorem q2169 : (Jvm.Cond.methodLink "Nearplaces" (361 : Nat) ({ cls := "Nearplaces", name := "powerOfUnit", desc := "(D)I" } : Jvm.MethodName)) ∈ lw_all := lw_g (lw_at lw_m9 191 rfl) rfl
theorem q2170 : (Jvm.Cond.static ({ cls := "Nearplaces", name := "powerOfUnit", desc := "(D)I" } : Jvm.MethodName)) ∈ lw_all := lw_g (lw_at lw_m9 192 rfl) rfl
theorem q2171 : (Jvm.Cond.code ({ cls := "Nearplaces", name := "powerOfUnit", desc := "(D)I" } : Jvm.MethodName) prog_1_method_68_code (2 : Nat) (Option.some Jvm.ClassFile.FieldType.int)) ∈ lw_all := lw_g (lw_at lw_m9 193 rfl) rfl
theorem q2173 : (Jvm.Cond.instanceMethod ({ cls := "Nearplaces", name := "isEdge", desc := "(I)Z" } : Jvm.MethodName)) ∈ lw_all := lw_g (lw_at lw_m9 195 rfl) rfl
theorem q2174 : (Jvm.Cond.selects "Nearplaces" ({ cls := "Nearplaces", name := "isEdge", desc := "(I)Z" } : Jvm.MethodName) ({ cls := "Nearplaces", name := "isEdge", desc := "(I)Z" } : Jvm.MethodName)) ∈ lw_all := lw_g (lw_at lw_m9 196 rfl) rfl
theorem q2175 : (Jvm.Cond.code ({ cls := "Nearplaces", name := "isEdge", desc := "(I)Z" } : Jvm.MethodName) prog_1_method_70_code (4 : Nat) (Option.some Jvm.ClassFile.FieldType.boolean)) ∈ lw_all := lw_g (lw_at lw_m9 197 rfl) rfl
theorem q2177 : (Jvm.Cond.instanceMethod ({ cls := "Nearplaces", name := "isUnitStep", desc := "(I)Z" } : Jvm.MethodName)) ∈ lw_all := lw_g (lw_at lw_m9 199 rfl) rfl
theorem q2178 : (Jvm.Cond.selects "Nearplaces" ({ cls := "Nearplaces", name := "isUnitStep", desc := "(I)Z" } : Jvm.MethodName) ({ cls := "Nearplaces", name := "isUnitStep", desc := "(I)Z" } : Jvm.MethodName)) ∈ lw_all := lw_g (lw_at lw_m9 200 rfl) rfl
theorem q2179 : (Jvm.Cond.code ({ cls := "Nearplaces", name := "isUnitStep", desc := "(I)Z" } : Jvm.MethodName) prog_1_method_71_code (4 : Nat) (Option.some Jvm.ClassFile.FieldType.boolean)) ∈ lw_all := lw_g (lw_at lw_m9 201 rfl) rfl
theorem q2181 : (Jvm.Cond.instanceMethod ({ cls := "Nearplaces", name := "gap", desc := "(IZI)I" } : Jvm.MethodName)) ∈ lw_all := lw_g (lw_at lw_m9 203 rfl) rfl
theorem q2182 : (Jvm.Cond.selects "Nearplaces" ({ cls := "Nearplaces", name := "gap", desc := "(IZI)I" } : Jvm.MethodName) ({ cls := "Nearplaces", name := "gap", desc := "(IZI)I" } : Jvm.MethodName)) ∈ lw_all := lw_g (lw_at lw_m9 204 rfl) rfl
theorem q2183 : (Jvm.Cond.code ({ cls := "Nearplaces", name := "gap", desc := "(IZI)I" } : Jvm.MethodName) prog_1_method_46_code (6 : Nat) (Option.some Jvm.ClassFile.FieldType.int)) ∈ lw_all := lw_g (lw_at lw_m9 205 rfl) rfl
theorem q2185 : (Jvm.Cond.instanceMethod ({ cls := "Nearplaces", name := "shift", desc := "(III)I" } : Jvm.MethodName)) ∈ lw_all := lw_g (lw_at lw_m9 207 rfl) rfl
theorem q2186 : (Jvm.Cond.selects "Nearplaces" ({ cls := "Nearplaces", name := "shift", desc := "(III)I" } : Jvm.MethodName) ({ cls := "Nearplaces", name := "shift", desc := "(III)I" } : Jvm.MethodName)) ∈ lw_all := lw_g (lw_at lw_m9 208 rfl) rfl
theorem q2187 : (Jvm.Cond.code ({ cls := "Nearplaces", name := "shift", desc := "(III)I" } : Jvm.MethodName) prog_1_method_41_code (6 : Nat) (Option.some Jvm.ClassFile.FieldType.int)) ∈ lw_all := lw_g (lw_at lw_m9 209 rfl) rfl
theorem q2188 : (Jvm.Cond.methodLink "Nearplaces" (180 : Nat) ({ cls := "Nearplaces", name := "powerOfShift", desc := "(I)I" } : Jvm.MethodName)) ∈ lw_all := lw_g (lw_at lw_m9 210 rfl) rfl
theorem q2189 : (Jvm.Cond.static ({ cls := "Nearplaces", name := "powerOfShift", desc := "(I)I" } : Jvm.MethodName)) ∈ lw_all := lw_g (lw_at lw_m9 211 rfl) rfl
theorem q2190 : (Jvm.Cond.code ({ cls := "Nearplaces", name := "powerOfShift", desc := "(I)I" } : Jvm.MethodName) prog_1_method_40_code (1 : Nat) (Option.some Jvm.ClassFile.FieldType.int)) ∈ lw_all := lw_g (lw_at lw_m9 212 rfl) rfl
theorem q2196 : (Jvm.Cond.instanceMethod ({ cls := "Nearplaces", name := "exact", desc := "(IIZ)I" } : Jvm.MethodName)) ∈ lw_all := lw_g (lw_at lw_m9 218 rfl) rfl
theorem q2197 : (Jvm.Cond.selects "Nearplaces" ({ cls := "Nearplaces", name := "exact", desc := "(IIZ)I" } : Jvm.MethodName) ({ cls := "Nearplaces", name := "exact", desc := "(IIZ)I" } : Jvm.MethodName)) ∈ lw_all := lw_g (lw_at lw_m9 219 rfl) rfl
theorem q2198 : (Jvm.Cond.code ({ cls := "Nearplaces", name := "exact", desc := "(IIZ)I" } : Jvm.MethodName) prog_1_method_75_code (8 : Nat) (Option.some Jvm.ClassFile.FieldType.int)) ∈ lw_all := lw_g (lw_at lw_m9 220 rfl) rfl
theorem q2199 : (Jvm.Cond.methodLink "Nearplaces" (204 : Nat) ({ cls := "Nearplaces", name := "areAddable", desc := "(DD)Z" } : Jvm.MethodName)) ∈ lw_all := lw_g (lw_at lw_m9 221 rfl) rfl
theorem q2200 : (Jvm.Cond.static ({ cls := "Nearplaces", name := "areAddable", desc := "(DD)Z" } : Jvm.MethodName)) ∈ lw_all := lw_g (lw_at lw_m9 222 rfl) rfl
theorem q2201 : (Jvm.Cond.code ({ cls := "Nearplaces", name := "areAddable", desc := "(DD)Z" } : Jvm.MethodName) prog_1_method_20_code (4 : Nat) (Option.some Jvm.ClassFile.FieldType.boolean)) ∈ lw_all := lw_g (lw_at lw_m9 223 rfl) rfl
theorem q2202 : (Jvm.Cond.methodLink "Nearplaces" (211 : Nat) ({ cls := "Nearplaces", name := "lostOf", desc := "(DD)D" } : Jvm.MethodName)) ∈ lw_all := lw_g (lw_at lw_m9 224 rfl) rfl
theorem q2203 : (Jvm.Cond.static ({ cls := "Nearplaces", name := "lostOf", desc := "(DD)D" } : Jvm.MethodName)) ∈ lw_all := lw_g (lw_at lw_m9 225 rfl) rfl
theorem q2204 : (Jvm.Cond.code ({ cls := "Nearplaces", name := "lostOf", desc := "(DD)D" } : Jvm.MethodName) prog_1_method_48_code (8 : Nat) (Option.some Jvm.ClassFile.FieldType.double)) ∈ lw_all := lw_g (lw_at lw_m9 226 rfl) rfl
theorem q2206 : (Jvm.Cond.instanceMethod ({ cls := "Nearplaces", name := "holds", desc := "(IIZ)I" } : Jvm.MethodName)) ∈ lw_all := lw_g (lw_at lw_m9 228 rfl) rfl
theorem q2207 : (Jvm.Cond.selects "Nearplaces" ({ cls := "Nearplaces", name := "holds", desc := "(IIZ)I" } : Jvm.MethodName) ({ cls := "Nearplaces", name := "holds", desc := "(IIZ)I" } : Jvm.MethodName)) ∈ lw_all := lw_g (lw_at lw_m9 229 rfl) rfl
theorem q2208 : (Jvm.Cond.code ({ cls := "Nearplaces", name := "holds", desc := "(IIZ)I" } : Jvm.MethodName) prog_1_method_79_code (8 : Nat) (Option.some Jvm.ClassFile.FieldType.int)) ∈ lw_all := lw_g (lw_at lw_m9 230 rfl) rfl
theorem q2209 : (Jvm.Cond.methodLink "Nearplaces" (380 : Nat) ({ cls := "Nearplaces", name := "isAllThere", desc := "(DD)Z" } : Jvm.MethodName)) ∈ lw_all := lw_g (lw_at lw_m9 231 rfl) rfl
theorem q2210 : (Jvm.Cond.static ({ cls := "Nearplaces", name := "isAllThere", desc := "(DD)Z" } : Jvm.MethodName)) ∈ lw_all := lw_g (lw_at lw_m9 232 rfl) rfl
theorem q2211 : (Jvm.Cond.code ({ cls := "Nearplaces", name := "isAllThere", desc := "(DD)Z" } : Jvm.MethodName) prog_1_method_78_code (13 : Nat) (Option.some Jvm.ClassFile.FieldType.boolean)) ∈ lw_all := lw_g (lw_at lw_m9 233 rfl) rfl
theorem q2212 : (Jvm.Cond.methodLink "Nearplaces" (370 : Nat) ({ cls := "Nearplaces", name := "lastOf", desc := "(D)I" } : Jvm.MethodName)) ∈ lw_all := lw_g (lw_at lw_m9 234 rfl) rfl
theorem q2213 : (Jvm.Cond.static ({ cls := "Nearplaces", name := "lastOf", desc := "(D)I" } : Jvm.MethodName)) ∈ lw_all := lw_g (lw_at lw_m9 235 rfl) rfl
theorem q2214 : (Jvm.Cond.code ({ cls := "Nearplaces", name := "lastOf", desc := "(D)I" } : Jvm.MethodName) prog_1_method_76_code (2 : Nat) (Option.some Jvm.ClassFile.FieldType.int)) ∈ lw_all := lw_g (lw_at lw_m9 236 rfl) rfl
theorem q2215 : (Jvm.Cond.methodLink "Nearplaces" (373 : Nat) ({ cls := "java/lang/Math", name := "min", desc := "(II)I" } : Jvm.MethodName)) ∈ lw_all := lw_g (lw_at lw_m9 237 rfl) rfl
theorem q2216 : (Jvm.Cond.methodLink "Nearplaces" (376 : Nat) ({ cls := "Nearplaces", name := "pieceOf", desc := "(DI)J" } : Jvm.MethodName)) ∈ lw_all := lw_g (lw_at lw_m9 238 rfl) rfl
theorem q2217 : (Jvm.Cond.static ({ cls := "Nearplaces", name := "pieceOf", desc := "(DI)J" } : Jvm.MethodName)) ∈ lw_all := lw_g (lw_at lw_m9 239 rfl) rfl
theorem q2218 : (Jvm.Cond.code ({ cls := "Nearplaces", name := "pieceOf", desc := "(DI)J" } : Jvm.MethodName) prog_1_method_77_code (6 : Nat) (Option.some Jvm.ClassFile.FieldType.long)) ∈ lw_all := lw_g (lw_at lw_m10 0 rfl) rfl
theorem q2220 : (Jvm.Cond.instanceMethod ({ cls := "Nearplaces", name := "sum", desc := "(IIZI)I" } : Jvm.MethodName)) ∈ lw_all := lw_g (lw_at lw_m10 2 rfl) rfl
theorem q2221 : (Jvm.Cond.selects "Nearplaces" ({ cls := "Nearplaces", name := "sum", desc := "(IIZI)I" } : Jvm.MethodName) ({ cls := "Nearplaces", name := "sum", desc := "(IIZI)I" } : Jvm.MethodName)) ∈ lw_all := lw_g (lw_at lw_m10 3 rfl) rfl
theorem q2222 : (Jvm.Cond.code ({ cls := "Nearplaces", name := "sum", desc := "(IIZI)I" } : Jvm.MethodName) prog_1_method_49_code (9 : Nat) (Option.some Jvm.ClassFile.FieldType.int)) ∈ lw_all := lw_g (lw_at lw_m10 4 rfl) rfl
theorem q2224 : (Jvm.Cond.instanceMethod ({ cls := "Nearplaces", name := "error", desc := "(IIZI)I" } : Jvm.MethodName)) ∈ lw_all := lw_g (lw_at lw_m10 6 rfl) rfl
theorem q2225 : (Jvm.Cond.selects "Nearplaces" ({ cls := "Nearplaces", name := "error", desc := "(IIZI)I" } : Jvm.MethodName) ({ cls := "Nearplaces", name := "error", desc := "(IIZI)I" } : Jvm.MethodName)) ∈ lw_all := lw_g (lw_at lw_m10 7 rfl) rfl
theorem q2226 : (Jvm.Cond.code ({ cls := "Nearplaces", name := "error", desc := "(IIZI)I" } : Jvm.MethodName) prog_1_method_50_code (9 : Nat) (Option.some Jvm.ClassFile.FieldType.int)) ∈ lw_all := lw_g (lw_at lw_m10 8 rfl) rfl
theorem q2360 : (Jvm.Cond.instanceMethod ({ cls := "Nearplaces", name := "least", desc := "(III)I" } : Jvm.MethodName)) ∈ lw_all := lw_g (lw_at lw_m10 142 rfl) rfl
theorem q2361 : (Jvm.Cond.selects "Nearplaces" ({ cls := "Nearplaces", name := "least", desc := "(III)I" } : Jvm.MethodName) ({ cls := "Nearplaces", name := "least", desc := "(III)I" } : Jvm.MethodName)) ∈ lw_all := lw_g (lw_at lw_m10 143 rfl) rfl
theorem q2362 : (Jvm.Cond.code ({ cls := "Nearplaces", name := "least", desc := "(III)I" } : Jvm.MethodName) prog_1_method_54_code (13 : Nat) (Option.some Jvm.ClassFile.FieldType.int)) ∈ lw_all := lw_g (lw_at lw_m10 144 rfl) rfl
theorem q2363 : (Jvm.Cond.methodLink "Nearplaces" (221 : Nat) ({ cls := "Nearplaces", name := "has", desc := "(IDD)Z" } : Jvm.MethodName)) ∈ lw_all := lw_g (lw_at lw_m10 145 rfl) rfl
theorem q2364 : (Jvm.Cond.static ({ cls := "Nearplaces", name := "has", desc := "(IDD)Z" } : Jvm.MethodName)) ∈ lw_all := lw_g (lw_at lw_m10 146 rfl) rfl
theorem q2365 : (Jvm.Cond.code ({ cls := "Nearplaces", name := "has", desc := "(IDD)Z" } : Jvm.MethodName) prog_1_method_53_code (5 : Nat) (Option.some Jvm.ClassFile.FieldType.boolean)) ∈ lw_all := lw_g (lw_at lw_m10 147 rfl) rfl
theorem q2366 : (Jvm.Cond.constantLong "Nearplaces" (225 : Nat) (-9218868437227405312 : Int64)) ∈ lw_all := lw_g (lw_at lw_m10 148 rfl) rfl
theorem q2375 : (Jvm.Cond.instanceMethod ({ cls := "Nearplaces", name := "readBinary", desc := "(ZII)I" } : Jvm.MethodName)) ∈ lw_all := lw_g (lw_at lw_m10 157 rfl) rfl
theorem q2376 : (Jvm.Cond.selects "Nearplaces" ({ cls := "Nearplaces", name := "readBinary", desc := "(ZII)I" } : Jvm.MethodName) ({ cls := "Nearplaces", name := "readBinary", desc := "(ZII)I" } : Jvm.MethodName)) ∈ lw_all := lw_g (lw_at lw_m10 158 rfl) rfl
theorem q2377 : (Jvm.Cond.code ({ cls := "Nearplaces", name := "readBinary", desc := "(ZII)I" } : Jvm.MethodName) prog_1_method_65_code (6 : Nat) (Option.some Jvm.ClassFile.FieldType.int)) ∈ lw_all := lw_g (lw_at lw_m10 159 rfl) rfl
theorem q2379 : (Jvm.Cond.instanceMethod ({ cls := "Nearplaces", name := "readDecimal", desc := "(ZII)I" } : Jvm.MethodName)) ∈ lw_all := lw_g (lw_at lw_m10 161 rfl) rfl
theorem q2380 : (Jvm.Cond.selects "Nearplaces" ({ cls := "Nearplaces", name := "readDecimal", desc := "(ZII)I" } : Jvm.MethodName) ({ cls := "Nearplaces", name := "readDecimal", desc := "(ZII)I" } : Jvm.MethodName)) ∈ lw_all := lw_g (lw_at lw_m10 162 rfl) rfl
theorem q2381 : (Jvm.Cond.code ({ cls := "Nearplaces", name := "readDecimal", desc := "(ZII)I" } : Jvm.MethodName) prog_1_method_66_code (6 : Nat) (Option.some Jvm.ClassFile.FieldType.int)) ∈ lw_all := lw_g (lw_at lw_m10 163 rfl) rfl
theorem q2388 : (Jvm.Cond.instanceMethod ({ cls := "Nearplaces", name := "digest", desc := "()J" } : Jvm.MethodName)) ∈ lw_all := lw_g (lw_at lw_m10 170 rfl) rfl
theorem q2389 : (Jvm.Cond.selects "Nearplaces" ({ cls := "Nearplaces", name := "digest", desc := "()J" } : Jvm.MethodName) ({ cls := "Nearplaces", name := "digest", desc := "()J" } : Jvm.MethodName)) ∈ lw_all := lw_g (lw_at lw_m10 171 rfl) rfl
theorem q2390 : (Jvm.Cond.code ({ cls := "Nearplaces", name := "digest", desc := "()J" } : Jvm.MethodName) prog_1_method_102_code (5 : Nat) (Option.some Jvm.ClassFile.FieldType.long)) ∈ lw_all := lw_g (lw_at lw_m10 172 rfl) rfl
theorem q2391 : (Jvm.Cond.constantLong "Nearplaces" (423 : Nat) (7924 : Int64)) ∈ lw_all := lw_g (lw_at lw_m10 173 rfl) rfl
theorem q2392 : (Jvm.Cond.methodLink "Nearplaces" (425 : Nat) ({ cls := "Nearplaces", name := "upper", desc := "(ZI)I" } : Jvm.MethodName)) ∈ lw_all := lw_g (lw_at lw_m10 174 rfl) rfl
theorem q2393 : (Jvm.Cond.methodLink "Nearplaces" (429 : Nat) ({ cls := "Nearplaces", name := "add", desc := "(JJ)J" } : Jvm.MethodName)) ∈ lw_all := lw_g (lw_at lw_m10 175 rfl) rfl
theorem q2394 : (Jvm.Cond.static ({ cls := "Nearplaces", name := "add", desc := "(JJ)J" } : Jvm.MethodName)) ∈ lw_all := lw_g (lw_at lw_m10 176 rfl) rfl
theorem q2395 : (Jvm.Cond.code ({ cls := "Nearplaces", name := "add", desc := "(JJ)J" } : Jvm.MethodName) prog_1_method_101_code (4 : Nat) (Option.some Jvm.ClassFile.FieldType.long)) ∈ lw_all := lw_g (lw_at lw_m10 177 rfl) rfl
theorem q2396 : (Jvm.Cond.constantLong "Nearplaces" (421 : Nat) (31 : Int64)) ∈ lw_all := lw_g (lw_at lw_m10 178 rfl) rfl
theorem q2397 : (Jvm.Cond.methodLink "Nearplaces" (432 : Nat) ({ cls := "Nearplaces", name := "lower", desc := "(ZI)I" } : Jvm.MethodName)) ∈ lw_all := lw_g (lw_at lw_m10 179 rfl) rfl
theorem q2398 : (Jvm.Cond.methodLink "Nearplaces" (435 : Nat) ({ cls := "Nearplaces", name := "window", desc := "(ZI)I" } : Jvm.MethodName)) ∈ lw_all := lw_g (lw_at lw_m10 180 rfl) rfl
theorem q2399 : (Jvm.Cond.methodLink "Nearplaces" (438 : Nat) ({ cls := "Nearplaces", name := "offset", desc := "(ZI)I" } : Jvm.MethodName)) ∈ lw_all := lw_g (lw_at lw_m10 181 rfl) rfl
theorem q2400 : (Jvm.Cond.methodLink "Nearplaces" (441 : Nat) ({ cls := "Nearplaces", name := "power", desc := "(I)I" } : Jvm.MethodName)) ∈ lw_all := lw_g (lw_at lw_m10 182 rfl) rfl
theorem q2401 : (Jvm.Cond.methodLink "Nearplaces" (444 : Nat) ({ cls := "Nearplaces", name := "decimals", desc := "(ZI)I" } : Jvm.MethodName)) ∈ lw_all := lw_g (lw_at lw_m10 183 rfl) rfl
theorem q2402 : (Jvm.Cond.methodLink "Nearplaces" (447 : Nat) ({ cls := "Nearplaces", name := "order", desc := "(ZIZI)I" } : Jvm.MethodName)) ∈ lw_all := lw_g (lw_at lw_m10 184 rfl) rfl
theorem q2403 : (Jvm.Cond.methodLink "Nearplaces" (451 : Nat) ({ cls := "Nearplaces", name := "isWithin", desc := "(II)Z" } : Jvm.MethodName)) ∈ lw_all := lw_g (lw_at lw_m10 185 rfl) rfl
theorem q2404 : (Jvm.Cond.methodLink "Nearplaces" (455 : Nat) ({ cls := "Nearplaces", name := "isSound", desc := "()Z" } : Jvm.MethodName)) ∈ lw_all := lw_g (lw_at lw_m10 186 rfl) rfl
theorem q2405 : (Jvm.Cond.instanceMethod ({ cls := "Nearplaces", name := "isSound", desc := "()Z" } : Jvm.MethodName)) ∈ lw_all := lw_g (lw_at lw_m10 187 rfl) rfl
theorem q2406 : (Jvm.Cond.selects "Nearplaces" ({ cls := "Nearplaces", name := "isSound", desc := "()Z" } : Jvm.MethodName) ({ cls := "Nearplaces", name := "isSound", desc := "()Z" } : Jvm.MethodName)) ∈ lw_all := lw_g (lw_at lw_m10 188 rfl) rfl
theorem q2407 : (Jvm.Cond.code ({ cls := "Nearplaces", name := "isSound", desc := "()Z" } : Jvm.MethodName) prog_1_method_100_code (4 : Nat) (Option.some Jvm.ClassFile.FieldType.boolean)) ∈ lw_all := lw_g (lw_at lw_m10 189 rfl) rfl
theorem q2408 : (Jvm.Cond.methodLink "Nearplaces" (415 : Nat) ({ cls := "Nearplaces", name := "isArgumentSound", desc := "(D)Z" } : Jvm.MethodName)) ∈ lw_all := lw_g (lw_at lw_m10 190 rfl) rfl
theorem q2409 : (Jvm.Cond.static ({ cls := "Nearplaces", name := "isArgumentSound", desc := "(D)Z" } : Jvm.MethodName)) ∈ lw_all := lw_g (lw_at lw_m10 191 rfl) rfl
theorem q2410 : (Jvm.Cond.code ({ cls := "Nearplaces", name := "isArgumentSound", desc := "(D)Z" } : Jvm.MethodName) prog_1_method_98_code (5 : Nat) (Option.some Jvm.ClassFile.FieldType.boolean)) ∈ lw_all := lw_g (lw_at lw_m10 192 rfl) rfl
theorem q2411 : (Jvm.Cond.methodLink "Nearplaces" (418 : Nat) ({ cls := "Nearplaces", name := "isPairSound", desc := "(DD)Z" } : Jvm.MethodName)) ∈ lw_all := lw_g (lw_at lw_m10 193 rfl) rfl
theorem q2412 : (Jvm.Cond.static ({ cls := "Nearplaces", name := "isPairSound", desc := "(DD)Z" } : Jvm.MethodName)) ∈ lw_all := lw_g (lw_at lw_m10 194 rfl) rfl
theorem q2413 : (Jvm.Cond.code ({ cls := "Nearplaces", name := "isPairSound", desc := "(DD)Z" } : Jvm.MethodName) prog_1_method_99_code (5 : Nat) (Option.some Jvm.ClassFile.FieldType.boolean)) ∈ lw_all := lw_g (lw_at lw_m10 195 rfl) rfl
theorem q2420 : (Jvm.Cond.instanceMethod ({ cls := "Nearplaces", name := "knock", desc := "()I" } : Jvm.MethodName)) ∈ lw_all := lw_g (lw_at lw_m10 202 rfl) rfl
theorem q2421 : (Jvm.Cond.selects "Nearplaces" ({ cls := "Nearplaces", name := "knock", desc := "()I" } : Jvm.MethodName) ({ cls := "Nearplaces", name := "knock", desc := "()I" } : Jvm.MethodName)) ∈ lw_all := lw_g (lw_at lw_m10 203 rfl) rfl
theorem q2422 : (Jvm.Cond.code ({ cls := "Nearplaces", name := "knock", desc := "()I" } : Jvm.MethodName) prog_1_method_96_code (1 : Nat) (Option.some Jvm.ClassFile.FieldType.int)) ∈ lw_all := lw_g (lw_at lw_m10 204 rfl) rfl
theorem q277 : (Jvm.Cond.sameMethod "[B" "java/lang/Object" "clone" "()Ljava/lang/Object;") ∈ lw_all := lw_g (lw_at lw_m1 219 rfl) rfl
theorem q280 : (Jvm.Cond.selects "[B" ({ cls := "[B", name := "clone", desc := "()Ljava/lang/Object;" } : Jvm.MethodName) ({ cls := "java/lang/Object", name := "clone", desc := "()Ljava/lang/Object;" } : Jvm.MethodName)) ∈ lw_all := lw_g (lw_at lw_m1 222 rfl) rfl
theorem q281 : (Jvm.Cond.castable "[B" "java/lang/Cloneable") ∈ lw_tbl := lw_at lw_m1 223 rfl
theorem q1023 : (Jvm.Cond.sameMethod "[I" "java/lang/Object" "clone" "()Ljava/lang/Object;") ∈ lw_all := lw_g (lw_at lw_m5 5 rfl) rfl
theorem q1024 : (Jvm.Cond.selects "[I" ({ cls := "[I", name := "clone", desc := "()Ljava/lang/Object;" } : Jvm.MethodName) ({ cls := "java/lang/Object", name := "clone", desc := "()Ljava/lang/Object;" } : Jvm.MethodName)) ∈ lw_all := lw_g (lw_at lw_m5 6 rfl) rfl
theorem q1025 : (Jvm.Cond.castable "[I" "java/lang/Cloneable") ∈ lw_tbl := lw_at lw_m5 7 rfl
theorem q619 : (Jvm.Cond.interfaceMethod "java/lang/CharSequence" "java/lang/CharSequence" "length" "()I") ∈ lw_tbl := lw_at lw_m3 81 rfl
theorem q620 : (Jvm.Cond.declares ({ cls := "java/lang/CharSequence", name := "length", desc := "()I" } : Jvm.MethodName)) ∈ lw_tbl := lw_at lw_m3 82 rfl
theorem q661 : (Jvm.Cond.interfaceMethod "java/lang/CharSequence" "java/lang/CharSequence" "charAt" "(I)C") ∈ lw_tbl := lw_at lw_m3 123 rfl
theorem q662 : (Jvm.Cond.declares ({ cls := "java/lang/CharSequence", name := "charAt", desc := "(I)C" } : Jvm.MethodName)) ∈ lw_tbl := lw_at lw_m3 124 rfl
theorem q690 : (Jvm.Cond.interfaceMethod "java/lang/CharSequence" "java/lang/CharSequence" "subSequence" "(II)Ljava/lang/CharSequence;") ∈ lw_tbl := lw_at lw_m3 152 rfl
theorem q691 : (Jvm.Cond.declares ({ cls := "java/lang/CharSequence", name := "subSequence", desc := "(II)Ljava/lang/CharSequence;" } : Jvm.MethodName)) ∈ lw_tbl := lw_at lw_m3 153 rfl
theorem q74 : (Jvm.Cond.initialized "java/lang/System") ∈ lw_all := lw_g (lw_at lw_m1 16 rfl) rfl
theorem q287 : (Jvm.Cond.static ({ cls := "java/lang/System", name := "arraycopy", desc := "(Ljava/lang/Object;ILjava/lang/Object;II)V" } : Jvm.MethodName)) ∈ lw_all := lw_g (lw_at lw_m1 229 rfl) rfl
theorem q288 : (Jvm.Cond.native ({ cls := "java/lang/System", name := "arraycopy", desc := "(Ljava/lang/Object;ILjava/lang/Object;II)V" } : Jvm.MethodName)) ∈ lw_all := lw_g (lw_at lw_m1 230 rfl) rfl
theorem q89 : (Jvm.Cond.initialized "jdk/internal/misc/UnsafeConstants") ∈ lw_all := lw_g (lw_at lw_m1 31 rfl) rfl
theorem q2289 : (Jvm.Cond.laysStatic "jdk/internal/misc/UnsafeConstants" "BIG_ENDIAN" "Z") ∈ lw_tbl := lw_at lw_m10 71 rfl
theorem q167 : (Jvm.Cond.arrayClass Jvm.ClassFile.FieldType.byte) ∈ lw_all := lw_g (lw_at lw_m1 109 rfl) rfl
theorem q367 : (Jvm.Cond.arrayClass Jvm.ClassFile.FieldType.double) ∈ lw_all := lw_g (lw_at lw_m2 69 rfl) rfl
theorem q368 : (Jvm.Cond.arrayClass Jvm.ClassFile.FieldType.boolean) ∈ lw_all := lw_g (lw_at lw_m2 70 rfl) rfl
theorem q989 : (Jvm.Cond.arrayClass Jvm.ClassFile.FieldType.long) ∈ lw_all := lw_g (lw_at lw_m4 211 rfl) rfl
theorem q990 : (Jvm.Cond.arrayClass Jvm.ClassFile.FieldType.int) ∈ lw_all := lw_g (lw_at lw_m4 212 rfl) rfl
theorem q1696 : (Jvm.Cond.arrayOver (Jvm.ClassFile.FieldType.object "java/math/BigInteger")) ∈ lw_tbl := lw_at lw_m7 198 rfl
theorem q2448 : (Jvm.Cond.arrayClass Jvm.ClassFile.FieldType.char) ∈ lw_all := lw_g (lw_at lw_m10 230 rfl) rfl
theorem in_J0 : ∀ w ∈ wsJ00, w ∈ lw_all := lw_in wsJ00 [157, 158, 159, 160, 161] (by decide +kernel) (by decide +kernel)
theorem in_J18 : ∀ w ∈ wsJ180, w ∈ lw_all := lw_in wsJ180 [488, 489, 490, 491, 492, 508] (by decide +kernel) (by decide +kernel)
theorem in_J21 : ∀ w ∈ wsJ210, w ∈ lw_all := lw_in wsJ210 [639, 640, 641, 642, 643, 655] (by decide +kernel) (by decide +kernel)
theorem in_J22 : ∀ w ∈ wsJ220, w ∈ lw_all := lw_in wsJ220 [841, 843, 845, 847, 849, 851] (by decide +kernel) (by decide +kernel)
theorem in_J24 : ∀ w ∈ wsJ240, w ∈ lw_all := lw_in wsJ240 [982, 984, 986] (by decide +kernel) (by decide +kernel)
theorem in_J3 : ∀ w ∈ wsJ30, w ∈ lw_all := lw_in wsJ30 [1778, 1779, 1780, 1781, 1782, 1787] (by decide +kernel) (by decide +kernel)
theorem in_J4 : ∀ w ∈ wsJ40, w ∈ lw_all := lw_in wsJ40 [134, 136, 138, 140, 142, 144] (by decide +kernel) (by decide +kernel)
theorem in_J5 : ∀ w ∈ wsJ50, w ∈ lw_all := lw_in wsJ50 [168, 170, 527, 529] (by decide +kernel) (by decide +kernel)
theorem in_J7 : ∀ w ∈ wsJ70, w ∈ lw_all := lw_in wsJ70 [359, 361, 363, 365] (by decide +kernel) (by decide +kernel)
theorem in_X0 : ∀ w ∈ wsX00, w ∈ lw_all := lw_in wsX00 [1727] (by decide +kernel) (by decide +kernel)
theorem in_X1 : ∀ w ∈ wsX10, w ∈ lw_all := lw_in wsX10 [1709, 1711, 1713, 1715, 1717, 1719, 1721, 1723] (by decide +kernel) (by decide +kernel)
