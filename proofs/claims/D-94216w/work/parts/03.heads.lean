set_option maxRecDepth 100000
/-! java/lang/Throwable -/
def RJ0 : String := "java/lang/Throwable"
def TJ0 : u_T := fun k => match k with
  | 0 => ("java/lang/Throwable", "cause", "Ljava/lang/Throwable;", false)
  | 1 => ("java/lang/Throwable", "stackTrace", "[Ljava/lang/StackTraceElement;", false)
  | 2 => ("java/lang/Throwable", "suppressedExceptions", "Ljava/util/List;", false)
  | 3 => ("java/lang/Throwable", "detailMessage", "Ljava/lang/String;", false)
  | _ => ("java/lang/Throwable", "backtrace", "Ljava/lang/Object;", false)
def tyJ0 : Nat → FieldType := fun k => match k with
  | 0 => .object "java/lang/Throwable"
  | 1 => .array (.object "java/lang/StackTraceElement")
  | 2 => .object "java/util/List"
  | 3 => .object "java/lang/String"
  | _ => .object "java/lang/Object"
abbrev wsJ00 : List Cond := u_ws RJ0 TJ0 5
theorem nmJ0 : ∀ a, a < 5 → ∀ b, b < 5 → a ≠ b → (TJ0 a).2.1 ≠ (TJ0 b).2.1 := by decide +kernel
theorem tyJ0_ok : ∀ k, k < 5 → parseFieldDescriptor (TJ0 k).2.2.1 = some (tyJ0 k) := by decide +kernel
abbrev cJ0_init : ByteArray := prog_33_method_2_code
def yJ0_init : MethodName := ⟨RJ0, "<init>", "(Ljava/lang/String;)V"⟩
abbrev cJ0_init_2 : ByteArray := prog_33_method_1_code
def yJ0_init_2 : MethodName := ⟨RJ0, "<init>", "()V"⟩
theorem q89 : (Jvm.Cond.initialized "java/lang/Throwable") ∈ lw_all := lw_g (lw_at lw_m1 7 rfl) rfl
theorem q422 : (Jvm.Cond.instanceMethod ({ cls := "java/lang/Throwable", name := "<init>", desc := "(Ljava/lang/String;)V" } : Jvm.MethodName)) ∈ lw_all := lw_g (lw_at lw_m2 100 rfl) rfl
theorem q423 : (Jvm.Cond.code ({ cls := "java/lang/Throwable", name := "<init>", desc := "(Ljava/lang/String;)V" } : Jvm.MethodName) prog_33_method_2_code (2 : Nat) (Option.none : Option Jvm.ClassFile.FieldType)) ∈ lw_all := lw_g (lw_at lw_m2 101 rfl) rfl
theorem q424 : (Jvm.Cond.methodLink "java/lang/Throwable" (1 : Nat) ({ cls := "java/lang/Object", name := "<init>", desc := "()V" } : Jvm.MethodName)) ∈ lw_all := lw_g (lw_at lw_m2 102 rfl) rfl
theorem q425 : (Jvm.Cond.fieldLink "java/lang/Throwable" (13 : Nat) "java/lang/Throwable" "UNASSIGNED_STACK" "[Ljava/lang/StackTraceElement;") ∈ lw_all := lw_g (lw_at lw_m2 103 rfl) rfl
theorem q426 : (Jvm.Cond.laysStatic "java/lang/Throwable" "UNASSIGNED_STACK" "[Ljava/lang/StackTraceElement;") ∈ lw_tbl := lw_at lw_m2 104 rfl
theorem q427 : (Jvm.Cond.fieldLink "java/lang/Throwable" (20 : Nat) "java/lang/Throwable" "SUPPRESSED_SENTINEL" "Ljava/util/List;") ∈ lw_all := lw_g (lw_at lw_m2 105 rfl) rfl
theorem q428 : (Jvm.Cond.laysStatic "java/lang/Throwable" "SUPPRESSED_SENTINEL" "Ljava/util/List;") ∈ lw_tbl := lw_at lw_m2 106 rfl
theorem q429 : (Jvm.Cond.methodLink "java/lang/Throwable" (27 : Nat) ({ cls := "java/lang/Throwable", name := "fillInStackTrace", desc := "()Ljava/lang/Throwable;" } : Jvm.MethodName)) ∈ lw_all := lw_g (lw_at lw_m2 107 rfl) rfl
theorem q430 : (Jvm.Cond.instanceMethod ({ cls := "java/lang/Throwable", name := "fillInStackTrace", desc := "()Ljava/lang/Throwable;" } : Jvm.MethodName)) ∈ lw_all := lw_g (lw_at lw_m2 108 rfl) rfl
theorem q431 : (Jvm.Cond.sameMethod "java/lang/Throwable" "java/lang/Throwable" "fillInStackTrace" "()Ljava/lang/Throwable;") ∈ lw_all := lw_g (lw_at lw_m2 109 rfl) rfl
theorem q435 : (Jvm.Cond.codeSync ({ cls := "java/lang/Throwable", name := "fillInStackTrace", desc := "()Ljava/lang/Throwable;" } : Jvm.MethodName) prog_33_method_18_code (1 : Nat) (Option.some (Jvm.ClassFile.FieldType.object "java/lang/Throwable"))) ∈ lw_all := lw_g (lw_at lw_m2 113 rfl) rfl
theorem q436 : (Jvm.Cond.methodLink "java/lang/Throwable" (202 : Nat) ({ cls := "java/lang/Throwable", name := "fillInStackTrace", desc := "(I)Ljava/lang/Throwable;" } : Jvm.MethodName)) ∈ lw_all := lw_g (lw_at lw_m2 114 rfl) rfl
theorem q437 : (Jvm.Cond.privateMethod ({ cls := "java/lang/Throwable", name := "fillInStackTrace", desc := "(I)Ljava/lang/Throwable;" } : Jvm.MethodName)) ∈ lw_tbl := lw_at lw_m2 115 rfl
theorem q438 : (Jvm.Cond.instanceMethod ({ cls := "java/lang/Throwable", name := "fillInStackTrace", desc := "(I)Ljava/lang/Throwable;" } : Jvm.MethodName)) ∈ lw_all := lw_g (lw_at lw_m2 116 rfl) rfl
theorem q439 : (Jvm.Cond.instantiable "java/lang/Throwable" (6 : Nat)) ∈ lw_all := lw_g (lw_at lw_m2 117 rfl) rfl
theorem q440 : (Jvm.Cond.native ({ cls := "java/lang/Throwable", name := "fillInStackTrace", desc := "(I)Ljava/lang/Throwable;" } : Jvm.MethodName)) ∈ lw_all := lw_g (lw_at lw_m2 118 rfl) rfl
theorem q441 : (Jvm.Cond.fieldLink "java/lang/Throwable" (198 : Nat) "java/lang/Throwable" "backtrace" "Ljava/lang/Object;") ∈ lw_all := lw_g (lw_at lw_m2 119 rfl) rfl
theorem q442 : (Jvm.Cond.fieldLink "java/lang/Throwable" (31 : Nat) "java/lang/Throwable" "detailMessage" "Ljava/lang/String;") ∈ lw_all := lw_g (lw_at lw_m2 120 rfl) rfl
theorem q443 : (Jvm.Cond.fieldLink "java/lang/Throwable" (7 : Nat) "java/lang/Throwable" "cause" "Ljava/lang/Throwable;") ∈ lw_all := lw_g (lw_at lw_m2 121 rfl) rfl
theorem q444 : (Jvm.Cond.fieldLink "java/lang/Throwable" (17 : Nat) "java/lang/Throwable" "stackTrace" "[Ljava/lang/StackTraceElement;") ∈ lw_all := lw_g (lw_at lw_m2 122 rfl) rfl
theorem q445 : (Jvm.Cond.fieldLink "java/lang/Throwable" (24 : Nat) "java/lang/Throwable" "suppressedExceptions" "Ljava/util/List;") ∈ lw_all := lw_g (lw_at lw_m2 123 rfl) rfl
theorem q447 : (Jvm.Cond.soleField "java/lang/Throwable" "backtrace") ∈ lw_all := lw_g (lw_at lw_m2 125 rfl) rfl
theorem q449 : (Jvm.Cond.soleField "java/lang/Throwable" "detailMessage") ∈ lw_all := lw_g (lw_at lw_m2 127 rfl) rfl
theorem q451 : (Jvm.Cond.soleField "java/lang/Throwable" "cause") ∈ lw_all := lw_g (lw_at lw_m2 129 rfl) rfl
theorem q453 : (Jvm.Cond.soleField "java/lang/Throwable" "stackTrace") ∈ lw_all := lw_g (lw_at lw_m2 131 rfl) rfl
theorem q455 : (Jvm.Cond.soleField "java/lang/Throwable" "depth") ∈ lw_all := lw_g (lw_at lw_m2 133 rfl) rfl
theorem q457 : (Jvm.Cond.soleField "java/lang/Throwable" "suppressedExceptions") ∈ lw_all := lw_g (lw_at lw_m2 135 rfl) rfl
theorem q464 : (Jvm.Cond.declares ({ cls := "java/lang/Throwable", name := "<init>", desc := "()V" } : Jvm.MethodName)) ∈ lw_tbl := lw_at lw_m2 142 rfl
theorem q465 : (Jvm.Cond.declares ({ cls := "java/lang/Throwable", name := "<init>", desc := "(Ljava/lang/String;)V" } : Jvm.MethodName)) ∈ lw_tbl := lw_at lw_m2 143 rfl
theorem q467 : (Jvm.Cond.lays "java/lang/Throwable" "java/lang/Throwable" "cause" "Ljava/lang/Throwable;") ∈ lw_all := lw_g (lw_at lw_m2 145 rfl) rfl
theorem q468 : (Jvm.Cond.lays "java/lang/Throwable" "java/lang/Throwable" "stackTrace" "[Ljava/lang/StackTraceElement;") ∈ lw_all := lw_g (lw_at lw_m2 146 rfl) rfl
theorem q469 : (Jvm.Cond.lays "java/lang/Throwable" "java/lang/Throwable" "suppressedExceptions" "Ljava/util/List;") ∈ lw_all := lw_g (lw_at lw_m2 147 rfl) rfl
theorem q470 : (Jvm.Cond.lays "java/lang/Throwable" "java/lang/Throwable" "detailMessage" "Ljava/lang/String;") ∈ lw_all := lw_g (lw_at lw_m2 148 rfl) rfl
theorem q471 : (Jvm.Cond.lays "java/lang/Throwable" "java/lang/Throwable" "backtrace" "Ljava/lang/Object;") ∈ lw_all := lw_g (lw_at lw_m2 149 rfl) rfl
theorem q472 : (Jvm.Cond.fieldLink "java/lang/Throwable" (198 : Nat) "java/lang/Throwable" "backtrace" "Ljava/lang/Object;") ∈ lw_all := lw_g (lw_at lw_m2 150 rfl) rfl
theorem q473 : (Jvm.Cond.superclass "java/lang/Throwable" "java/lang/Object") ∈ lw_all := lw_g (lw_at lw_m2 151 rfl) rfl
theorem q474 : (Jvm.Cond.instanceMethod ({ cls := "java/lang/Throwable", name := "<init>", desc := "()V" } : Jvm.MethodName)) ∈ lw_all := lw_g (lw_at lw_m2 152 rfl) rfl
theorem q475 : (Jvm.Cond.code ({ cls := "java/lang/Throwable", name := "<init>", desc := "()V" } : Jvm.MethodName) prog_33_method_1_code (1 : Nat) (Option.none : Option Jvm.ClassFile.FieldType)) ∈ lw_all := lw_g (lw_at lw_m2 153 rfl) rfl
theorem q1900 : (Jvm.Cond.sameMethod "java/lang/Throwable" "java/lang/Throwable" "fillInStackTrace" "(I)Ljava/lang/Throwable;") ∈ lw_all := lw_g (lw_at lw_m8 138 rfl) rfl
theorem q1922 : (Jvm.Cond.castable "java/lang/Throwable" "java/lang/Object") ∈ lw_tbl := lw_at lw_m8 160 rfl
theorem in_J0 : ∀ w ∈ wsJ00, w ∈ lw_all := lw_in wsJ00 [467, 468, 469, 470, 471] (by decide +kernel) (by decide +kernel)

/-! java/lang/Exception -/
def RJ1 : String := "java/lang/Exception"
abbrev cJ1_init : ByteArray := prog_24_method_2_code
def yJ1_init : MethodName := ⟨RJ1, "<init>", "(Ljava/lang/String;)V"⟩
abbrev cJ1_init_2 : ByteArray := prog_24_method_1_code
def yJ1_init_2 : MethodName := ⟨RJ1, "<init>", "()V"⟩
theorem q90 : (Jvm.Cond.initialized "java/lang/Exception") ∈ lw_all := lw_g (lw_at lw_m1 8 rfl) rfl
theorem q419 : (Jvm.Cond.instanceMethod ({ cls := "java/lang/Exception", name := "<init>", desc := "(Ljava/lang/String;)V" } : Jvm.MethodName)) ∈ lw_all := lw_g (lw_at lw_m2 97 rfl) rfl
theorem q420 : (Jvm.Cond.code ({ cls := "java/lang/Exception", name := "<init>", desc := "(Ljava/lang/String;)V" } : Jvm.MethodName) prog_24_method_2_code (2 : Nat) (Option.none : Option Jvm.ClassFile.FieldType)) ∈ lw_all := lw_g (lw_at lw_m2 98 rfl) rfl
theorem q421 : (Jvm.Cond.methodLink "java/lang/Exception" (7 : Nat) ({ cls := "java/lang/Throwable", name := "<init>", desc := "(Ljava/lang/String;)V" } : Jvm.MethodName)) ∈ lw_all := lw_g (lw_at lw_m2 99 rfl) rfl
theorem q462 : (Jvm.Cond.declares ({ cls := "java/lang/Exception", name := "<init>", desc := "()V" } : Jvm.MethodName)) ∈ lw_tbl := lw_at lw_m2 140 rfl
theorem q463 : (Jvm.Cond.declares ({ cls := "java/lang/Exception", name := "<init>", desc := "(Ljava/lang/String;)V" } : Jvm.MethodName)) ∈ lw_tbl := lw_at lw_m2 141 rfl
theorem q704 : (Jvm.Cond.instanceMethod ({ cls := "java/lang/Exception", name := "<init>", desc := "()V" } : Jvm.MethodName)) ∈ lw_all := lw_g (lw_at lw_m3 142 rfl) rfl
theorem q705 : (Jvm.Cond.code ({ cls := "java/lang/Exception", name := "<init>", desc := "()V" } : Jvm.MethodName) prog_24_method_1_code (1 : Nat) (Option.none : Option Jvm.ClassFile.FieldType)) ∈ lw_all := lw_g (lw_at lw_m3 143 rfl) rfl
theorem q706 : (Jvm.Cond.methodLink "java/lang/Exception" (1 : Nat) ({ cls := "java/lang/Throwable", name := "<init>", desc := "()V" } : Jvm.MethodName)) ∈ lw_all := lw_g (lw_at lw_m3 144 rfl) rfl

/-! java/util/Arrays -/
def RJ10 : String := "java/util/Arrays"
abbrev cJ10_fill : ByteArray := prog_36_method_103_code
def yJ10_fill : MethodName := ⟨RJ10, "fill", "([II)V"⟩
abbrev cJ10_copyOf : ByteArray := prog_36_method_123_code
def yJ10_copyOf : MethodName := ⟨RJ10, "copyOf", "([II)[I"⟩
theorem q110 : (Jvm.Cond.initialized "java/util/Arrays") ∈ lw_all := lw_g (lw_at lw_m1 28 rfl) rfl
theorem q985 : (Jvm.Cond.static ({ cls := "java/util/Arrays", name := "fill", desc := "([II)V" } : Jvm.MethodName)) ∈ lw_all := lw_g (lw_at lw_m4 183 rfl) rfl
theorem q986 : (Jvm.Cond.code ({ cls := "java/util/Arrays", name := "fill", desc := "([II)V" } : Jvm.MethodName) prog_36_method_103_code (4 : Nat) (Option.none : Option Jvm.ClassFile.FieldType)) ∈ lw_all := lw_g (lw_at lw_m4 184 rfl) rfl
theorem q1013 : (Jvm.Cond.static ({ cls := "java/util/Arrays", name := "copyOf", desc := "([II)[I" } : Jvm.MethodName)) ∈ lw_all := lw_g (lw_at lw_m4 211 rfl) rfl
theorem q1014 : (Jvm.Cond.code ({ cls := "java/util/Arrays", name := "copyOf", desc := "([II)[I" } : Jvm.MethodName) prog_36_method_123_code (3 : Nat) (Option.some (Jvm.ClassFile.FieldType.array Jvm.ClassFile.FieldType.int))) ∈ lw_all := lw_g (lw_at lw_m4 212 rfl) rfl
theorem q1015 : (Jvm.Cond.methodLink "java/util/Arrays" (316 : Nat) ({ cls := "[I", name := "clone", desc := "()Ljava/lang/Object;" } : Jvm.MethodName)) ∈ lw_all := lw_g (lw_at lw_m4 213 rfl) rfl
theorem q1021 : (Jvm.Cond.classLink "java/util/Arrays" (317 : Nat) "[I") ∈ lw_all := lw_g (lw_at lw_m4 219 rfl) rfl
theorem q1022 : (Jvm.Cond.methodLink "java/util/Arrays" (304 : Nat) ({ cls := "java/lang/Math", name := "min", desc := "(II)I" } : Jvm.MethodName)) ∈ lw_all := lw_g (lw_at lw_m4 220 rfl) rfl
theorem q1023 : (Jvm.Cond.methodLink "java/util/Arrays" (150 : Nat) ({ cls := "java/lang/System", name := "arraycopy", desc := "(Ljava/lang/Object;ILjava/lang/Object;II)V" } : Jvm.MethodName)) ∈ lw_all := lw_g (lw_at lw_m4 221 rfl) rfl

/-! java/lang/Integer -/
def RJ11 : String := "java/lang/Integer"
abbrev cJ11_bitCount : ByteArray := prog_25_method_49_code
def yJ11_bitCount : MethodName := ⟨RJ11, "bitCount", "(I)I"⟩
theorem q112 : (Jvm.Cond.initialized "java/lang/Integer") ∈ lw_all := lw_g (lw_at lw_m1 30 rfl) rfl
theorem q1075 : (Jvm.Cond.static ({ cls := "java/lang/Integer", name := "bitCount", desc := "(I)I" } : Jvm.MethodName)) ∈ lw_all := lw_g (lw_at lw_m5 33 rfl) rfl
theorem q1076 : (Jvm.Cond.code ({ cls := "java/lang/Integer", name := "bitCount", desc := "(I)I" } : Jvm.MethodName) prog_25_method_49_code (1 : Nat) (Option.some Jvm.ClassFile.FieldType.int)) ∈ lw_all := lw_g (lw_at lw_m5 34 rfl) rfl
theorem q1077 : (Jvm.Cond.constant "java/lang/Integer" (265 : Nat) (1431655765 : Int32)) ∈ lw_all := lw_g (lw_at lw_m5 35 rfl) rfl
theorem q1078 : (Jvm.Cond.constant "java/lang/Integer" (266 : Nat) (858993459 : Int32)) ∈ lw_all := lw_g (lw_at lw_m5 36 rfl) rfl
theorem q1079 : (Jvm.Cond.constant "java/lang/Integer" (267 : Nat) (252645135 : Int32)) ∈ lw_all := lw_g (lw_at lw_m5 37 rfl) rfl

/-! java/lang/Object -/
def RJ12 : String := "java/lang/Object"
abbrev cJ12_init : ByteArray := object_method_1_code
def yJ12_init : MethodName := ⟨RJ12, "<init>", "()V"⟩
theorem q119 : (Jvm.Cond.instanceMethod ({ cls := "java/lang/Object", name := "<init>", desc := "()V" } : Jvm.MethodName)) ∈ lw_all := lw_g (lw_at lw_m1 37 rfl) rfl
theorem q120 : (Jvm.Cond.code ({ cls := "java/lang/Object", name := "<init>", desc := "()V" } : Jvm.MethodName) object_method_1_code (1 : Nat) (Option.none : Option Jvm.ClassFile.FieldType)) ∈ lw_all := lw_g (lw_at lw_m1 38 rfl) rfl
theorem q1017 : (Jvm.Cond.native ({ cls := "java/lang/Object", name := "clone", desc := "()Ljava/lang/Object;" } : Jvm.MethodName)) ∈ lw_all := lw_g (lw_at lw_m4 215 rfl) rfl
theorem q1018 : (Jvm.Cond.instanceMethod ({ cls := "java/lang/Object", name := "clone", desc := "()Ljava/lang/Object;" } : Jvm.MethodName)) ∈ lw_all := lw_g (lw_at lw_m4 216 rfl) rfl
theorem q1902 : (Jvm.Cond.initialized "java/lang/Object") ∈ lw_all := lw_g (lw_at lw_m8 140 rfl) rfl

/-! java/lang/RuntimeException -/
def RJ2 : String := "java/lang/RuntimeException"
abbrev cJ2_init : ByteArray := prog_28_method_2_code
def yJ2_init : MethodName := ⟨RJ2, "<init>", "(Ljava/lang/String;)V"⟩
abbrev cJ2_init_2 : ByteArray := prog_28_method_1_code
def yJ2_init_2 : MethodName := ⟨RJ2, "<init>", "()V"⟩
theorem q91 : (Jvm.Cond.initialized "java/lang/RuntimeException") ∈ lw_all := lw_g (lw_at lw_m1 9 rfl) rfl
theorem q416 : (Jvm.Cond.instanceMethod ({ cls := "java/lang/RuntimeException", name := "<init>", desc := "(Ljava/lang/String;)V" } : Jvm.MethodName)) ∈ lw_all := lw_g (lw_at lw_m2 94 rfl) rfl
theorem q417 : (Jvm.Cond.code ({ cls := "java/lang/RuntimeException", name := "<init>", desc := "(Ljava/lang/String;)V" } : Jvm.MethodName) prog_28_method_2_code (2 : Nat) (Option.none : Option Jvm.ClassFile.FieldType)) ∈ lw_all := lw_g (lw_at lw_m2 95 rfl) rfl
theorem q418 : (Jvm.Cond.methodLink "java/lang/RuntimeException" (7 : Nat) ({ cls := "java/lang/Exception", name := "<init>", desc := "(Ljava/lang/String;)V" } : Jvm.MethodName)) ∈ lw_all := lw_g (lw_at lw_m2 96 rfl) rfl
theorem q460 : (Jvm.Cond.declares ({ cls := "java/lang/RuntimeException", name := "<init>", desc := "()V" } : Jvm.MethodName)) ∈ lw_tbl := lw_at lw_m2 138 rfl
theorem q461 : (Jvm.Cond.declares ({ cls := "java/lang/RuntimeException", name := "<init>", desc := "(Ljava/lang/String;)V" } : Jvm.MethodName)) ∈ lw_tbl := lw_at lw_m2 139 rfl
theorem q1209 : (Jvm.Cond.instanceMethod ({ cls := "java/lang/RuntimeException", name := "<init>", desc := "()V" } : Jvm.MethodName)) ∈ lw_all := lw_g (lw_at lw_m5 167 rfl) rfl
theorem q1210 : (Jvm.Cond.code ({ cls := "java/lang/RuntimeException", name := "<init>", desc := "()V" } : Jvm.MethodName) prog_28_method_1_code (1 : Nat) (Option.none : Option Jvm.ClassFile.FieldType)) ∈ lw_all := lw_g (lw_at lw_m5 168 rfl) rfl
theorem q1211 : (Jvm.Cond.methodLink "java/lang/RuntimeException" (1 : Nat) ({ cls := "java/lang/Exception", name := "<init>", desc := "()V" } : Jvm.MethodName)) ∈ lw_all := lw_g (lw_at lw_m5 169 rfl) rfl

/-! java/lang/NegativeArraySizeException -/
def RJ3 : String := "java/lang/NegativeArraySizeException"
def TJ3 : u_T := fun k => match k with
  | 0 => ("java/lang/Throwable", "backtrace", "Ljava/lang/Object;", false)
  | 1 => ("java/lang/Throwable", "detailMessage", "Ljava/lang/String;", false)
  | 2 => ("java/lang/Throwable", "cause", "Ljava/lang/Throwable;", false)
  | 3 => ("java/lang/Throwable", "stackTrace", "[Ljava/lang/StackTraceElement;", false)
  | 4 => ("java/lang/Throwable", "depth", "I", false)
  | _ => ("java/lang/Throwable", "suppressedExceptions", "Ljava/util/List;", false)
def tyJ3 : Nat → FieldType := fun k => match k with
  | 0 => .object "java/lang/Object"
  | 1 => .object "java/lang/String"
  | 2 => .object "java/lang/Throwable"
  | 3 => .array (.object "java/lang/StackTraceElement")
  | 4 => .int
  | _ => .object "java/util/List"
abbrev wsJ30 : List Cond := u_ws RJ3 TJ3 6
theorem nmJ3 : ∀ a, a < 6 → ∀ b, b < 6 → a ≠ b → (TJ3 a).2.1 ≠ (TJ3 b).2.1 := by decide +kernel
theorem tyJ3_ok : ∀ k, k < 6 → parseFieldDescriptor (TJ3 k).2.2.1 = some (tyJ3 k) := by decide +kernel
abbrev cJ3_init : ByteArray := prog_27_method_2_code
def yJ3_init : MethodName := ⟨RJ3, "<init>", "(Ljava/lang/String;)V"⟩
theorem q92 : (Jvm.Cond.initialized "java/lang/NegativeArraySizeException") ∈ lw_all := lw_g (lw_at lw_m1 10 rfl) rfl
theorem q412 : (Jvm.Cond.instantiable "java/lang/NegativeArraySizeException" (6 : Nat)) ∈ lw_all := lw_g (lw_at lw_m2 90 rfl) rfl
theorem q413 : (Jvm.Cond.instanceMethod ({ cls := "java/lang/NegativeArraySizeException", name := "<init>", desc := "(Ljava/lang/String;)V" } : Jvm.MethodName)) ∈ lw_all := lw_g (lw_at lw_m2 91 rfl) rfl
theorem q414 : (Jvm.Cond.code ({ cls := "java/lang/NegativeArraySizeException", name := "<init>", desc := "(Ljava/lang/String;)V" } : Jvm.MethodName) prog_27_method_2_code (2 : Nat) (Option.none : Option Jvm.ClassFile.FieldType)) ∈ lw_all := lw_g (lw_at lw_m2 92 rfl) rfl
theorem q415 : (Jvm.Cond.methodLink "java/lang/NegativeArraySizeException" (7 : Nat) ({ cls := "java/lang/RuntimeException", name := "<init>", desc := "(Ljava/lang/String;)V" } : Jvm.MethodName)) ∈ lw_all := lw_g (lw_at lw_m2 93 rfl) rfl
theorem q433 : (Jvm.Cond.selects "java/lang/NegativeArraySizeException" ({ cls := "java/lang/Throwable", name := "fillInStackTrace", desc := "()Ljava/lang/Throwable;" } : Jvm.MethodName) ({ cls := "java/lang/Throwable", name := "fillInStackTrace", desc := "()Ljava/lang/Throwable;" } : Jvm.MethodName)) ∈ lw_all := lw_g (lw_at lw_m2 111 rfl) rfl
theorem q446 : (Jvm.Cond.lays "java/lang/NegativeArraySizeException" "java/lang/Throwable" "backtrace" "Ljava/lang/Object;") ∈ lw_all := lw_g (lw_at lw_m2 124 rfl) rfl
theorem q448 : (Jvm.Cond.lays "java/lang/NegativeArraySizeException" "java/lang/Throwable" "detailMessage" "Ljava/lang/String;") ∈ lw_all := lw_g (lw_at lw_m2 126 rfl) rfl
theorem q450 : (Jvm.Cond.lays "java/lang/NegativeArraySizeException" "java/lang/Throwable" "cause" "Ljava/lang/Throwable;") ∈ lw_all := lw_g (lw_at lw_m2 128 rfl) rfl
theorem q452 : (Jvm.Cond.lays "java/lang/NegativeArraySizeException" "java/lang/Throwable" "stackTrace" "[Ljava/lang/StackTraceElement;") ∈ lw_all := lw_g (lw_at lw_m2 130 rfl) rfl
theorem q454 : (Jvm.Cond.lays "java/lang/NegativeArraySizeException" "java/lang/Throwable" "depth" "I") ∈ lw_all := lw_g (lw_at lw_m2 132 rfl) rfl
theorem q456 : (Jvm.Cond.lays "java/lang/NegativeArraySizeException" "java/lang/Throwable" "suppressedExceptions" "Ljava/util/List;") ∈ lw_all := lw_g (lw_at lw_m2 134 rfl) rfl
theorem q458 : (Jvm.Cond.superclass "java/lang/NegativeArraySizeException" "java/lang/RuntimeException") ∈ lw_all := lw_g (lw_at lw_m2 136 rfl) rfl
theorem q459 : (Jvm.Cond.castable "java/lang/NegativeArraySizeException" "java/lang/NegativeArraySizeException") ∈ lw_tbl := lw_at lw_m2 137 rfl
theorem q466 : (Jvm.Cond.selects "java/lang/NegativeArraySizeException" ({ cls := "java/lang/Throwable", name := "fillInStackTrace", desc := "(I)Ljava/lang/Throwable;" } : Jvm.MethodName) ({ cls := "java/lang/Throwable", name := "fillInStackTrace", desc := "(I)Ljava/lang/Throwable;" } : Jvm.MethodName)) ∈ lw_all := lw_g (lw_at lw_m2 144 rfl) rfl
theorem q1910 : (Jvm.Cond.castable "java/lang/NegativeArraySizeException" "java/lang/Object") ∈ lw_tbl := lw_at lw_m8 148 rfl
theorem in_J3 : ∀ w ∈ wsJ30, w ∈ lw_all := lw_in wsJ30 [446, 448, 450, 452, 454, 456] (by decide +kernel) (by decide +kernel)

/-! java/lang/String -/
def RJ4 : String := "java/lang/String"
def TJ4 : u_T := fun k => match k with
  | 0 => ("java/lang/String", "value", "[B", true)
  | _ => ("java/lang/String", "coder", "B", true)
def tyJ4 : Nat → FieldType := fun k => match k with
  | 0 => .array .byte
  | _ => .byte
abbrev wsJ40 : List Cond := u_ws RJ4 TJ4 2
theorem nmJ4 : ∀ a, a < 2 → ∀ b, b < 2 → a ≠ b → (TJ4 a).2.1 ≠ (TJ4 b).2.1 := by decide +kernel
theorem tyJ4_ok : ∀ k, k < 2 → parseFieldDescriptor (TJ4 k).2.2.1 = some (tyJ4 k) := by decide +kernel
abbrev cJ4_length : ByteArray := prog_29_method_54_code
def yJ4_length : MethodName := ⟨RJ4, "length", "()I"⟩
abbrev cJ4_coder : ByteArray := prog_29_method_152_code
def yJ4_coder : MethodName := ⟨RJ4, "coder", "()B"⟩
abbrev cJ4_charAt : ByteArray := prog_29_method_56_code
def yJ4_charAt : MethodName := ⟨RJ4, "charAt", "(I)C"⟩
abbrev cJ4_isLatin1 : ByteArray := prog_29_method_154_code
def yJ4_isLatin1 : MethodName := ⟨RJ4, "isLatin1", "()Z"⟩
abbrev cJ4_checkIndex : ByteArray := prog_29_method_155_code
def yJ4_checkIndex : MethodName := ⟨RJ4, "checkIndex", "(II)V"⟩
theorem q93 : (Jvm.Cond.initialized "java/lang/String") ∈ lw_all := lw_g (lw_at lw_m1 11 rfl) rfl
theorem q476 : (Jvm.Cond.instantiable "java/lang/String" (4 : Nat)) ∈ lw_all := lw_g (lw_at lw_m2 154 rfl) rfl
theorem q477 : (Jvm.Cond.laysFinal "java/lang/String" "java/lang/String" "value" "[B") ∈ lw_all := lw_g (lw_at lw_m2 155 rfl) rfl
theorem q478 : (Jvm.Cond.soleField "java/lang/String" "value") ∈ lw_all := lw_g (lw_at lw_m2 156 rfl) rfl
theorem q479 : (Jvm.Cond.laysFinal "java/lang/String" "java/lang/String" "coder" "B") ∈ lw_all := lw_g (lw_at lw_m2 157 rfl) rfl
theorem q480 : (Jvm.Cond.soleField "java/lang/String" "coder") ∈ lw_all := lw_g (lw_at lw_m2 158 rfl) rfl
theorem q1369 : (Jvm.Cond.instanceMethod ({ cls := "java/lang/String", name := "length", desc := "()I" } : Jvm.MethodName)) ∈ lw_all := lw_g (lw_at lw_m6 87 rfl) rfl
theorem q1370 : (Jvm.Cond.selects "java/lang/String" ({ cls := "java/lang/String", name := "length", desc := "()I" } : Jvm.MethodName) ({ cls := "java/lang/String", name := "length", desc := "()I" } : Jvm.MethodName)) ∈ lw_all := lw_g (lw_at lw_m6 88 rfl) rfl
theorem q1371 : (Jvm.Cond.code ({ cls := "java/lang/String", name := "length", desc := "()I" } : Jvm.MethodName) prog_29_method_54_code (1 : Nat) (Option.some Jvm.ClassFile.FieldType.int)) ∈ lw_all := lw_g (lw_at lw_m6 89 rfl) rfl
theorem q1372 : (Jvm.Cond.methodLink "java/lang/String" (335 : Nat) ({ cls := "java/lang/String", name := "coder", desc := "()B" } : Jvm.MethodName)) ∈ lw_all := lw_g (lw_at lw_m6 90 rfl) rfl
theorem q1373 : (Jvm.Cond.instanceMethod ({ cls := "java/lang/String", name := "coder", desc := "()B" } : Jvm.MethodName)) ∈ lw_all := lw_g (lw_at lw_m6 91 rfl) rfl
theorem q1374 : (Jvm.Cond.selects "java/lang/String" ({ cls := "java/lang/String", name := "coder", desc := "()B" } : Jvm.MethodName) ({ cls := "java/lang/String", name := "coder", desc := "()B" } : Jvm.MethodName)) ∈ lw_all := lw_g (lw_at lw_m6 92 rfl) rfl
theorem q1375 : (Jvm.Cond.code ({ cls := "java/lang/String", name := "coder", desc := "()B" } : Jvm.MethodName) prog_29_method_152_code (1 : Nat) (Option.some Jvm.ClassFile.FieldType.byte)) ∈ lw_all := lw_g (lw_at lw_m6 93 rfl) rfl
theorem q1376 : (Jvm.Cond.fieldLink "java/lang/String" (38 : Nat) "java/lang/String" "COMPACT_STRINGS" "Z") ∈ lw_all := lw_g (lw_at lw_m6 94 rfl) rfl
theorem q1377 : (Jvm.Cond.laysStatic "java/lang/String" "COMPACT_STRINGS" "Z") ∈ lw_tbl := lw_at lw_m6 95 rfl
theorem q1379 : (Jvm.Cond.instanceMethod ({ cls := "java/lang/String", name := "charAt", desc := "(I)C" } : Jvm.MethodName)) ∈ lw_all := lw_g (lw_at lw_m6 97 rfl) rfl
theorem q1380 : (Jvm.Cond.selects "java/lang/String" ({ cls := "java/lang/String", name := "charAt", desc := "(I)C" } : Jvm.MethodName) ({ cls := "java/lang/String", name := "charAt", desc := "(I)C" } : Jvm.MethodName)) ∈ lw_all := lw_g (lw_at lw_m6 98 rfl) rfl
theorem q1381 : (Jvm.Cond.code ({ cls := "java/lang/String", name := "charAt", desc := "(I)C" } : Jvm.MethodName) prog_29_method_56_code (2 : Nat) (Option.some Jvm.ClassFile.FieldType.char)) ∈ lw_all := lw_g (lw_at lw_m6 99 rfl) rfl
theorem q1382 : (Jvm.Cond.methodLink "java/lang/String" (492 : Nat) ({ cls := "java/lang/String", name := "isLatin1", desc := "()Z" } : Jvm.MethodName)) ∈ lw_all := lw_g (lw_at lw_m6 100 rfl) rfl
theorem q1383 : (Jvm.Cond.instanceMethod ({ cls := "java/lang/String", name := "isLatin1", desc := "()Z" } : Jvm.MethodName)) ∈ lw_all := lw_g (lw_at lw_m6 101 rfl) rfl
theorem q1384 : (Jvm.Cond.selects "java/lang/String" ({ cls := "java/lang/String", name := "isLatin1", desc := "()Z" } : Jvm.MethodName) ({ cls := "java/lang/String", name := "isLatin1", desc := "()Z" } : Jvm.MethodName)) ∈ lw_all := lw_g (lw_at lw_m6 102 rfl) rfl
theorem q1385 : (Jvm.Cond.code ({ cls := "java/lang/String", name := "isLatin1", desc := "()Z" } : Jvm.MethodName) prog_29_method_154_code (1 : Nat) (Option.some Jvm.ClassFile.FieldType.boolean)) ∈ lw_all := lw_g (lw_at lw_m6 103 rfl) rfl
theorem q1386 : (Jvm.Cond.methodLink "java/lang/String" (495 : Nat) ({ cls := "java/lang/StringLatin1", name := "charAt", desc := "([BI)C" } : Jvm.MethodName)) ∈ lw_all := lw_g (lw_at lw_m6 104 rfl) rfl
theorem q1390 : (Jvm.Cond.static ({ cls := "java/lang/String", name := "checkIndex", desc := "(II)V" } : Jvm.MethodName)) ∈ lw_all := lw_g (lw_at lw_m6 108 rfl) rfl
theorem q1391 : (Jvm.Cond.code ({ cls := "java/lang/String", name := "checkIndex", desc := "(II)V" } : Jvm.MethodName) prog_29_method_155_code (2 : Nat) (Option.none : Option Jvm.ClassFile.FieldType)) ∈ lw_all := lw_g (lw_at lw_m6 109 rfl) rfl
theorem q1392 : (Jvm.Cond.fieldLink "java/lang/String" (1053 : Nat) "jdk/internal/util/Preconditions" "SIOOBE_FORMATTER" "Ljava/util/function/BiFunction;") ∈ lw_all := lw_g (lw_at lw_m6 110 rfl) rfl
theorem q1394 : (Jvm.Cond.methodLink "java/lang/String" (1059 : Nat) ({ cls := "jdk/internal/util/Preconditions", name := "checkIndex", desc := "(IILjava/util/function/BiFunction;)I" } : Jvm.MethodName)) ∈ lw_all := lw_g (lw_at lw_m6 112 rfl) rfl
theorem q1397 : (Jvm.Cond.methodLink "java/lang/String" (498 : Nat) ({ cls := "java/lang/StringUTF16", name := "charAt", desc := "([BI)C" } : Jvm.MethodName)) ∈ lw_all := lw_g (lw_at lw_m6 115 rfl) rfl
theorem q1923 : (Jvm.Cond.castable "java/lang/String" "java/lang/Object") ∈ lw_tbl := lw_at lw_m8 161 rfl
theorem q1924 : (Jvm.Cond.fieldLink "java/lang/String" (9 : Nat) "java/lang/String" "value" "[B") ∈ lw_all := lw_g (lw_at lw_m8 162 rfl) rfl
theorem q1925 : (Jvm.Cond.fieldLink "java/lang/String" (15 : Nat) "java/lang/String" "coder" "B") ∈ lw_all := lw_g (lw_at lw_m8 163 rfl) rfl
theorem in_J4 : ∀ w ∈ wsJ40, w ∈ lw_all := lw_in wsJ40 [477, 479] (by decide +kernel) (by decide +kernel)

/-! java/lang/Math -/
def RJ5 : String := "java/lang/Math"
abbrev cJ5_min : ByteArray := prog_26_method_69_code
def yJ5_min : MethodName := ⟨RJ5, "min", "(II)I"⟩
abbrev cJ5_max : ByteArray := prog_26_method_65_code
def yJ5_max : MethodName := ⟨RJ5, "max", "(II)I"⟩
abbrev cJ5_floorMod : ByteArray := prog_26_method_50_code
def yJ5_floorMod : MethodName := ⟨RJ5, "floorMod", "(II)I"⟩
abbrev cJ5_floorDiv : ByteArray := prog_26_method_47_code
def yJ5_floorDiv : MethodName := ⟨RJ5, "floorDiv", "(II)I"⟩
abbrev cJ5_min_2 : ByteArray := prog_26_method_70_code
def yJ5_min_2 : MethodName := ⟨RJ5, "min", "(JJ)J"⟩
theorem q94 : (Jvm.Cond.initialized "java/lang/Math") ∈ lw_all := lw_g (lw_at lw_m1 12 rfl) rfl
theorem q491 : (Jvm.Cond.static ({ cls := "java/lang/Math", name := "min", desc := "(II)I" } : Jvm.MethodName)) ∈ lw_all := lw_g (lw_at lw_m2 169 rfl) rfl
theorem q492 : (Jvm.Cond.code ({ cls := "java/lang/Math", name := "min", desc := "(II)I" } : Jvm.MethodName) prog_26_method_69_code (2 : Nat) (Option.some Jvm.ClassFile.FieldType.int)) ∈ lw_all := lw_g (lw_at lw_m2 170 rfl) rfl
theorem q494 : (Jvm.Cond.static ({ cls := "java/lang/Math", name := "max", desc := "(II)I" } : Jvm.MethodName)) ∈ lw_all := lw_g (lw_at lw_m2 172 rfl) rfl
theorem q495 : (Jvm.Cond.code ({ cls := "java/lang/Math", name := "max", desc := "(II)I" } : Jvm.MethodName) prog_26_method_65_code (2 : Nat) (Option.some Jvm.ClassFile.FieldType.int)) ∈ lw_all := lw_g (lw_at lw_m2 173 rfl) rfl
theorem q510 : (Jvm.Cond.static ({ cls := "java/lang/Math", name := "floorMod", desc := "(II)I" } : Jvm.MethodName)) ∈ lw_all := lw_g (lw_at lw_m2 188 rfl) rfl
theorem q511 : (Jvm.Cond.code ({ cls := "java/lang/Math", name := "floorMod", desc := "(II)I" } : Jvm.MethodName) prog_26_method_50_code (3 : Nat) (Option.some Jvm.ClassFile.FieldType.int)) ∈ lw_all := lw_g (lw_at lw_m2 189 rfl) rfl
theorem q513 : (Jvm.Cond.static ({ cls := "java/lang/Math", name := "floorDiv", desc := "(II)I" } : Jvm.MethodName)) ∈ lw_all := lw_g (lw_at lw_m2 191 rfl) rfl
theorem q514 : (Jvm.Cond.code ({ cls := "java/lang/Math", name := "floorDiv", desc := "(II)I" } : Jvm.MethodName) prog_26_method_47_code (3 : Nat) (Option.some Jvm.ClassFile.FieldType.int)) ∈ lw_all := lw_g (lw_at lw_m2 192 rfl) rfl
theorem q1600 : (Jvm.Cond.static ({ cls := "java/lang/Math", name := "min", desc := "(JJ)J" } : Jvm.MethodName)) ∈ lw_all := lw_g (lw_at lw_m7 78 rfl) rfl
theorem q1601 : (Jvm.Cond.code ({ cls := "java/lang/Math", name := "min", desc := "(JJ)J" } : Jvm.MethodName) prog_26_method_70_code (4 : Nat) (Option.some Jvm.ClassFile.FieldType.long)) ∈ lw_all := lw_g (lw_at lw_m7 79 rfl) rfl

/-! java/lang/StringLatin1 -/
def RJ6 : String := "java/lang/StringLatin1"
abbrev cJ6_charAt : ByteArray := prog_30_method_2_code
def yJ6_charAt : MethodName := ⟨RJ6, "charAt", "([BI)C"⟩
theorem q103 : (Jvm.Cond.initialized "java/lang/StringLatin1") ∈ lw_all := lw_g (lw_at lw_m1 21 rfl) rfl
theorem q1387 : (Jvm.Cond.static ({ cls := "java/lang/StringLatin1", name := "charAt", desc := "([BI)C" } : Jvm.MethodName)) ∈ lw_all := lw_g (lw_at lw_m6 105 rfl) rfl
theorem q1388 : (Jvm.Cond.code ({ cls := "java/lang/StringLatin1", name := "charAt", desc := "([BI)C" } : Jvm.MethodName) prog_30_method_2_code (2 : Nat) (Option.some Jvm.ClassFile.FieldType.char)) ∈ lw_all := lw_g (lw_at lw_m6 106 rfl) rfl
theorem q1389 : (Jvm.Cond.methodLink "java/lang/StringLatin1" (9 : Nat) ({ cls := "java/lang/String", name := "checkIndex", desc := "(II)V" } : Jvm.MethodName)) ∈ lw_all := lw_g (lw_at lw_m6 107 rfl) rfl

/-! jdk/internal/util/Preconditions -/
def RJ7 : String := "jdk/internal/util/Preconditions"
abbrev cJ7_checkIndex : ByteArray := prog_38_method_11_code
def yJ7_checkIndex : MethodName := ⟨RJ7, "checkIndex", "(IILjava/util/function/BiFunction;)I"⟩
theorem q104 : (Jvm.Cond.initialized "jdk/internal/util/Preconditions") ∈ lw_all := lw_g (lw_at lw_m1 22 rfl) rfl
theorem q1393 : (Jvm.Cond.laysStatic "jdk/internal/util/Preconditions" "SIOOBE_FORMATTER" "Ljava/util/function/BiFunction;") ∈ lw_tbl := lw_at lw_m6 111 rfl
theorem q1395 : (Jvm.Cond.static ({ cls := "jdk/internal/util/Preconditions", name := "checkIndex", desc := "(IILjava/util/function/BiFunction;)I" } : Jvm.MethodName)) ∈ lw_all := lw_g (lw_at lw_m6 113 rfl) rfl
theorem q1396 : (Jvm.Cond.code ({ cls := "jdk/internal/util/Preconditions", name := "checkIndex", desc := "(IILjava/util/function/BiFunction;)I" } : Jvm.MethodName) prog_38_method_11_code (3 : Nat) (Option.some Jvm.ClassFile.FieldType.int)) ∈ lw_all := lw_g (lw_at lw_m6 114 rfl) rfl

/-! java/lang/StringUTF16 -/
def RJ8 : String := "java/lang/StringUTF16"
abbrev cJ8_charAt : ByteArray := prog_31_method_83_code
def yJ8_charAt : MethodName := ⟨RJ8, "charAt", "([BI)C"⟩
abbrev cJ8_checkIndex : ByteArray := prog_31_method_91_code
def yJ8_checkIndex : MethodName := ⟨RJ8, "checkIndex", "(I[B)V"⟩
abbrev cJ8_length : ByteArray := prog_31_method_6_code
def yJ8_length : MethodName := ⟨RJ8, "length", "([B)I"⟩
abbrev cJ8_getChar : ByteArray := prog_31_method_5_code
def yJ8_getChar : MethodName := ⟨RJ8, "getChar", "([BI)C"⟩
theorem q105 : (Jvm.Cond.initialized "java/lang/StringUTF16") ∈ lw_all := lw_g (lw_at lw_m1 23 rfl) rfl
theorem q1398 : (Jvm.Cond.static ({ cls := "java/lang/StringUTF16", name := "charAt", desc := "([BI)C" } : Jvm.MethodName)) ∈ lw_all := lw_g (lw_at lw_m6 116 rfl) rfl
theorem q1399 : (Jvm.Cond.code ({ cls := "java/lang/StringUTF16", name := "charAt", desc := "([BI)C" } : Jvm.MethodName) prog_31_method_83_code (2 : Nat) (Option.some Jvm.ClassFile.FieldType.char)) ∈ lw_all := lw_g (lw_at lw_m6 117 rfl) rfl
theorem q1400 : (Jvm.Cond.methodLink "java/lang/StringUTF16" (67 : Nat) ({ cls := "java/lang/StringUTF16", name := "checkIndex", desc := "(I[B)V" } : Jvm.MethodName)) ∈ lw_all := lw_g (lw_at lw_m6 118 rfl) rfl
theorem q1401 : (Jvm.Cond.static ({ cls := "java/lang/StringUTF16", name := "checkIndex", desc := "(I[B)V" } : Jvm.MethodName)) ∈ lw_all := lw_g (lw_at lw_m6 119 rfl) rfl
theorem q1402 : (Jvm.Cond.code ({ cls := "java/lang/StringUTF16", name := "checkIndex", desc := "(I[B)V" } : Jvm.MethodName) prog_31_method_91_code (2 : Nat) (Option.none : Option Jvm.ClassFile.FieldType)) ∈ lw_all := lw_g (lw_at lw_m6 120 rfl) rfl
theorem q1403 : (Jvm.Cond.methodLink "java/lang/StringUTF16" (48 : Nat) ({ cls := "java/lang/StringUTF16", name := "length", desc := "([B)I" } : Jvm.MethodName)) ∈ lw_all := lw_g (lw_at lw_m6 121 rfl) rfl
theorem q1404 : (Jvm.Cond.static ({ cls := "java/lang/StringUTF16", name := "length", desc := "([B)I" } : Jvm.MethodName)) ∈ lw_all := lw_g (lw_at lw_m6 122 rfl) rfl
theorem q1405 : (Jvm.Cond.code ({ cls := "java/lang/StringUTF16", name := "length", desc := "([B)I" } : Jvm.MethodName) prog_31_method_6_code (1 : Nat) (Option.some Jvm.ClassFile.FieldType.int)) ∈ lw_all := lw_g (lw_at lw_m6 123 rfl) rfl
theorem q1406 : (Jvm.Cond.methodLink "java/lang/StringUTF16" (414 : Nat) ({ cls := "java/lang/String", name := "checkIndex", desc := "(II)V" } : Jvm.MethodName)) ∈ lw_all := lw_g (lw_at lw_m6 124 rfl) rfl
theorem q1407 : (Jvm.Cond.methodLink "java/lang/StringUTF16" (71 : Nat) ({ cls := "java/lang/StringUTF16", name := "getChar", desc := "([BI)C" } : Jvm.MethodName)) ∈ lw_all := lw_g (lw_at lw_m6 125 rfl) rfl
theorem q1408 : (Jvm.Cond.static ({ cls := "java/lang/StringUTF16", name := "getChar", desc := "([BI)C" } : Jvm.MethodName)) ∈ lw_all := lw_g (lw_at lw_m6 126 rfl) rfl
theorem q1409 : (Jvm.Cond.code ({ cls := "java/lang/StringUTF16", name := "getChar", desc := "([BI)C" } : Jvm.MethodName) prog_31_method_5_code (2 : Nat) (Option.some Jvm.ClassFile.FieldType.char)) ∈ lw_all := lw_g (lw_at lw_m6 127 rfl) rfl
theorem q1410 : (Jvm.Cond.fieldLink "java/lang/StringUTF16" (44 : Nat) "java/lang/StringUTF16" "$assertionsDisabled" "Z") ∈ lw_all := lw_g (lw_at lw_m6 128 rfl) rfl
theorem q1411 : (Jvm.Cond.laysStatic "java/lang/StringUTF16" "$assertionsDisabled" "Z") ∈ lw_tbl := lw_at lw_m6 129 rfl
theorem q1412 : (Jvm.Cond.fieldLink "java/lang/StringUTF16" (59 : Nat) "java/lang/StringUTF16" "HI_BYTE_SHIFT" "I") ∈ lw_all := lw_g (lw_at lw_m6 130 rfl) rfl
theorem q1413 : (Jvm.Cond.laysStatic "java/lang/StringUTF16" "HI_BYTE_SHIFT" "I") ∈ lw_tbl := lw_at lw_m6 131 rfl
theorem q1414 : (Jvm.Cond.fieldLink "java/lang/StringUTF16" (63 : Nat) "java/lang/StringUTF16" "LO_BYTE_SHIFT" "I") ∈ lw_all := lw_g (lw_at lw_m6 132 rfl) rfl
theorem q1415 : (Jvm.Cond.laysStatic "java/lang/StringUTF16" "LO_BYTE_SHIFT" "I") ∈ lw_tbl := lw_at lw_m6 133 rfl

/-! java/util/NoSuchElementException -/
def RJ9 : String := "java/util/NoSuchElementException"
def TJ9 : u_T := fun k => match k with
  | 0 => ("java/lang/Throwable", "cause", "Ljava/lang/Throwable;", false)
  | 1 => ("java/lang/Throwable", "stackTrace", "[Ljava/lang/StackTraceElement;", false)
  | 2 => ("java/lang/Throwable", "suppressedExceptions", "Ljava/util/List;", false)
  | 3 => ("java/lang/Throwable", "detailMessage", "Ljava/lang/String;", false)
  | 4 => ("java/lang/Throwable", "backtrace", "Ljava/lang/Object;", false)
  | _ => ("java/lang/Throwable", "depth", "I", false)
def tyJ9 : Nat → FieldType := fun k => match k with
  | 0 => .object "java/lang/Throwable"
  | 1 => .array (.object "java/lang/StackTraceElement")
  | 2 => .object "java/util/List"
  | 3 => .object "java/lang/String"
  | 4 => .object "java/lang/Object"
  | _ => .int
abbrev wsJ90 : List Cond := u_ws RJ9 TJ9 6
theorem nmJ9 : ∀ a, a < 6 → ∀ b, b < 6 → a ≠ b → (TJ9 a).2.1 ≠ (TJ9 b).2.1 := by decide +kernel
theorem tyJ9_ok : ∀ k, k < 6 → parseFieldDescriptor (TJ9 k).2.2.1 = some (tyJ9 k) := by decide +kernel
abbrev cJ9_init : ByteArray := prog_37_method_1_code
def yJ9_init : MethodName := ⟨RJ9, "<init>", "()V"⟩
theorem q106 : (Jvm.Cond.initialized "java/util/NoSuchElementException") ∈ lw_all := lw_g (lw_at lw_m1 24 rfl) rfl
theorem q434 : (Jvm.Cond.selects "java/util/NoSuchElementException" ({ cls := "java/lang/Throwable", name := "fillInStackTrace", desc := "()Ljava/lang/Throwable;" } : Jvm.MethodName) ({ cls := "java/lang/Throwable", name := "fillInStackTrace", desc := "()Ljava/lang/Throwable;" } : Jvm.MethodName)) ∈ lw_all := lw_g (lw_at lw_m2 112 rfl) rfl
theorem q1197 : (Jvm.Cond.instantiable "java/util/NoSuchElementException" (6 : Nat)) ∈ lw_all := lw_g (lw_at lw_m5 155 rfl) rfl
theorem q1198 : (Jvm.Cond.castable "java/util/NoSuchElementException" "java/util/NoSuchElementException") ∈ lw_tbl := lw_at lw_m5 156 rfl
theorem q1199 : (Jvm.Cond.selects "java/util/NoSuchElementException" ({ cls := "java/lang/Throwable", name := "fillInStackTrace", desc := "(I)Ljava/lang/Throwable;" } : Jvm.MethodName) ({ cls := "java/lang/Throwable", name := "fillInStackTrace", desc := "(I)Ljava/lang/Throwable;" } : Jvm.MethodName)) ∈ lw_all := lw_g (lw_at lw_m5 157 rfl) rfl
theorem q1200 : (Jvm.Cond.lays "java/util/NoSuchElementException" "java/lang/Throwable" "cause" "Ljava/lang/Throwable;") ∈ lw_all := lw_g (lw_at lw_m5 158 rfl) rfl
theorem q1201 : (Jvm.Cond.lays "java/util/NoSuchElementException" "java/lang/Throwable" "stackTrace" "[Ljava/lang/StackTraceElement;") ∈ lw_all := lw_g (lw_at lw_m5 159 rfl) rfl
theorem q1202 : (Jvm.Cond.lays "java/util/NoSuchElementException" "java/lang/Throwable" "suppressedExceptions" "Ljava/util/List;") ∈ lw_all := lw_g (lw_at lw_m5 160 rfl) rfl
theorem q1203 : (Jvm.Cond.lays "java/util/NoSuchElementException" "java/lang/Throwable" "detailMessage" "Ljava/lang/String;") ∈ lw_all := lw_g (lw_at lw_m5 161 rfl) rfl
theorem q1204 : (Jvm.Cond.lays "java/util/NoSuchElementException" "java/lang/Throwable" "backtrace" "Ljava/lang/Object;") ∈ lw_all := lw_g (lw_at lw_m5 162 rfl) rfl
theorem q1206 : (Jvm.Cond.instanceMethod ({ cls := "java/util/NoSuchElementException", name := "<init>", desc := "()V" } : Jvm.MethodName)) ∈ lw_all := lw_g (lw_at lw_m5 164 rfl) rfl
theorem q1207 : (Jvm.Cond.code ({ cls := "java/util/NoSuchElementException", name := "<init>", desc := "()V" } : Jvm.MethodName) prog_37_method_1_code (1 : Nat) (Option.none : Option Jvm.ClassFile.FieldType)) ∈ lw_all := lw_g (lw_at lw_m5 165 rfl) rfl
theorem q1208 : (Jvm.Cond.methodLink "java/util/NoSuchElementException" (1 : Nat) ({ cls := "java/lang/RuntimeException", name := "<init>", desc := "()V" } : Jvm.MethodName)) ∈ lw_all := lw_g (lw_at lw_m5 166 rfl) rfl
theorem q1212 : (Jvm.Cond.lays "java/util/NoSuchElementException" "java/lang/Throwable" "depth" "I") ∈ lw_all := lw_g (lw_at lw_m5 170 rfl) rfl
theorem q1213 : (Jvm.Cond.superclass "java/util/NoSuchElementException" "java/lang/RuntimeException") ∈ lw_all := lw_g (lw_at lw_m5 171 rfl) rfl
theorem q1919 : (Jvm.Cond.castable "java/util/NoSuchElementException" "java/lang/Object") ∈ lw_tbl := lw_at lw_m8 157 rfl
theorem in_J9 : ∀ w ∈ wsJ90, w ∈ lw_all := lw_in wsJ90 [1200, 1201, 1202, 1203, 1204, 1212] (by decide +kernel) (by decide +kernel)

/-! the law's own entry -/
abbrev cL_law : ByteArray := code

/-! FollowTheSunLaw -/
def RX0 : String := "FollowTheSunLaw"
abbrev cX0_value : ByteArray := method_3_code
def yX0_value : MethodName := ⟨RX0, "value", "(LFollowTheSun;II[J)I"⟩
abbrev cX0_of : ByteArray := method_4_code
def yX0_of : MethodName := ⟨RX0, "of", "(LFollowTheSun;II[J)I"⟩
abbrev cX0_row : ByteArray := method_5_code
def yX0_row : MethodName := ⟨RX0, "row", "(LFollowTheSun;I[J)I"⟩
theorem q82 : (Jvm.Cond.initialized "FollowTheSunLaw") ∈ lw_all := lw_g (lw_at lw_m1 0 rfl) rfl
theorem q113 : (Jvm.Cond.classLink "FollowTheSunLaw" (8 : Nat) "FollowTheSun") ∈ lw_all := lw_g (lw_at lw_m1 31 rfl) rfl
theorem q115 : (Jvm.Cond.methodLink "FollowTheSunLaw" (22 : Nat) ({ cls := "FollowTheSun", name := "<init>", desc := "()V" } : Jvm.MethodName)) ∈ lw_all := lw_g (lw_at lw_m1 33 rfl) rfl
theorem q322 : (Jvm.Cond.methodLink "FollowTheSunLaw" (26 : Nat) ({ cls := "FollowTheSun", name := "office", desc := "(IIII)I" } : Jvm.MethodName)) ∈ lw_all := lw_g (lw_at lw_m2 0 rfl) rfl
theorem q384 : (Jvm.Cond.methodLink "FollowTheSunLaw" (31 : Nat) ({ cls := "FollowTheSun", name := "clock", desc := "(III)Z" } : Jvm.MethodName)) ∈ lw_all := lw_g (lw_at lw_m2 62 rfl) rfl
theorem q395 : (Jvm.Cond.methodLink "FollowTheSunLaw" (36 : Nat) ({ cls := "FollowTheSun", name := "feast", desc := "(IIZ)Z" } : Jvm.MethodName)) ∈ lw_all := lw_g (lw_at lw_m2 73 rfl) rfl
theorem q399 : (Jvm.Cond.methodLink "FollowTheSunLaw" (41 : Nat) ({ cls := "FollowTheSun", name := "know", desc := "(III)I" } : Jvm.MethodName)) ∈ lw_all := lw_g (lw_at lw_m2 77 rfl) rfl
theorem q407 : (Jvm.Cond.methodLink "FollowTheSunLaw" (46 : Nat) ({ cls := "FollowTheSun", name := "sheet", desc := "(IIIII)I" } : Jvm.MethodName)) ∈ lw_all := lw_g (lw_at lw_m2 85 rfl) rfl
theorem q497 : (Jvm.Cond.methodLink "FollowTheSunLaw" (51 : Nat) ({ cls := "FollowTheSun", name := "set", desc := "(II)I" } : Jvm.MethodName)) ∈ lw_all := lw_g (lw_at lw_m2 175 rfl) rfl
theorem q501 : (Jvm.Cond.methodLink "FollowTheSunLaw" (55 : Nat) ({ cls := "FollowTheSun", name := "open", desc := "(II)I" } : Jvm.MethodName)) ∈ lw_all := lw_g (lw_at lw_m2 179 rfl) rfl
theorem q516 : (Jvm.Cond.methodLink "FollowTheSunLaw" (59 : Nat) ({ cls := "FollowTheSun", name := "overlap", desc := "(III)I" } : Jvm.MethodName)) ∈ lw_all := lw_g (lw_at lw_m2 194 rfl) rfl
theorem q525 : (Jvm.Cond.methodLink "FollowTheSunLaw" (63 : Nat) ({ cls := "FollowTheSun", name := "loses", desc := "(III)I" } : Jvm.MethodName)) ∈ lw_all := lw_g (lw_at lw_m2 203 rfl) rfl
theorem q535 : (Jvm.Cond.methodLink "FollowTheSunLaw" (67 : Nat) ({ cls := "FollowTheSun", name := "dark", desc := "(II)I" } : Jvm.MethodName)) ∈ lw_all := lw_g (lw_at lw_m2 213 rfl) rfl
theorem q550 : (Jvm.Cond.methodLink "FollowTheSunLaw" (71 : Nat) ({ cls := "FollowTheSun", name := "piece", desc := "(IIIII)I" } : Jvm.MethodName)) ∈ lw_all := lw_g (lw_at lw_m2 228 rfl) rfl
theorem q600 : (Jvm.Cond.methodLink "FollowTheSunLaw" (75 : Nat) ({ cls := "FollowTheSun", name := "sign", desc := "(I)I" } : Jvm.MethodName)) ∈ lw_all := lw_g (lw_at lw_m3 38 rfl) rfl
theorem q604 : (Jvm.Cond.methodLink "FollowTheSunLaw" (80 : Nat) ({ cls := "FollowTheSun", name := "end", desc := "(I)Z" } : Jvm.MethodName)) ∈ lw_all := lw_g (lw_at lw_m3 42 rfl) rfl
theorem q608 : (Jvm.Cond.methodLink "FollowTheSunLaw" (85 : Nat) ({ cls := "FollowTheSun", name := "rule", desc := "()I" } : Jvm.MethodName)) ∈ lw_all := lw_g (lw_at lw_m3 46 rfl) rfl
theorem q754 : (Jvm.Cond.methodLink "FollowTheSunLaw" (99 : Nat) ({ cls := "FollowTheSun", name := "begin", desc := "(I)Z" } : Jvm.MethodName)) ∈ lw_all := lw_g (lw_at lw_m3 192 rfl) rfl
theorem q763 : (Jvm.Cond.methodLink "FollowTheSunLaw" (103 : Nat) ({ cls := "FollowTheSun", name := "go", desc := "(I)I" } : Jvm.MethodName)) ∈ lw_all := lw_g (lw_at lw_m3 201 rfl) rfl
theorem q870 : (Jvm.Cond.methodLink "FollowTheSunLaw" (110 : Nat) ({ cls := "FollowTheSun", name := "hand", desc := "(II)I" } : Jvm.MethodName)) ∈ lw_all := lw_g (lw_at lw_m4 68 rfl) rfl
theorem q879 : (Jvm.Cond.methodLink "FollowTheSunLaw" (114 : Nat) ({ cls := "FollowTheSun", name := "ends", desc := "()I" } : Jvm.MethodName)) ∈ lw_all := lw_g (lw_at lw_m4 77 rfl) rfl
theorem q907 : (Jvm.Cond.methodLink "FollowTheSunLaw" (118 : Nat) ({ cls := "FollowTheSun", name := "judge", desc := "()I" } : Jvm.MethodName)) ∈ lw_all := lw_g (lw_at lw_m4 105 rfl) rfl
theorem q913 : (Jvm.Cond.methodLink "FollowTheSunLaw" (122 : Nat) ({ cls := "FollowTheSun", name := "one", desc := "(III)I" } : Jvm.MethodName)) ∈ lw_all := lw_g (lw_at lw_m4 111 rfl) rfl
theorem q1031 : (Jvm.Cond.methodLink "FollowTheSunLaw" (126 : Nat) ({ cls := "FollowTheSun", name := "cheap", desc := "(IIII)I" } : Jvm.MethodName)) ∈ lw_all := lw_g (lw_at lw_m4 229 rfl) rfl
theorem q1054 : (Jvm.Cond.methodLink "FollowTheSunLaw" (130 : Nat) ({ cls := "FollowTheSun", name := "edge", desc := "(III)I" } : Jvm.MethodName)) ∈ lw_all := lw_g (lw_at lw_m5 12 rfl) rfl
theorem q1062 : (Jvm.Cond.methodLink "FollowTheSunLaw" (134 : Nat) ({ cls := "FollowTheSun", name := "lie", desc := "(II)I" } : Jvm.MethodName)) ∈ lw_all := lw_g (lw_at lw_m5 20 rfl) rfl
theorem q1070 : (Jvm.Cond.methodLink "FollowTheSunLaw" (138 : Nat) ({ cls := "FollowTheSun", name := "homes", desc := "(II)I" } : Jvm.MethodName)) ∈ lw_all := lw_g (lw_at lw_m5 28 rfl) rfl
theorem q1089 : (Jvm.Cond.methodLink "FollowTheSunLaw" (142 : Nat) ({ cls := "FollowTheSun", name := "pair", desc := "(III)I" } : Jvm.MethodName)) ∈ lw_all := lw_g (lw_at lw_m5 47 rfl) rfl
theorem q1093 : (Jvm.Cond.methodLink "FollowTheSunLaw" (146 : Nat) ({ cls := "FollowTheSun", name := "whom", desc := "(II)I" } : Jvm.MethodName)) ∈ lw_all := lw_g (lw_at lw_m5 51 rfl) rfl
theorem q1109 : (Jvm.Cond.methodLink "FollowTheSunLaw" (150 : Nat) ({ cls := "FollowTheSun", name := "worth", desc := "(I)I" } : Jvm.MethodName)) ∈ lw_all := lw_g (lw_at lw_m5 67 rfl) rfl
theorem q1113 : (Jvm.Cond.methodLink "FollowTheSunLaw" (154 : Nat) ({ cls := "FollowTheSun", name := "wrong", desc := "(I)I" } : Jvm.MethodName)) ∈ lw_all := lw_g (lw_at lw_m5 71 rfl) rfl
theorem q1129 : (Jvm.Cond.methodLink "FollowTheSunLaw" (158 : Nat) ({ cls := "FollowTheSun", name := "mean", desc := "(I)I" } : Jvm.MethodName)) ∈ lw_all := lw_g (lw_at lw_m5 87 rfl) rfl
theorem q1133 : (Jvm.Cond.methodLink "FollowTheSunLaw" (162 : Nat) ({ cls := "FollowTheSun", name := "riskiest", desc := "()I" } : Jvm.MethodName)) ∈ lw_all := lw_g (lw_at lw_m5 91 rfl) rfl
theorem q1137 : (Jvm.Cond.methodLink "FollowTheSunLaw" (166 : Nat) ({ cls := "FollowTheSun", name := "site", desc := "(IIII)I" } : Jvm.MethodName)) ∈ lw_all := lw_g (lw_at lw_m5 95 rfl) rfl
theorem q1142 : (Jvm.Cond.methodLink "FollowTheSunLaw" (170 : Nat) ({ cls := "FollowTheSun", name := "together", desc := "(II)I" } : Jvm.MethodName)) ∈ lw_all := lw_g (lw_at lw_m5 100 rfl) rfl
theorem q1155 : (Jvm.Cond.methodLink "FollowTheSunLaw" (174 : Nat) ({ cls := "FollowTheSun", name := "sleeps", desc := "(II)I" } : Jvm.MethodName)) ∈ lw_all := lw_g (lw_at lw_m5 113 rfl) rfl
theorem q1167 : (Jvm.Cond.methodLink "FollowTheSunLaw" (178 : Nat) ({ cls := "FollowTheSun", name := "worst", desc := "(III)I" } : Jvm.MethodName)) ∈ lw_all := lw_g (lw_at lw_m5 125 rfl) rfl
theorem q1171 : (Jvm.Cond.methodLink "FollowTheSunLaw" (182 : Nat) ({ cls := "FollowTheSun", name := "march", desc := "(II)I" } : Jvm.MethodName)) ∈ lw_all := lw_g (lw_at lw_m5 129 rfl) rfl
theorem q1175 : (Jvm.Cond.methodLink "FollowTheSunLaw" (186 : Nat) ({ cls := "FollowTheSun", name := "keep", desc := "(I)Z" } : Jvm.MethodName)) ∈ lw_all := lw_g (lw_at lw_m5 133 rfl) rfl
theorem q1179 : (Jvm.Cond.methodLink "FollowTheSunLaw" (190 : Nat) ({ cls := "FollowTheSun", name := "again", desc := "(I)Z" } : Jvm.MethodName)) ∈ lw_all := lw_g (lw_at lw_m5 137 rfl) rfl
theorem q1183 : (Jvm.Cond.methodLink "FollowTheSunLaw" (194 : Nat) ({ cls := "FollowTheSun", name := "count", desc := "(I)I" } : Jvm.MethodName)) ∈ lw_all := lw_g (lw_at lw_m5 141 rfl) rfl
theorem q1188 : (Jvm.Cond.methodLink "FollowTheSunLaw" (90 : Nat) ({ cls := "FollowTheSunLaw", name := "value", desc := "(LFollowTheSun;II[J)I" } : Jvm.MethodName)) ∈ lw_all := lw_g (lw_at lw_m5 146 rfl) rfl
theorem q1189 : (Jvm.Cond.static ({ cls := "FollowTheSunLaw", name := "value", desc := "(LFollowTheSun;II[J)I" } : Jvm.MethodName)) ∈ lw_all := lw_g (lw_at lw_m5 147 rfl) rfl
theorem q1190 : (Jvm.Cond.codeWith ({ cls := "FollowTheSunLaw", name := "value", desc := "(LFollowTheSun;II[J)I" } : Jvm.MethodName) method_3_code (5 : Nat) (Option.some Jvm.ClassFile.FieldType.int) [((0 : Nat), (10 : Nat), (13 : Nat), (13 : Nat))]) ∈ lw_all := lw_g (lw_at lw_m5 148 rfl) rfl
theorem q1191 : (Jvm.Cond.classLink "FollowTheSunLaw" (13 : Nat) "java/util/NoSuchElementException") ∈ lw_all := lw_g (lw_at lw_m5 149 rfl) rfl
theorem q1192 : (Jvm.Cond.methodLink "FollowTheSunLaw" (7 : Nat) ({ cls := "FollowTheSun", name := "value", desc := "(II)I" } : Jvm.MethodName)) ∈ lw_all := lw_g (lw_at lw_m5 150 rfl) rfl
theorem q1216 : (Jvm.Cond.methodLink "FollowTheSunLaw" (107 : Nat) ({ cls := "FollowTheSunLaw", name := "of", desc := "(LFollowTheSun;II[J)I" } : Jvm.MethodName)) ∈ lw_all := lw_g (lw_at lw_m5 174 rfl) rfl
theorem q1217 : (Jvm.Cond.static ({ cls := "FollowTheSunLaw", name := "of", desc := "(LFollowTheSun;II[J)I" } : Jvm.MethodName)) ∈ lw_all := lw_g (lw_at lw_m5 175 rfl) rfl
theorem q1218 : (Jvm.Cond.codeWith ({ cls := "FollowTheSunLaw", name := "of", desc := "(LFollowTheSun;II[J)I" } : Jvm.MethodName) method_4_code (5 : Nat) (Option.some Jvm.ClassFile.FieldType.int) [((0 : Nat), (10 : Nat), (13 : Nat), (13 : Nat))]) ∈ lw_all := lw_g (lw_at lw_m5 176 rfl) rfl
theorem q1219 : (Jvm.Cond.methodLink "FollowTheSunLaw" (15 : Nat) ({ cls := "FollowTheSun", name := "of", desc := "(II)I" } : Jvm.MethodName)) ∈ lw_all := lw_g (lw_at lw_m5 177 rfl) rfl
theorem q1224 : (Jvm.Cond.methodLink "FollowTheSunLaw" (198 : Nat) ({ cls := "FollowTheSunLaw", name := "row", desc := "(LFollowTheSun;I[J)I" } : Jvm.MethodName)) ∈ lw_all := lw_g (lw_at lw_m5 182 rfl) rfl
theorem q1225 : (Jvm.Cond.static ({ cls := "FollowTheSunLaw", name := "row", desc := "(LFollowTheSun;I[J)I" } : Jvm.MethodName)) ∈ lw_all := lw_g (lw_at lw_m5 183 rfl) rfl
theorem q1226 : (Jvm.Cond.codeWith ({ cls := "FollowTheSunLaw", name := "row", desc := "(LFollowTheSun;I[J)I" } : Jvm.MethodName) method_5_code (4 : Nat) (Option.some Jvm.ClassFile.FieldType.int) [((0 : Nat), (8 : Nat), (11 : Nat), (13 : Nat))]) ∈ lw_all := lw_g (lw_at lw_m5 184 rfl) rfl
theorem q1227 : (Jvm.Cond.methodLink "FollowTheSunLaw" (18 : Nat) ({ cls := "FollowTheSun", name := "row", desc := "(I)J" } : Jvm.MethodName)) ∈ lw_all := lw_g (lw_at lw_m5 185 rfl) rfl
theorem q1231 : (Jvm.Cond.methodLink "FollowTheSunLaw" (96 : Nat) ({ cls := "FollowTheSunModel", name := "thrown", desc := "()I" } : Jvm.MethodName)) ∈ lw_all := lw_g (lw_at lw_m5 189 rfl) rfl
theorem q1235 : (Jvm.Cond.methodLink "FollowTheSunLaw" (30 : Nat) ({ cls := "FollowTheSunModel", name := "office", desc := "(IIII)I" } : Jvm.MethodName)) ∈ lw_all := lw_g (lw_at lw_m5 193 rfl) rfl
theorem q1252 : (Jvm.Cond.methodLink "FollowTheSunLaw" (35 : Nat) ({ cls := "FollowTheSunModel", name := "clock", desc := "(III)Z" } : Jvm.MethodName)) ∈ lw_all := lw_g (lw_at lw_m5 210 rfl) rfl
theorem q1265 : (Jvm.Cond.methodLink "FollowTheSunLaw" (40 : Nat) ({ cls := "FollowTheSunModel", name := "feast", desc := "(IIZ)Z" } : Jvm.MethodName)) ∈ lw_all := lw_g (lw_at lw_m5 223 rfl) rfl
theorem q1272 : (Jvm.Cond.methodLink "FollowTheSunLaw" (45 : Nat) ({ cls := "FollowTheSunModel", name := "know", desc := "(III)I" } : Jvm.MethodName)) ∈ lw_all := lw_g (lw_at lw_m5 230 rfl) rfl
theorem q1280 : (Jvm.Cond.methodLink "FollowTheSunLaw" (50 : Nat) ({ cls := "FollowTheSunModel", name := "sheet", desc := "(IIIII)I" } : Jvm.MethodName)) ∈ lw_all := lw_g (lw_at lw_m5 238 rfl) rfl
theorem q1287 : (Jvm.Cond.methodLink "FollowTheSunLaw" (54 : Nat) ({ cls := "FollowTheSunModel", name := "set", desc := "(II)I" } : Jvm.MethodName)) ∈ lw_all := lw_g (lw_at lw_m6 5 rfl) rfl
theorem q1293 : (Jvm.Cond.methodLink "FollowTheSunLaw" (58 : Nat) ({ cls := "FollowTheSunModel", name := "open", desc := "(II)I" } : Jvm.MethodName)) ∈ lw_all := lw_g (lw_at lw_m6 11 rfl) rfl
theorem q1306 : (Jvm.Cond.methodLink "FollowTheSunLaw" (62 : Nat) ({ cls := "FollowTheSunModel", name := "overlap", desc := "(III)I" } : Jvm.MethodName)) ∈ lw_all := lw_g (lw_at lw_m6 24 rfl) rfl
theorem q1314 : (Jvm.Cond.methodLink "FollowTheSunLaw" (66 : Nat) ({ cls := "FollowTheSunModel", name := "loses", desc := "(III)I" } : Jvm.MethodName)) ∈ lw_all := lw_g (lw_at lw_m6 32 rfl) rfl
theorem q1322 : (Jvm.Cond.methodLink "FollowTheSunLaw" (70 : Nat) ({ cls := "FollowTheSunModel", name := "dark", desc := "(II)I" } : Jvm.MethodName)) ∈ lw_all := lw_g (lw_at lw_m6 40 rfl) rfl
theorem q1334 : (Jvm.Cond.methodLink "FollowTheSunLaw" (74 : Nat) ({ cls := "FollowTheSunModel", name := "piece", desc := "(IIIII)I" } : Jvm.MethodName)) ∈ lw_all := lw_g (lw_at lw_m6 52 rfl) rfl
theorem q1343 : (Jvm.Cond.methodLink "FollowTheSunLaw" (79 : Nat) ({ cls := "FollowTheSunModel", name := "sign", desc := "(I)I" } : Jvm.MethodName)) ∈ lw_all := lw_g (lw_at lw_m6 61 rfl) rfl
theorem q1347 : (Jvm.Cond.methodLink "FollowTheSunLaw" (84 : Nat) ({ cls := "FollowTheSunModel", name := "end", desc := "(I)Z" } : Jvm.MethodName)) ∈ lw_all := lw_g (lw_at lw_m6 65 rfl) rfl
theorem q1351 : (Jvm.Cond.methodLink "FollowTheSunLaw" (89 : Nat) ({ cls := "FollowTheSunModel", name := "rule", desc := "()I" } : Jvm.MethodName)) ∈ lw_all := lw_g (lw_at lw_m6 69 rfl) rfl
theorem q1438 : (Jvm.Cond.methodLink "FollowTheSunLaw" (95 : Nat) ({ cls := "FollowTheSunModel", name := "value", desc := "(II)I" } : Jvm.MethodName)) ∈ lw_all := lw_g (lw_at lw_m6 156 rfl) rfl
theorem q1465 : (Jvm.Cond.methodLink "FollowTheSunLaw" (102 : Nat) ({ cls := "FollowTheSunModel", name := "begin", desc := "(I)Z" } : Jvm.MethodName)) ∈ lw_all := lw_g (lw_at lw_m6 183 rfl) rfl
theorem q1473 : (Jvm.Cond.methodLink "FollowTheSunLaw" (106 : Nat) ({ cls := "FollowTheSunModel", name := "go", desc := "(I)I" } : Jvm.MethodName)) ∈ lw_all := lw_g (lw_at lw_m6 191 rfl) rfl
theorem q1510 : (Jvm.Cond.methodLink "FollowTheSunLaw" (109 : Nat) ({ cls := "FollowTheSunModel", name := "of", desc := "(II)I" } : Jvm.MethodName)) ∈ lw_all := lw_g (lw_at lw_m6 228 rfl) rfl
theorem q1515 : (Jvm.Cond.methodLink "FollowTheSunLaw" (113 : Nat) ({ cls := "FollowTheSunModel", name := "hand", desc := "(II)I" } : Jvm.MethodName)) ∈ lw_all := lw_g (lw_at lw_m6 233 rfl) rfl
theorem q1519 : (Jvm.Cond.methodLink "FollowTheSunLaw" (117 : Nat) ({ cls := "FollowTheSunModel", name := "ends", desc := "()I" } : Jvm.MethodName)) ∈ lw_all := lw_g (lw_at lw_m6 237 rfl) rfl
theorem q1547 : (Jvm.Cond.methodLink "FollowTheSunLaw" (121 : Nat) ({ cls := "FollowTheSunModel", name := "judge", desc := "()I" } : Jvm.MethodName)) ∈ lw_all := lw_g (lw_at lw_m7 25 rfl) rfl
theorem q1551 : (Jvm.Cond.methodLink "FollowTheSunLaw" (125 : Nat) ({ cls := "FollowTheSunModel", name := "one", desc := "(III)I" } : Jvm.MethodName)) ∈ lw_all := lw_g (lw_at lw_m7 29 rfl) rfl
theorem q1581 : (Jvm.Cond.methodLink "FollowTheSunLaw" (129 : Nat) ({ cls := "FollowTheSunModel", name := "cheap", desc := "(IIII)I" } : Jvm.MethodName)) ∈ lw_all := lw_g (lw_at lw_m7 59 rfl) rfl
theorem q1602 : (Jvm.Cond.methodLink "FollowTheSunLaw" (133 : Nat) ({ cls := "FollowTheSunModel", name := "edge", desc := "(III)I" } : Jvm.MethodName)) ∈ lw_all := lw_g (lw_at lw_m7 80 rfl) rfl
theorem q1606 : (Jvm.Cond.methodLink "FollowTheSunLaw" (137 : Nat) ({ cls := "FollowTheSunModel", name := "lie", desc := "(II)I" } : Jvm.MethodName)) ∈ lw_all := lw_g (lw_at lw_m7 84 rfl) rfl
theorem q1614 : (Jvm.Cond.methodLink "FollowTheSunLaw" (141 : Nat) ({ cls := "FollowTheSunModel", name := "homes", desc := "(II)I" } : Jvm.MethodName)) ∈ lw_all := lw_g (lw_at lw_m7 92 rfl) rfl
theorem q1635 : (Jvm.Cond.methodLink "FollowTheSunLaw" (145 : Nat) ({ cls := "FollowTheSunModel", name := "pair", desc := "(III)I" } : Jvm.MethodName)) ∈ lw_all := lw_g (lw_at lw_m7 113 rfl) rfl
theorem q1639 : (Jvm.Cond.methodLink "FollowTheSunLaw" (149 : Nat) ({ cls := "FollowTheSunModel", name := "whom", desc := "(II)I" } : Jvm.MethodName)) ∈ lw_all := lw_g (lw_at lw_m7 117 rfl) rfl
theorem q1648 : (Jvm.Cond.methodLink "FollowTheSunLaw" (153 : Nat) ({ cls := "FollowTheSunModel", name := "worth", desc := "(I)I" } : Jvm.MethodName)) ∈ lw_all := lw_g (lw_at lw_m7 126 rfl) rfl
theorem q1653 : (Jvm.Cond.methodLink "FollowTheSunLaw" (157 : Nat) ({ cls := "FollowTheSunModel", name := "wrong", desc := "(I)I" } : Jvm.MethodName)) ∈ lw_all := lw_g (lw_at lw_m7 131 rfl) rfl
theorem q1664 : (Jvm.Cond.methodLink "FollowTheSunLaw" (161 : Nat) ({ cls := "FollowTheSunModel", name := "mean", desc := "(I)I" } : Jvm.MethodName)) ∈ lw_all := lw_g (lw_at lw_m7 142 rfl) rfl
theorem q1668 : (Jvm.Cond.methodLink "FollowTheSunLaw" (165 : Nat) ({ cls := "FollowTheSunModel", name := "riskiest", desc := "()I" } : Jvm.MethodName)) ∈ lw_all := lw_g (lw_at lw_m7 146 rfl) rfl
theorem q1672 : (Jvm.Cond.methodLink "FollowTheSunLaw" (169 : Nat) ({ cls := "FollowTheSunModel", name := "site", desc := "(IIII)I" } : Jvm.MethodName)) ∈ lw_all := lw_g (lw_at lw_m7 150 rfl) rfl
theorem q1676 : (Jvm.Cond.methodLink "FollowTheSunLaw" (173 : Nat) ({ cls := "FollowTheSunModel", name := "together", desc := "(II)I" } : Jvm.MethodName)) ∈ lw_all := lw_g (lw_at lw_m7 154 rfl) rfl
theorem q1680 : (Jvm.Cond.methodLink "FollowTheSunLaw" (177 : Nat) ({ cls := "FollowTheSunModel", name := "sleeps", desc := "(II)I" } : Jvm.MethodName)) ∈ lw_all := lw_g (lw_at lw_m7 158 rfl) rfl
theorem q1692 : (Jvm.Cond.methodLink "FollowTheSunLaw" (181 : Nat) ({ cls := "FollowTheSunModel", name := "worst", desc := "(III)I" } : Jvm.MethodName)) ∈ lw_all := lw_g (lw_at lw_m7 170 rfl) rfl
theorem q1696 : (Jvm.Cond.methodLink "FollowTheSunLaw" (185 : Nat) ({ cls := "FollowTheSunModel", name := "march", desc := "(II)I" } : Jvm.MethodName)) ∈ lw_all := lw_g (lw_at lw_m7 174 rfl) rfl
theorem q1700 : (Jvm.Cond.methodLink "FollowTheSunLaw" (189 : Nat) ({ cls := "FollowTheSunModel", name := "keep", desc := "(I)Z" } : Jvm.MethodName)) ∈ lw_all := lw_g (lw_at lw_m7 178 rfl) rfl
theorem q1704 : (Jvm.Cond.methodLink "FollowTheSunLaw" (193 : Nat) ({ cls := "FollowTheSunModel", name := "again", desc := "(I)Z" } : Jvm.MethodName)) ∈ lw_all := lw_g (lw_at lw_m7 182 rfl) rfl
theorem q1708 : (Jvm.Cond.methodLink "FollowTheSunLaw" (197 : Nat) ({ cls := "FollowTheSunModel", name := "count", desc := "(I)I" } : Jvm.MethodName)) ∈ lw_all := lw_g (lw_at lw_m7 186 rfl) rfl
theorem q1716 : (Jvm.Cond.classLink "FollowTheSunLaw" (23 : Nat) "FollowTheSunModel") ∈ lw_all := lw_g (lw_at lw_m7 194 rfl) rfl
theorem q1717 : (Jvm.Cond.methodLink "FollowTheSunLaw" (25 : Nat) ({ cls := "FollowTheSunModel", name := "<init>", desc := "()V" } : Jvm.MethodName)) ∈ lw_all := lw_g (lw_at lw_m7 195 rfl) rfl
theorem q1896 : (Jvm.Cond.methodLink "FollowTheSunLaw" (201 : Nat) ({ cls := "FollowTheSunModel", name := "row", desc := "(I)J" } : Jvm.MethodName)) ∈ lw_all := lw_g (lw_at lw_m8 134 rfl) rfl

/-! FollowTheSun -/
def RX1 : String := "FollowTheSun"
def TX1 : u_T := fun k => match k with
  | 0 => ("FollowTheSun", "pieces", "[LFollowTheSun$Piece;", true)
  | 1 => ("FollowTheSun", "pieceMany", "I", false)
  | 2 => ("FollowTheSun", "world", "LFollowTheSun$World;", true)
  | 3 => ("FollowTheSun", "other", "LFollowTheSun$World;", true)
  | 4 => ("FollowTheSun", "state", "LFollowTheSun$State;", true)
  | 5 => ("FollowTheSun", "tried", "LFollowTheSun$State;", true)
  | 6 => ("FollowTheSun", "asked", "LFollowTheSun$Case;", true)
  | 7 => ("FollowTheSun", "text", "[B", true)
  | 8 => ("FollowTheSun", "typed", "I", false)
  | 9 => ("FollowTheSun", "row", "[J", true)
  | 10 => ("FollowTheSun", "rowMany", "I", false)
  | 11 => ("FollowTheSun", "pairOne", "[I", true)
  | 12 => ("FollowTheSun", "pairOther", "[I", true)
  | 13 => ("FollowTheSun", "prices", "[I", true)
  | 14 => ("FollowTheSun", "pairMany", "I", false)
  | 15 => ("FollowTheSun", "keptStates", "[LFollowTheSun$State;", true)
  | _ => ("FollowTheSun", "keptMany", "[I", true)
def tyX1 : Nat → FieldType := fun k => match k with
  | 0 => .array (.object "FollowTheSun$Piece")
  | 1 => .int
  | 2 => .object "FollowTheSun$World"
  | 3 => .object "FollowTheSun$World"
  | 4 => .object "FollowTheSun$State"
  | 5 => .object "FollowTheSun$State"
  | 6 => .object "FollowTheSun$Case"
  | 7 => .array .byte
  | 8 => .int
  | 9 => .array .long
  | 10 => .int
  | 11 => .array .int
  | 12 => .array .int
  | 13 => .array .int
  | 14 => .int
  | 15 => .array (.object "FollowTheSun$State")
  | _ => .array .int
abbrev wsX10 : List Cond := u_ws RX1 TX1 17
theorem nmX1 : ∀ a, a < 17 → ∀ b, b < 17 → a ≠ b → (TX1 a).2.1 ≠ (TX1 b).2.1 := by decide +kernel
theorem tyX1_ok : ∀ k, k < 17 → parseFieldDescriptor (TX1 k).2.2.1 = some (tyX1 k) := by decide +kernel
abbrev cX1_init : ByteArray := prog_1_method_5_code
def yX1_init : MethodName := ⟨RX1, "<init>", "()V"⟩
abbrev cX1_office : ByteArray := prog_1_method_12_code
def yX1_office : MethodName := ⟨RX1, "office", "(IIII)I"⟩
abbrev cX1_in : ByteArray := prog_1_method_1_code
def yX1_in : MethodName := ⟨RX1, "in", "(III)Z"⟩
abbrev cX1_arePeople : ByteArray := prog_1_method_11_code
def yX1_arePeople : MethodName := ⟨RX1, "arePeople", "(I)Z"⟩
abbrev cX1_clock : ByteArray := prog_1_method_13_code
def yX1_clock : MethodName := ⟨RX1, "clock", "(III)Z"⟩
abbrev cX1_isOffice : ByteArray := prog_1_method_9_code
def yX1_isOffice : MethodName := ⟨RX1, "isOffice", "(I)Z"⟩
abbrev cX1_isHour : ByteArray := prog_1_method_3_code
def yX1_isHour : MethodName := ⟨RX1, "isHour", "(I)Z"⟩
abbrev cX1_feast : ByteArray := prog_1_method_14_code
def yX1_feast : MethodName := ⟨RX1, "feast", "(IIZ)Z"⟩
abbrev cX1_know : ByteArray := prog_1_method_15_code
def yX1_know : MethodName := ⟨RX1, "know", "(III)I"⟩
abbrev cX1_sheet : ByteArray := prog_1_method_18_code
def yX1_sheet : MethodName := ⟨RX1, "sheet", "(IIIII)I"⟩
abbrev cX1_rowOf : ByteArray := prog_1_method_16_code
def yX1_rowOf : MethodName := ⟨RX1, "rowOf", "(IIII)Ljava/lang/Object;"⟩
abbrev cX1_entry : ByteArray := prog_1_method_17_code
def yX1_entry : MethodName := ⟨RX1, "entry", "(Ljava/lang/Object;I)I"⟩
abbrev cX1_set : ByteArray := prog_1_method_19_code
def yX1_set : MethodName := ⟨RX1, "set", "(II)I"⟩
abbrev cX1_open : ByteArray := prog_1_method_20_code
def yX1_open : MethodName := ⟨RX1, "open", "(II)I"⟩
abbrev cX1_overlap : ByteArray := prog_1_method_21_code
def yX1_overlap : MethodName := ⟨RX1, "overlap", "(III)I"⟩
abbrev cX1_loses : ByteArray := prog_1_method_22_code
def yX1_loses : MethodName := ⟨RX1, "loses", "(III)I"⟩
abbrev cX1_dark : ByteArray := prog_1_method_23_code
def yX1_dark : MethodName := ⟨RX1, "dark", "(II)I"⟩
abbrev cX1_has : ByteArray := prog_1_method_2_code
def yX1_has : MethodName := ⟨RX1, "has", "(II)Z"⟩
abbrev cX1_tell : ByteArray := prog_1_method_6_code
def yX1_tell : MethodName := ⟨RX1, "tell", "(J)V"⟩
abbrev cX1_piece : ByteArray := prog_1_method_24_code
def yX1_piece : MethodName := ⟨RX1, "piece", "(IIIII)I"⟩
abbrev cX1_sign : ByteArray := prog_1_method_25_code
def yX1_sign : MethodName := ⟨RX1, "sign", "(I)I"⟩
abbrev cX1_end : ByteArray := prog_1_method_26_code
def yX1_end : MethodName := ⟨RX1, "end", "(I)Z"⟩
abbrev cX1_rule : ByteArray := prog_1_method_27_code
def yX1_rule : MethodName := ⟨RX1, "rule", "()I"⟩
abbrev cX1_begin : ByteArray := prog_1_method_29_code
def yX1_begin : MethodName := ⟨RX1, "begin", "(I)Z"⟩
abbrev cX1_go : ByteArray := prog_1_method_30_code
def yX1_go : MethodName := ⟨RX1, "go", "(I)I"⟩
abbrev cX1_chosen : ByteArray := prog_1_method_4_code
def yX1_chosen : MethodName := ⟨RX1, "chosen", "(LFollowTheSun$World;LFollowTheSun$State;I)I"⟩
abbrev cX1_hand : ByteArray := prog_1_method_32_code
def yX1_hand : MethodName := ⟨RX1, "hand", "(II)I"⟩
abbrev cX1_isPiece : ByteArray := prog_1_method_10_code
def yX1_isPiece : MethodName := ⟨RX1, "isPiece", "(I)Z"⟩
abbrev cX1_ends : ByteArray := prog_1_method_34_code
def yX1_ends : MethodName := ⟨RX1, "ends", "()I"⟩
abbrev cX1_endOf : ByteArray := prog_1_method_33_code
def yX1_endOf : MethodName := ⟨RX1, "endOf", "(LFollowTheSun$State;LFollowTheSun$State;LFollowTheSun$World;)I"⟩
abbrev cX1_judge : ByteArray := prog_1_method_35_code
def yX1_judge : MethodName := ⟨RX1, "judge", "()I"⟩
abbrev cX1_one : ByteArray := prog_1_method_37_code
def yX1_one : MethodName := ⟨RX1, "one", "(III)I"⟩
abbrev cX1_canAsk : ByteArray := prog_1_method_36_code
def yX1_canAsk : MethodName := ⟨RX1, "canAsk", "(IIII)Z"⟩
abbrev cX1_cheap : ByteArray := prog_1_method_38_code
def yX1_cheap : MethodName := ⟨RX1, "cheap", "(IIII)I"⟩
abbrev cX1_edge : ByteArray := prog_1_method_40_code
def yX1_edge : MethodName := ⟨RX1, "edge", "(III)I"⟩
abbrev cX1_soonest : ByteArray := prog_1_method_39_code
def yX1_soonest : MethodName := ⟨RX1, "soonest", "(III)I"⟩
abbrev cX1_lie : ByteArray := prog_1_method_41_code
def yX1_lie : MethodName := ⟨RX1, "lie", "(II)I"⟩
abbrev cX1_alone : ByteArray := prog_1_method_42_code
def yX1_alone : MethodName := ⟨RX1, "alone", "(LFollowTheSun$Piece;II[I)I"⟩
abbrev cX1_homes : ByteArray := prog_1_method_43_code
def yX1_homes : MethodName := ⟨RX1, "homes", "(II)I"⟩
abbrev cX1_place : ByteArray := prog_1_method_44_code
def yX1_place : MethodName := ⟨RX1, "place", "(LFollowTheSun$State;II)V"⟩
abbrev cX1_pair : ByteArray := prog_1_method_45_code
def yX1_pair : MethodName := ⟨RX1, "pair", "(III)I"⟩
abbrev cX1_whom : ByteArray := prog_1_method_49_code
def yX1_whom : MethodName := ⟨RX1, "whom", "(II)I"⟩
abbrev cX1_price : ByteArray := prog_1_method_47_code
def yX1_price : MethodName := ⟨RX1, "price", "(I)I"⟩
abbrev cX1_with : ByteArray := prog_1_method_46_code
def yX1_with : MethodName := ⟨RX1, "with", "(I)LFollowTheSun$World;"⟩
abbrev cX1_endIn : ByteArray := prog_1_method_48_code
def yX1_endIn : MethodName := ⟨RX1, "endIn", "(LFollowTheSun$World;I)I"⟩
abbrev cX1_worth : ByteArray := prog_1_method_50_code
def yX1_worth : MethodName := ⟨RX1, "worth", "(I)I"⟩
abbrev cX1_wrong : ByteArray := prog_1_method_52_code
def yX1_wrong : MethodName := ⟨RX1, "wrong", "(I)I"⟩
abbrev cX1_kept : ByteArray := prog_1_method_51_code
def yX1_kept : MethodName := ⟨RX1, "kept", "()I"⟩
abbrev cX1_tellPart : ByteArray := prog_1_method_8_code
def yX1_tellPart : MethodName := ⟨RX1, "tellPart", "(JJ)V"⟩
abbrev cX1_common : ByteArray := prog_1_method_7_code
def yX1_common : MethodName := ⟨RX1, "common", "(JJ)J"⟩
abbrev cX1_mean : ByteArray := prog_1_method_53_code
def yX1_mean : MethodName := ⟨RX1, "mean", "(I)I"⟩
abbrev cX1_riskiest : ByteArray := prog_1_method_54_code
def yX1_riskiest : MethodName := ⟨RX1, "riskiest", "()I"⟩
abbrev cX1_site : ByteArray := prog_1_method_55_code
def yX1_site : MethodName := ⟨RX1, "site", "(IIII)I"⟩
abbrev cX1_together : ByteArray := prog_1_method_56_code
def yX1_together : MethodName := ⟨RX1, "together", "(II)I"⟩
abbrev cX1_like : ByteArray := prog_1_method_57_code
def yX1_like : MethodName := ⟨RX1, "like", "(LFollowTheSun$Office;II)LFollowTheSun$Office;"⟩
abbrev cX1_sleeps : ByteArray := prog_1_method_60_code
def yX1_sleeps : MethodName := ⟨RX1, "sleeps", "(II)I"⟩
abbrev cX1_sleeping : ByteArray := prog_1_method_59_code
def yX1_sleeping : MethodName := ⟨RX1, "sleeping", "(II)LFollowTheSun$Office;"⟩
abbrev cX1_endWith : ByteArray := prog_1_method_58_code
def yX1_endWith : MethodName := ⟨RX1, "endWith", "(ILFollowTheSun$Office;)I"⟩
abbrev cX1_worst : ByteArray := prog_1_method_61_code
def yX1_worst : MethodName := ⟨RX1, "worst", "(III)I"⟩
abbrev cX1_march : ByteArray := prog_1_method_62_code
def yX1_march : MethodName := ⟨RX1, "march", "(II)I"⟩
abbrev cX1_keep : ByteArray := prog_1_method_63_code
def yX1_keep : MethodName := ⟨RX1, "keep", "(I)Z"⟩
abbrev cX1_again : ByteArray := prog_1_method_64_code
def yX1_again : MethodName := ⟨RX1, "again", "(I)Z"⟩
abbrev cX1_count : ByteArray := prog_1_method_65_code
def yX1_count : MethodName := ⟨RX1, "count", "(I)I"⟩
abbrev cX1_value : ByteArray := prog_1_method_28_code
def yX1_value : MethodName := ⟨RX1, "value", "(II)I"⟩
abbrev cX1_of : ByteArray := prog_1_method_31_code
def yX1_of : MethodName := ⟨RX1, "of", "(II)I"⟩
abbrev cX1_row : ByteArray := prog_1_method_66_code
def yX1_row : MethodName := ⟨RX1, "row", "(I)J"⟩
theorem q83 : (Jvm.Cond.initialized "FollowTheSun") ∈ lw_all := lw_g (lw_at lw_m1 1 rfl) rfl
theorem q114 : (Jvm.Cond.instantiable "FollowTheSun" (17 : Nat)) ∈ lw_all := lw_g (lw_at lw_m1 32 rfl) rfl
theorem q116 : (Jvm.Cond.instanceMethod ({ cls := "FollowTheSun", name := "<init>", desc := "()V" } : Jvm.MethodName)) ∈ lw_all := lw_g (lw_at lw_m1 34 rfl) rfl
theorem q117 : (Jvm.Cond.code ({ cls := "FollowTheSun", name := "<init>", desc := "()V" } : Jvm.MethodName) prog_1_method_5_code (1 : Nat) (Option.none : Option Jvm.ClassFile.FieldType)) ∈ lw_all := lw_g (lw_at lw_m1 35 rfl) rfl
theorem q118 : (Jvm.Cond.methodLink "FollowTheSun" (39 : Nat) ({ cls := "java/lang/Object", name := "<init>", desc := "()V" } : Jvm.MethodName)) ∈ lw_all := lw_g (lw_at lw_m1 36 rfl) rfl
theorem q121 : (Jvm.Cond.classLink "FollowTheSun" (45 : Nat) "FollowTheSun$Piece") ∈ lw_all := lw_g (lw_at lw_m1 39 rfl) rfl
theorem q123 : (Jvm.Cond.classLink "FollowTheSun" (14 : Nat) "FollowTheSun$World") ∈ lw_all := lw_g (lw_at lw_m1 41 rfl) rfl
theorem q125 : (Jvm.Cond.methodLinkNest "FollowTheSun" (51 : Nat) ({ cls := "FollowTheSun$World", name := "<init>", desc := "()V" } : Jvm.MethodName) "FollowTheSun") ∈ lw_tbl := lw_at lw_m1 43 rfl
theorem q138 : (Jvm.Cond.fieldLink "FollowTheSun" (127 : Nat) "FollowTheSun$World" "offices" "[LFollowTheSun$Office;") ∈ lw_all := lw_g (lw_at lw_m1 56 rfl) rfl
theorem q141 : (Jvm.Cond.fieldLink "FollowTheSun" (19 : Nat) "FollowTheSun$World" "many" "I") ∈ lw_all := lw_g (lw_at lw_m1 59 rfl) rfl
theorem q143 : (Jvm.Cond.fieldLink "FollowTheSun" (172 : Nat) "FollowTheSun$World" "lose" "I") ∈ lw_all := lw_g (lw_at lw_m1 61 rfl) rfl
theorem q145 : (Jvm.Cond.fieldLink "FollowTheSun" (175 : Nat) "FollowTheSun$World" "miss" "I") ∈ lw_all := lw_g (lw_at lw_m1 63 rfl) rfl
theorem q148 : (Jvm.Cond.fieldLink "FollowTheSun" (141 : Nat) "FollowTheSun$World" "known" "[[I") ∈ lw_all := lw_g (lw_at lw_m1 66 rfl) rfl
theorem q150 : (Jvm.Cond.fieldLink "FollowTheSun" (13 : Nat) "FollowTheSun$World" "rule" "LFollowTheSun$Node;") ∈ lw_all := lw_g (lw_at lw_m1 68 rfl) rfl
theorem q166 : (Jvm.Cond.classLink "FollowTheSun" (8 : Nat) "FollowTheSun$State") ∈ lw_all := lw_g (lw_at lw_m1 84 rfl) rfl
theorem q168 : (Jvm.Cond.methodLinkNest "FollowTheSun" (59 : Nat) ({ cls := "FollowTheSun$State", name := "<init>", desc := "(LFollowTheSun;)V" } : Jvm.MethodName) "FollowTheSun") ∈ lw_tbl := lw_at lw_m1 86 rfl
theorem q174 : (Jvm.Cond.fieldLink "FollowTheSun" (225 : Nat) "FollowTheSun$State" "now" "I") ∈ lw_all := lw_g (lw_at lw_m1 92 rfl) rfl
theorem q176 : (Jvm.Cond.fieldLink "FollowTheSun" (265 : Nat) "FollowTheSun$State" "pay" "I") ∈ lw_all := lw_g (lw_at lw_m1 94 rfl) rfl
theorem q178 : (Jvm.Cond.fieldLink "FollowTheSun" (260 : Nat) "FollowTheSun$State" "handings" "I") ∈ lw_all := lw_g (lw_at lw_m1 96 rfl) rfl
theorem q180 : (Jvm.Cond.fieldLink "FollowTheSun" (263 : Nat) "FollowTheSun$State" "lost" "I") ∈ lw_all := lw_g (lw_at lw_m1 98 rfl) rfl
theorem q183 : (Jvm.Cond.fieldLink "FollowTheSun" (7 : Nat) "FollowTheSun$State" "at" "[I") ∈ lw_all := lw_g (lw_at lw_m1 101 rfl) rfl
theorem q186 : (Jvm.Cond.fieldLink "FollowTheSun" (232 : Nat) "FollowTheSun$State" "left" "[I") ∈ lw_all := lw_g (lw_at lw_m1 104 rfl) rfl
theorem q188 : (Jvm.Cond.fieldLink "FollowTheSun" (235 : Nat) "FollowTheSun$State" "since" "[I") ∈ lw_all := lw_g (lw_at lw_m1 106 rfl) rfl
theorem q190 : (Jvm.Cond.fieldLink "FollowTheSun" (241 : Nat) "FollowTheSun$State" "done" "[I") ∈ lw_all := lw_g (lw_at lw_m1 108 rfl) rfl
theorem q192 : (Jvm.Cond.fieldLink "FollowTheSun" (238 : Nat) "FollowTheSun$State" "waits" "[Z") ∈ lw_all := lw_g (lw_at lw_m1 110 rfl) rfl
theorem q194 : (Jvm.Cond.fieldLink "FollowTheSun" (244 : Nat) "FollowTheSun$State" "worked" "[I") ∈ lw_all := lw_g (lw_at lw_m1 112 rfl) rfl
theorem q196 : (Jvm.Cond.fieldLink "FollowTheSun" (247 : Nat) "FollowTheSun$State" "handed" "[I") ∈ lw_all := lw_g (lw_at lw_m1 114 rfl) rfl
theorem q198 : (Jvm.Cond.fieldLink "FollowTheSun" (250 : Nat) "FollowTheSun$State" "lostOf" "[I") ∈ lw_all := lw_g (lw_at lw_m1 116 rfl) rfl
theorem q200 : (Jvm.Cond.fieldLink "FollowTheSun" (370 : Nat) "FollowTheSun$State" "wrongs" "[I") ∈ lw_all := lw_g (lw_at lw_m1 118 rfl) rfl
theorem q202 : (Jvm.Cond.fieldLink "FollowTheSun" (284 : Nat) "FollowTheSun$State" "idle" "I") ∈ lw_all := lw_g (lw_at lw_m1 120 rfl) rfl
theorem q204 : (Jvm.Cond.fieldLink "FollowTheSun" (293 : Nat) "FollowTheSun$State" "busy" "[I") ∈ lw_all := lw_g (lw_at lw_m1 122 rfl) rfl
theorem q240 : (Jvm.Cond.classLink "FollowTheSun" (28 : Nat) "FollowTheSun$Case") ∈ lw_all := lw_g (lw_at lw_m1 158 rfl) rfl
theorem q242 : (Jvm.Cond.methodLinkNest "FollowTheSun" (69 : Nat) ({ cls := "FollowTheSun$Case", name := "<init>", desc := "()V" } : Jvm.MethodName) "FollowTheSun") ∈ lw_tbl := lw_at lw_m1 160 rfl
theorem q262 : (Jvm.Cond.fieldLink "FollowTheSun" (47 : Nat) "FollowTheSun" "pieces" "[LFollowTheSun$Piece;") ∈ lw_all := lw_g (lw_at lw_m1 180 rfl) rfl
theorem q264 : (Jvm.Cond.fieldLink "FollowTheSun" (105 : Nat) "FollowTheSun" "pieceMany" "I") ∈ lw_all := lw_g (lw_at lw_m1 182 rfl) rfl
theorem q267 : (Jvm.Cond.fieldLink "FollowTheSun" (52 : Nat) "FollowTheSun" "world" "LFollowTheSun$World;") ∈ lw_all := lw_g (lw_at lw_m1 185 rfl) rfl
theorem q268 : (Jvm.Cond.fieldLink "FollowTheSun" (56 : Nat) "FollowTheSun" "other" "LFollowTheSun$World;") ∈ lw_all := lw_g (lw_at lw_m1 186 rfl) rfl
theorem q269 : (Jvm.Cond.fieldLink "FollowTheSun" (62 : Nat) "FollowTheSun" "state" "LFollowTheSun$State;") ∈ lw_all := lw_g (lw_at lw_m1 187 rfl) rfl
theorem q270 : (Jvm.Cond.fieldLink "FollowTheSun" (66 : Nat) "FollowTheSun" "tried" "LFollowTheSun$State;") ∈ lw_all := lw_g (lw_at lw_m1 188 rfl) rfl
theorem q271 : (Jvm.Cond.fieldLink "FollowTheSun" (23 : Nat) "FollowTheSun" "asked" "LFollowTheSun$Case;") ∈ lw_all := lw_g (lw_at lw_m1 189 rfl) rfl
theorem q273 : (Jvm.Cond.fieldLink "FollowTheSun" (70 : Nat) "FollowTheSun" "text" "[B") ∈ lw_all := lw_g (lw_at lw_m1 191 rfl) rfl
theorem q275 : (Jvm.Cond.fieldLink "FollowTheSun" (197 : Nat) "FollowTheSun" "typed" "I") ∈ lw_all := lw_g (lw_at lw_m1 193 rfl) rfl
theorem q276 : (Jvm.Cond.fieldLink "FollowTheSun" (74 : Nat) "FollowTheSun" "row" "[J") ∈ lw_all := lw_g (lw_at lw_m1 194 rfl) rfl
theorem q277 : (Jvm.Cond.fieldLink "FollowTheSun" (94 : Nat) "FollowTheSun" "rowMany" "I") ∈ lw_all := lw_g (lw_at lw_m1 195 rfl) rfl
theorem q279 : (Jvm.Cond.fieldLink "FollowTheSun" (78 : Nat) "FollowTheSun" "pairOne" "[I") ∈ lw_all := lw_g (lw_at lw_m1 197 rfl) rfl
theorem q280 : (Jvm.Cond.fieldLink "FollowTheSun" (81 : Nat) "FollowTheSun" "pairOther" "[I") ∈ lw_all := lw_g (lw_at lw_m1 198 rfl) rfl
theorem q281 : (Jvm.Cond.fieldLink "FollowTheSun" (84 : Nat) "FollowTheSun" "prices" "[I") ∈ lw_all := lw_g (lw_at lw_m1 199 rfl) rfl
theorem q282 : (Jvm.Cond.fieldLink "FollowTheSun" (352 : Nat) "FollowTheSun" "pairMany" "I") ∈ lw_all := lw_g (lw_at lw_m1 200 rfl) rfl
theorem q283 : (Jvm.Cond.fieldLink "FollowTheSun" (87 : Nat) "FollowTheSun" "keptStates" "[LFollowTheSun$State;") ∈ lw_all := lw_g (lw_at lw_m1 201 rfl) rfl
theorem q284 : (Jvm.Cond.fieldLink "FollowTheSun" (91 : Nat) "FollowTheSun" "keptMany" "[I") ∈ lw_all := lw_g (lw_at lw_m1 202 rfl) rfl
theorem q285 : (Jvm.Cond.laysFinal "FollowTheSun" "FollowTheSun" "pieces" "[LFollowTheSun$Piece;") ∈ lw_all := lw_g (lw_at lw_m1 203 rfl) rfl
theorem q286 : (Jvm.Cond.soleField "FollowTheSun" "pieces") ∈ lw_all := lw_g (lw_at lw_m1 204 rfl) rfl
theorem q287 : (Jvm.Cond.lays "FollowTheSun" "FollowTheSun" "pieceMany" "I") ∈ lw_all := lw_g (lw_at lw_m1 205 rfl) rfl
theorem q288 : (Jvm.Cond.soleField "FollowTheSun" "pieceMany") ∈ lw_all := lw_g (lw_at lw_m1 206 rfl) rfl
theorem q289 : (Jvm.Cond.laysFinal "FollowTheSun" "FollowTheSun" "world" "LFollowTheSun$World;") ∈ lw_all := lw_g (lw_at lw_m1 207 rfl) rfl
theorem q290 : (Jvm.Cond.soleField "FollowTheSun" "world") ∈ lw_all := lw_g (lw_at lw_m1 208 rfl) rfl
theorem q291 : (Jvm.Cond.laysFinal "FollowTheSun" "FollowTheSun" "other" "LFollowTheSun$World;") ∈ lw_all := lw_g (lw_at lw_m1 209 rfl) rfl
theorem q292 : (Jvm.Cond.soleField "FollowTheSun" "other") ∈ lw_all := lw_g (lw_at lw_m1 210 rfl) rfl
theorem q293 : (Jvm.Cond.laysFinal "FollowTheSun" "FollowTheSun" "state" "LFollowTheSun$State;") ∈ lw_all := lw_g (lw_at lw_m1 211 rfl) rfl
theorem q294 : (Jvm.Cond.soleField "FollowTheSun" "state") ∈ lw_all := lw_g (lw_at lw_m1 212 rfl) rfl
theorem q295 : (Jvm.Cond.laysFinal "FollowTheSun" "FollowTheSun" "tried" "LFollowTheSun$State;") ∈ lw_all := lw_g (lw_at lw_m1 213 rfl) rfl
theorem q296 : (Jvm.Cond.soleField "FollowTheSun" "tried") ∈ lw_all := lw_g (lw_at lw_m1 214 rfl) rfl
theorem q297 : (Jvm.Cond.laysFinal "FollowTheSun" "FollowTheSun" "asked" "LFollowTheSun$Case;") ∈ lw_all := lw_g (lw_at lw_m1 215 rfl) rfl
theorem q298 : (Jvm.Cond.soleField "FollowTheSun" "asked") ∈ lw_all := lw_g (lw_at lw_m1 216 rfl) rfl
theorem q299 : (Jvm.Cond.laysFinal "FollowTheSun" "FollowTheSun" "text" "[B") ∈ lw_all := lw_g (lw_at lw_m1 217 rfl) rfl
theorem q300 : (Jvm.Cond.soleField "FollowTheSun" "text") ∈ lw_all := lw_g (lw_at lw_m1 218 rfl) rfl
theorem q301 : (Jvm.Cond.lays "FollowTheSun" "FollowTheSun" "typed" "I") ∈ lw_all := lw_g (lw_at lw_m1 219 rfl) rfl
theorem q302 : (Jvm.Cond.soleField "FollowTheSun" "typed") ∈ lw_all := lw_g (lw_at lw_m1 220 rfl) rfl
theorem q303 : (Jvm.Cond.laysFinal "FollowTheSun" "FollowTheSun" "row" "[J") ∈ lw_all := lw_g (lw_at lw_m1 221 rfl) rfl
theorem q304 : (Jvm.Cond.soleField "FollowTheSun" "row") ∈ lw_all := lw_g (lw_at lw_m1 222 rfl) rfl
theorem q305 : (Jvm.Cond.lays "FollowTheSun" "FollowTheSun" "rowMany" "I") ∈ lw_all := lw_g (lw_at lw_m1 223 rfl) rfl
theorem q306 : (Jvm.Cond.soleField "FollowTheSun" "rowMany") ∈ lw_all := lw_g (lw_at lw_m1 224 rfl) rfl
theorem q307 : (Jvm.Cond.laysFinal "FollowTheSun" "FollowTheSun" "pairOne" "[I") ∈ lw_all := lw_g (lw_at lw_m1 225 rfl) rfl
theorem q308 : (Jvm.Cond.soleField "FollowTheSun" "pairOne") ∈ lw_all := lw_g (lw_at lw_m1 226 rfl) rfl
theorem q309 : (Jvm.Cond.laysFinal "FollowTheSun" "FollowTheSun" "pairOther" "[I") ∈ lw_all := lw_g (lw_at lw_m1 227 rfl) rfl
theorem q310 : (Jvm.Cond.soleField "FollowTheSun" "pairOther") ∈ lw_all := lw_g (lw_at lw_m1 228 rfl) rfl
theorem q311 : (Jvm.Cond.laysFinal "FollowTheSun" "FollowTheSun" "prices" "[I") ∈ lw_all := lw_g (lw_at lw_m1 229 rfl) rfl
theorem q312 : (Jvm.Cond.soleField "FollowTheSun" "prices") ∈ lw_all := lw_g (lw_at lw_m1 230 rfl) rfl
theorem q313 : (Jvm.Cond.lays "FollowTheSun" "FollowTheSun" "pairMany" "I") ∈ lw_all := lw_g (lw_at lw_m1 231 rfl) rfl
theorem q314 : (Jvm.Cond.soleField "FollowTheSun" "pairMany") ∈ lw_all := lw_g (lw_at lw_m1 232 rfl) rfl
theorem q315 : (Jvm.Cond.laysFinal "FollowTheSun" "FollowTheSun" "keptStates" "[LFollowTheSun$State;") ∈ lw_all := lw_g (lw_at lw_m1 233 rfl) rfl
theorem q316 : (Jvm.Cond.soleField "FollowTheSun" "keptStates") ∈ lw_all := lw_g (lw_at lw_m1 234 rfl) rfl
theorem q317 : (Jvm.Cond.laysFinal "FollowTheSun" "FollowTheSun" "keptMany" "[I") ∈ lw_all := lw_g (lw_at lw_m1 235 rfl) rfl
theorem q318 : (Jvm.Cond.soleField "FollowTheSun" "keptMany") ∈ lw_all := lw_g (lw_at lw_m1 236 rfl) rfl
theorem q319 : (Jvm.Cond.superclass "FollowTheSun" "java/lang/Object") ∈ lw_all := lw_g (lw_at lw_m1 237 rfl) rfl
theorem q323 : (Jvm.Cond.instanceMethod ({ cls := "FollowTheSun", name := "office", desc := "(IIII)I" } : Jvm.MethodName)) ∈ lw_all := lw_g (lw_at lw_m2 1 rfl) rfl
theorem q324 : (Jvm.Cond.selects "FollowTheSun" ({ cls := "FollowTheSun", name := "office", desc := "(IIII)I" } : Jvm.MethodName) ({ cls := "FollowTheSun", name := "office", desc := "(IIII)I" } : Jvm.MethodName)) ∈ lw_all := lw_g (lw_at lw_m2 2 rfl) rfl
theorem q325 : (Jvm.Cond.code ({ cls := "FollowTheSun", name := "office", desc := "(IIII)I" } : Jvm.MethodName) prog_1_method_12_code (5 : Nat) (Option.some Jvm.ClassFile.FieldType.int)) ∈ lw_all := lw_g (lw_at lw_m2 3 rfl) rfl
theorem q326 : (Jvm.Cond.methodLink "FollowTheSun" (3 : Nat) ({ cls := "FollowTheSun", name := "in", desc := "(III)Z" } : Jvm.MethodName)) ∈ lw_all := lw_g (lw_at lw_m2 4 rfl) rfl
theorem q327 : (Jvm.Cond.static ({ cls := "FollowTheSun", name := "in", desc := "(III)Z" } : Jvm.MethodName)) ∈ lw_all := lw_g (lw_at lw_m2 5 rfl) rfl
theorem q328 : (Jvm.Cond.code ({ cls := "FollowTheSun", name := "in", desc := "(III)Z" } : Jvm.MethodName) prog_1_method_1_code (3 : Nat) (Option.some Jvm.ClassFile.FieldType.boolean)) ∈ lw_all := lw_g (lw_at lw_m2 6 rfl) rfl
theorem q329 : (Jvm.Cond.methodLink "FollowTheSun" (108 : Nat) ({ cls := "FollowTheSun", name := "arePeople", desc := "(I)Z" } : Jvm.MethodName)) ∈ lw_all := lw_g (lw_at lw_m2 7 rfl) rfl
theorem q330 : (Jvm.Cond.static ({ cls := "FollowTheSun", name := "arePeople", desc := "(I)Z" } : Jvm.MethodName)) ∈ lw_all := lw_g (lw_at lw_m2 8 rfl) rfl
theorem q331 : (Jvm.Cond.code ({ cls := "FollowTheSun", name := "arePeople", desc := "(I)Z" } : Jvm.MethodName) prog_1_method_11_code (1 : Nat) (Option.some Jvm.ClassFile.FieldType.boolean)) ∈ lw_all := lw_g (lw_at lw_m2 9 rfl) rfl
theorem q332 : (Jvm.Cond.classLink "FollowTheSun" (112 : Nat) "FollowTheSun$Office") ∈ lw_all := lw_g (lw_at lw_m2 10 rfl) rfl
theorem q334 : (Jvm.Cond.methodLink "FollowTheSun" (114 : Nat) ({ cls := "FollowTheSun$Office", name := "<init>", desc := "(IIIIII)V" } : Jvm.MethodName)) ∈ lw_all := lw_g (lw_at lw_m2 12 rfl) rfl
theorem q339 : (Jvm.Cond.fieldLink "FollowTheSun" (399 : Nat) "FollowTheSun$Office" "zone" "I") ∈ lw_all := lw_g (lw_at lw_m2 17 rfl) rfl
theorem q341 : (Jvm.Cond.fieldLink "FollowTheSun" (402 : Nat) "FollowTheSun$Office" "from" "I") ∈ lw_all := lw_g (lw_at lw_m2 19 rfl) rfl
theorem q343 : (Jvm.Cond.fieldLink "FollowTheSun" (405 : Nat) "FollowTheSun$Office" "length" "I") ∈ lw_all := lw_g (lw_at lw_m2 21 rfl) rfl
theorem q348 : (Jvm.Cond.fieldLink "FollowTheSun" (406 : Nat) "FollowTheSun$Office" "pay" "I") ∈ lw_all := lw_g (lw_at lw_m2 26 rfl) rfl
theorem q351 : (Jvm.Cond.fieldLink "FollowTheSun" (296 : Nat) "FollowTheSun$Office" "people" "I") ∈ lw_all := lw_g (lw_at lw_m2 29 rfl) rfl
theorem q354 : (Jvm.Cond.fieldLink "FollowTheSun" (407 : Nat) "FollowTheSun$Office" "crafts" "I") ∈ lw_all := lw_g (lw_at lw_m2 32 rfl) rfl
theorem q356 : (Jvm.Cond.fieldLink "FollowTheSun" (131 : Nat) "FollowTheSun$Office" "putFrom" "I") ∈ lw_all := lw_g (lw_at lw_m2 34 rfl) rfl
theorem q358 : (Jvm.Cond.fieldLink "FollowTheSun" (134 : Nat) "FollowTheSun$Office" "putBy" "I") ∈ lw_all := lw_g (lw_at lw_m2 36 rfl) rfl
theorem q360 : (Jvm.Cond.fieldLink "FollowTheSun" (137 : Nat) "FollowTheSun$Office" "feasts" "[Z") ∈ lw_all := lw_g (lw_at lw_m2 38 rfl) rfl
theorem q380 : (Jvm.Cond.methodLink "FollowTheSun" (117 : Nat) ({ cls := "FollowTheSun$World", name := "add", desc := "(LFollowTheSun$Office;)I" } : Jvm.MethodName)) ∈ lw_all := lw_g (lw_at lw_m2 58 rfl) rfl
theorem q385 : (Jvm.Cond.instanceMethod ({ cls := "FollowTheSun", name := "clock", desc := "(III)Z" } : Jvm.MethodName)) ∈ lw_all := lw_g (lw_at lw_m2 63 rfl) rfl
theorem q386 : (Jvm.Cond.selects "FollowTheSun" ({ cls := "FollowTheSun", name := "clock", desc := "(III)Z" } : Jvm.MethodName) ({ cls := "FollowTheSun", name := "clock", desc := "(III)Z" } : Jvm.MethodName)) ∈ lw_all := lw_g (lw_at lw_m2 64 rfl) rfl
theorem q387 : (Jvm.Cond.code ({ cls := "FollowTheSun", name := "clock", desc := "(III)Z" } : Jvm.MethodName) prog_1_method_13_code (4 : Nat) (Option.some Jvm.ClassFile.FieldType.boolean)) ∈ lw_all := lw_g (lw_at lw_m2 65 rfl) rfl
theorem q388 : (Jvm.Cond.methodLink "FollowTheSun" (121 : Nat) ({ cls := "FollowTheSun", name := "isOffice", desc := "(I)Z" } : Jvm.MethodName)) ∈ lw_all := lw_g (lw_at lw_m2 66 rfl) rfl
theorem q389 : (Jvm.Cond.privateMethod ({ cls := "FollowTheSun", name := "isOffice", desc := "(I)Z" } : Jvm.MethodName)) ∈ lw_tbl := lw_at lw_m2 67 rfl
theorem q390 : (Jvm.Cond.instanceMethod ({ cls := "FollowTheSun", name := "isOffice", desc := "(I)Z" } : Jvm.MethodName)) ∈ lw_all := lw_g (lw_at lw_m2 68 rfl) rfl
theorem q391 : (Jvm.Cond.code ({ cls := "FollowTheSun", name := "isOffice", desc := "(I)Z" } : Jvm.MethodName) prog_1_method_9_code (2 : Nat) (Option.some Jvm.ClassFile.FieldType.boolean)) ∈ lw_all := lw_g (lw_at lw_m2 69 rfl) rfl
theorem q392 : (Jvm.Cond.methodLink "FollowTheSun" (124 : Nat) ({ cls := "FollowTheSun", name := "isHour", desc := "(I)Z" } : Jvm.MethodName)) ∈ lw_all := lw_g (lw_at lw_m2 70 rfl) rfl
theorem q393 : (Jvm.Cond.static ({ cls := "FollowTheSun", name := "isHour", desc := "(I)Z" } : Jvm.MethodName)) ∈ lw_all := lw_g (lw_at lw_m2 71 rfl) rfl
theorem q394 : (Jvm.Cond.code ({ cls := "FollowTheSun", name := "isHour", desc := "(I)Z" } : Jvm.MethodName) prog_1_method_3_code (1 : Nat) (Option.some Jvm.ClassFile.FieldType.boolean)) ∈ lw_all := lw_g (lw_at lw_m2 72 rfl) rfl
theorem q396 : (Jvm.Cond.instanceMethod ({ cls := "FollowTheSun", name := "feast", desc := "(IIZ)Z" } : Jvm.MethodName)) ∈ lw_all := lw_g (lw_at lw_m2 74 rfl) rfl
theorem q397 : (Jvm.Cond.selects "FollowTheSun" ({ cls := "FollowTheSun", name := "feast", desc := "(IIZ)Z" } : Jvm.MethodName) ({ cls := "FollowTheSun", name := "feast", desc := "(IIZ)Z" } : Jvm.MethodName)) ∈ lw_all := lw_g (lw_at lw_m2 75 rfl) rfl
theorem q398 : (Jvm.Cond.code ({ cls := "FollowTheSun", name := "feast", desc := "(IIZ)Z" } : Jvm.MethodName) prog_1_method_14_code (4 : Nat) (Option.some Jvm.ClassFile.FieldType.boolean)) ∈ lw_all := lw_g (lw_at lw_m2 76 rfl) rfl
theorem q400 : (Jvm.Cond.instanceMethod ({ cls := "FollowTheSun", name := "know", desc := "(III)I" } : Jvm.MethodName)) ∈ lw_all := lw_g (lw_at lw_m2 78 rfl) rfl
theorem q401 : (Jvm.Cond.selects "FollowTheSun" ({ cls := "FollowTheSun", name := "know", desc := "(III)I" } : Jvm.MethodName) ({ cls := "FollowTheSun", name := "know", desc := "(III)I" } : Jvm.MethodName)) ∈ lw_all := lw_g (lw_at lw_m2 79 rfl) rfl
theorem q402 : (Jvm.Cond.code ({ cls := "FollowTheSun", name := "know", desc := "(III)I" } : Jvm.MethodName) prog_1_method_15_code (5 : Nat) (Option.some Jvm.ClassFile.FieldType.int)) ∈ lw_all := lw_g (lw_at lw_m2 80 rfl) rfl
theorem q403 : (Jvm.Cond.methodLink "FollowTheSun" (145 : Nat) ({ cls := "FollowTheSun$World", name := "know", desc := "(III)V" } : Jvm.MethodName)) ∈ lw_all := lw_g (lw_at lw_m2 81 rfl) rfl
theorem q408 : (Jvm.Cond.instanceMethod ({ cls := "FollowTheSun", name := "sheet", desc := "(IIIII)I" } : Jvm.MethodName)) ∈ lw_all := lw_g (lw_at lw_m2 86 rfl) rfl
theorem q409 : (Jvm.Cond.selects "FollowTheSun" ({ cls := "FollowTheSun", name := "sheet", desc := "(IIIII)I" } : Jvm.MethodName) ({ cls := "FollowTheSun", name := "sheet", desc := "(IIIII)I" } : Jvm.MethodName)) ∈ lw_all := lw_g (lw_at lw_m2 87 rfl) rfl
theorem q410 : (Jvm.Cond.codeWith ({ cls := "FollowTheSun", name := "sheet", desc := "(IIIII)I" } : Jvm.MethodName) prog_1_method_18_code (9 : Nat) (Option.some Jvm.ClassFile.FieldType.int) [((33 : Nat), (44 : Nat), (47 : Nat), (157 : Nat))]) ∈ lw_all := lw_g (lw_at lw_m2 88 rfl) rfl
theorem q411 : (Jvm.Cond.classLink "FollowTheSun" (157 : Nat) "java/lang/NegativeArraySizeException") ∈ lw_all := lw_g (lw_at lw_m2 89 rfl) rfl
theorem q481 : (Jvm.Cond.methodLink "FollowTheSun" (153 : Nat) ({ cls := "FollowTheSun", name := "rowOf", desc := "(IIII)Ljava/lang/Object;" } : Jvm.MethodName)) ∈ lw_all := lw_g (lw_at lw_m2 159 rfl) rfl
theorem q482 : (Jvm.Cond.static ({ cls := "FollowTheSun", name := "rowOf", desc := "(IIII)Ljava/lang/Object;" } : Jvm.MethodName)) ∈ lw_all := lw_g (lw_at lw_m2 160 rfl) rfl
theorem q483 : (Jvm.Cond.code ({ cls := "FollowTheSun", name := "rowOf", desc := "(IIII)Ljava/lang/Object;" } : Jvm.MethodName) prog_1_method_16_code (7 : Nat) (Option.some (Jvm.ClassFile.FieldType.object "java/lang/Object"))) ∈ lw_all := lw_g (lw_at lw_m2 161 rfl) rfl
theorem q484 : (Jvm.Cond.methodLink "FollowTheSun" (159 : Nat) ({ cls := "FollowTheSun", name := "entry", desc := "(Ljava/lang/Object;I)I" } : Jvm.MethodName)) ∈ lw_all := lw_g (lw_at lw_m2 162 rfl) rfl
theorem q485 : (Jvm.Cond.static ({ cls := "FollowTheSun", name := "entry", desc := "(Ljava/lang/Object;I)I" } : Jvm.MethodName)) ∈ lw_all := lw_g (lw_at lw_m2 163 rfl) rfl
theorem q486 : (Jvm.Cond.code ({ cls := "FollowTheSun", name := "entry", desc := "(Ljava/lang/Object;I)I" } : Jvm.MethodName) prog_1_method_17_code (2 : Nat) (Option.some Jvm.ClassFile.FieldType.int)) ∈ lw_all := lw_g (lw_at lw_m2 164 rfl) rfl
theorem q487 : (Jvm.Cond.classLink "FollowTheSun" (149 : Nat) "[B") ∈ lw_all := lw_g (lw_at lw_m2 165 rfl) rfl
theorem q488 : (Jvm.Cond.classLink "FollowTheSun" (150 : Nat) "[S") ∈ lw_all := lw_g (lw_at lw_m2 166 rfl) rfl
theorem q489 : (Jvm.Cond.classLink "FollowTheSun" (152 : Nat) "[I") ∈ lw_all := lw_g (lw_at lw_m2 167 rfl) rfl
theorem q490 : (Jvm.Cond.methodLink "FollowTheSun" (163 : Nat) ({ cls := "java/lang/Math", name := "min", desc := "(II)I" } : Jvm.MethodName)) ∈ lw_all := lw_g (lw_at lw_m2 168 rfl) rfl
theorem q493 : (Jvm.Cond.methodLink "FollowTheSun" (169 : Nat) ({ cls := "java/lang/Math", name := "max", desc := "(II)I" } : Jvm.MethodName)) ∈ lw_all := lw_g (lw_at lw_m2 171 rfl) rfl
theorem q498 : (Jvm.Cond.instanceMethod ({ cls := "FollowTheSun", name := "set", desc := "(II)I" } : Jvm.MethodName)) ∈ lw_all := lw_g (lw_at lw_m2 176 rfl) rfl
theorem q499 : (Jvm.Cond.selects "FollowTheSun" ({ cls := "FollowTheSun", name := "set", desc := "(II)I" } : Jvm.MethodName) ({ cls := "FollowTheSun", name := "set", desc := "(II)I" } : Jvm.MethodName)) ∈ lw_all := lw_g (lw_at lw_m2 177 rfl) rfl
theorem q500 : (Jvm.Cond.code ({ cls := "FollowTheSun", name := "set", desc := "(II)I" } : Jvm.MethodName) prog_1_method_19_code (4 : Nat) (Option.some Jvm.ClassFile.FieldType.int)) ∈ lw_all := lw_g (lw_at lw_m2 178 rfl) rfl
theorem q502 : (Jvm.Cond.instanceMethod ({ cls := "FollowTheSun", name := "open", desc := "(II)I" } : Jvm.MethodName)) ∈ lw_all := lw_g (lw_at lw_m2 180 rfl) rfl
theorem q503 : (Jvm.Cond.selects "FollowTheSun" ({ cls := "FollowTheSun", name := "open", desc := "(II)I" } : Jvm.MethodName) ({ cls := "FollowTheSun", name := "open", desc := "(II)I" } : Jvm.MethodName)) ∈ lw_all := lw_g (lw_at lw_m2 181 rfl) rfl
theorem q504 : (Jvm.Cond.code ({ cls := "FollowTheSun", name := "open", desc := "(II)I" } : Jvm.MethodName) prog_1_method_20_code (3 : Nat) (Option.some Jvm.ClassFile.FieldType.int)) ∈ lw_all := lw_g (lw_at lw_m2 182 rfl) rfl
theorem q505 : (Jvm.Cond.methodLink "FollowTheSun" (178 : Nat) ({ cls := "FollowTheSun$Office", name := "isOpen", desc := "(I)Z" } : Jvm.MethodName)) ∈ lw_all := lw_g (lw_at lw_m2 183 rfl) rfl
theorem q517 : (Jvm.Cond.instanceMethod ({ cls := "FollowTheSun", name := "overlap", desc := "(III)I" } : Jvm.MethodName)) ∈ lw_all := lw_g (lw_at lw_m2 195 rfl) rfl
theorem q518 : (Jvm.Cond.selects "FollowTheSun" ({ cls := "FollowTheSun", name := "overlap", desc := "(III)I" } : Jvm.MethodName) ({ cls := "FollowTheSun", name := "overlap", desc := "(III)I" } : Jvm.MethodName)) ∈ lw_all := lw_g (lw_at lw_m2 196 rfl) rfl
theorem q519 : (Jvm.Cond.code ({ cls := "FollowTheSun", name := "overlap", desc := "(III)I" } : Jvm.MethodName) prog_1_method_21_code (4 : Nat) (Option.some Jvm.ClassFile.FieldType.int)) ∈ lw_all := lw_g (lw_at lw_m2 197 rfl) rfl
theorem q520 : (Jvm.Cond.methodLink "FollowTheSun" (181 : Nat) ({ cls := "FollowTheSun$World", name := "overlap", desc := "(III)I" } : Jvm.MethodName)) ∈ lw_all := lw_g (lw_at lw_m2 198 rfl) rfl
theorem q526 : (Jvm.Cond.instanceMethod ({ cls := "FollowTheSun", name := "loses", desc := "(III)I" } : Jvm.MethodName)) ∈ lw_all := lw_g (lw_at lw_m2 204 rfl) rfl
theorem q527 : (Jvm.Cond.selects "FollowTheSun" ({ cls := "FollowTheSun", name := "loses", desc := "(III)I" } : Jvm.MethodName) ({ cls := "FollowTheSun", name := "loses", desc := "(III)I" } : Jvm.MethodName)) ∈ lw_all := lw_g (lw_at lw_m2 205 rfl) rfl
theorem q528 : (Jvm.Cond.code ({ cls := "FollowTheSun", name := "loses", desc := "(III)I" } : Jvm.MethodName) prog_1_method_22_code (4 : Nat) (Option.some Jvm.ClassFile.FieldType.int)) ∈ lw_all := lw_g (lw_at lw_m2 206 rfl) rfl
theorem q529 : (Jvm.Cond.methodLink "FollowTheSun" (185 : Nat) ({ cls := "FollowTheSun$World", name := "lost", desc := "(III)I" } : Jvm.MethodName)) ∈ lw_all := lw_g (lw_at lw_m2 207 rfl) rfl
theorem q536 : (Jvm.Cond.instanceMethod ({ cls := "FollowTheSun", name := "dark", desc := "(II)I" } : Jvm.MethodName)) ∈ lw_all := lw_g (lw_at lw_m2 214 rfl) rfl
theorem q537 : (Jvm.Cond.selects "FollowTheSun" ({ cls := "FollowTheSun", name := "dark", desc := "(II)I" } : Jvm.MethodName) ({ cls := "FollowTheSun", name := "dark", desc := "(II)I" } : Jvm.MethodName)) ∈ lw_all := lw_g (lw_at lw_m2 215 rfl) rfl
theorem q538 : (Jvm.Cond.code ({ cls := "FollowTheSun", name := "dark", desc := "(II)I" } : Jvm.MethodName) prog_1_method_23_code (10 : Nat) (Option.some Jvm.ClassFile.FieldType.int)) ∈ lw_all := lw_g (lw_at lw_m2 216 rfl) rfl
theorem q539 : (Jvm.Cond.methodLink "FollowTheSun" (188 : Nat) ({ cls := "FollowTheSun$World", name := "hasCraft", desc := "(II)Z" } : Jvm.MethodName)) ∈ lw_all := lw_g (lw_at lw_m2 217 rfl) rfl
theorem q544 : (Jvm.Cond.static ({ cls := "FollowTheSun", name := "has", desc := "(II)Z" } : Jvm.MethodName)) ∈ lw_all := lw_g (lw_at lw_m2 222 rfl) rfl
theorem q545 : (Jvm.Cond.code ({ cls := "FollowTheSun", name := "has", desc := "(II)Z" } : Jvm.MethodName) prog_1_method_2_code (2 : Nat) (Option.some Jvm.ClassFile.FieldType.boolean)) ∈ lw_all := lw_g (lw_at lw_m2 223 rfl) rfl
theorem q546 : (Jvm.Cond.methodLink "FollowTheSun" (101 : Nat) ({ cls := "FollowTheSun", name := "tell", desc := "(J)V" } : Jvm.MethodName)) ∈ lw_all := lw_g (lw_at lw_m2 224 rfl) rfl
theorem q547 : (Jvm.Cond.privateMethod ({ cls := "FollowTheSun", name := "tell", desc := "(J)V" } : Jvm.MethodName)) ∈ lw_tbl := lw_at lw_m2 225 rfl
theorem q548 : (Jvm.Cond.instanceMethod ({ cls := "FollowTheSun", name := "tell", desc := "(J)V" } : Jvm.MethodName)) ∈ lw_all := lw_g (lw_at lw_m2 226 rfl) rfl
theorem q549 : (Jvm.Cond.code ({ cls := "FollowTheSun", name := "tell", desc := "(J)V" } : Jvm.MethodName) prog_1_method_6_code (3 : Nat) (Option.none : Option Jvm.ClassFile.FieldType)) ∈ lw_all := lw_g (lw_at lw_m2 227 rfl) rfl
theorem q551 : (Jvm.Cond.instanceMethod ({ cls := "FollowTheSun", name := "piece", desc := "(IIIII)I" } : Jvm.MethodName)) ∈ lw_all := lw_g (lw_at lw_m2 229 rfl) rfl
theorem q552 : (Jvm.Cond.selects "FollowTheSun" ({ cls := "FollowTheSun", name := "piece", desc := "(IIIII)I" } : Jvm.MethodName) ({ cls := "FollowTheSun", name := "piece", desc := "(IIIII)I" } : Jvm.MethodName)) ∈ lw_all := lw_g (lw_at lw_m2 230 rfl) rfl
theorem q553 : (Jvm.Cond.code ({ cls := "FollowTheSun", name := "piece", desc := "(IIIII)I" } : Jvm.MethodName) prog_1_method_24_code (6 : Nat) (Option.some Jvm.ClassFile.FieldType.int)) ∈ lw_all := lw_g (lw_at lw_m2 231 rfl) rfl
theorem q555 : (Jvm.Cond.methodLink "FollowTheSun" (192 : Nat) ({ cls := "FollowTheSun$Piece", name := "<init>", desc := "(IIIIII)V" } : Jvm.MethodName)) ∈ lw_all := lw_g (lw_at lw_m2 233 rfl) rfl
theorem q563 : (Jvm.Cond.fieldLink "FollowTheSun" (290 : Nat) "FollowTheSun$Piece" "craft" "I") ∈ lw_all := lw_g (lw_at lw_m3 1 rfl) rfl
theorem q568 : (Jvm.Cond.fieldLink "FollowTheSun" (331 : Nat) "FollowTheSun$Piece" "length" "I") ∈ lw_all := lw_g (lw_at lw_m3 6 rfl) rfl
theorem q571 : (Jvm.Cond.fieldLink "FollowTheSun" (390 : Nat) "FollowTheSun$Piece" "after" "I") ∈ lw_all := lw_g (lw_at lw_m3 9 rfl) rfl
theorem q575 : (Jvm.Cond.fieldLink "FollowTheSun" (334 : Nat) "FollowTheSun$Piece" "asks" "I") ∈ lw_all := lw_g (lw_at lw_m3 13 rfl) rfl
theorem q578 : (Jvm.Cond.fieldLink "FollowTheSun" (337 : Nat) "FollowTheSun$Piece" "every" "I") ∈ lw_all := lw_g (lw_at lw_m3 16 rfl) rfl
theorem q596 : (Jvm.Cond.methodLink "FollowTheSun" (193 : Nat) ({ cls := "FollowTheSun$State", name := "fresh", desc := "(I)V" } : Jvm.MethodName)) ∈ lw_all := lw_g (lw_at lw_m3 34 rfl) rfl
theorem q601 : (Jvm.Cond.instanceMethod ({ cls := "FollowTheSun", name := "sign", desc := "(I)I" } : Jvm.MethodName)) ∈ lw_all := lw_g (lw_at lw_m3 39 rfl) rfl
theorem q602 : (Jvm.Cond.selects "FollowTheSun" ({ cls := "FollowTheSun", name := "sign", desc := "(I)I" } : Jvm.MethodName) ({ cls := "FollowTheSun", name := "sign", desc := "(I)I" } : Jvm.MethodName)) ∈ lw_all := lw_g (lw_at lw_m3 40 rfl) rfl
theorem q603 : (Jvm.Cond.code ({ cls := "FollowTheSun", name := "sign", desc := "(I)I" } : Jvm.MethodName) prog_1_method_25_code (3 : Nat) (Option.some Jvm.ClassFile.FieldType.int)) ∈ lw_all := lw_g (lw_at lw_m3 41 rfl) rfl
theorem q605 : (Jvm.Cond.instanceMethod ({ cls := "FollowTheSun", name := "end", desc := "(I)Z" } : Jvm.MethodName)) ∈ lw_all := lw_g (lw_at lw_m3 43 rfl) rfl
theorem q606 : (Jvm.Cond.selects "FollowTheSun" ({ cls := "FollowTheSun", name := "end", desc := "(I)Z" } : Jvm.MethodName) ({ cls := "FollowTheSun", name := "end", desc := "(I)Z" } : Jvm.MethodName)) ∈ lw_all := lw_g (lw_at lw_m3 44 rfl) rfl
theorem q607 : (Jvm.Cond.code ({ cls := "FollowTheSun", name := "end", desc := "(I)Z" } : Jvm.MethodName) prog_1_method_26_code (2 : Nat) (Option.some Jvm.ClassFile.FieldType.boolean)) ∈ lw_all := lw_g (lw_at lw_m3 45 rfl) rfl
theorem q609 : (Jvm.Cond.instanceMethod ({ cls := "FollowTheSun", name := "rule", desc := "()I" } : Jvm.MethodName)) ∈ lw_all := lw_g (lw_at lw_m3 47 rfl) rfl
theorem q610 : (Jvm.Cond.selects "FollowTheSun" ({ cls := "FollowTheSun", name := "rule", desc := "()I" } : Jvm.MethodName) ({ cls := "FollowTheSun", name := "rule", desc := "()I" } : Jvm.MethodName)) ∈ lw_all := lw_g (lw_at lw_m3 48 rfl) rfl
theorem q611 : (Jvm.Cond.codeWith ({ cls := "FollowTheSun", name := "rule", desc := "()I" } : Jvm.MethodName) prog_1_method_27_code (2 : Nat) (Option.some Jvm.ClassFile.FieldType.int) [((0 : Nat), (19 : Nat), (20 : Nat), (207 : Nat))]) ∈ lw_all := lw_g (lw_at lw_m3 49 rfl) rfl
theorem q612 : (Jvm.Cond.classLink "FollowTheSun" (207 : Nat) "FollowTheSun$Fault") ∈ lw_all := lw_g (lw_at lw_m3 50 rfl) rfl
theorem q613 : (Jvm.Cond.classLink "FollowTheSun" (200 : Nat) "FollowTheSun$Reader") ∈ lw_all := lw_g (lw_at lw_m3 51 rfl) rfl
theorem q615 : (Jvm.Cond.methodLink "FollowTheSun" (202 : Nat) ({ cls := "FollowTheSun$Reader", name := "<init>", desc := "(LFollowTheSun;)V" } : Jvm.MethodName)) ∈ lw_all := lw_g (lw_at lw_m3 53 rfl) rfl
theorem q633 : (Jvm.Cond.methodLink "FollowTheSun" (203 : Nat) ({ cls := "FollowTheSun$Reader", name := "whole", desc := "()LFollowTheSun$Node;" } : Jvm.MethodName)) ∈ lw_all := lw_g (lw_at lw_m3 71 rfl) rfl
theorem q708 : (Jvm.Cond.fieldLinkNest "FollowTheSun" (209 : Nat) "FollowTheSun$Fault" "place" "I" "FollowTheSun") ∈ lw_tbl := lw_at lw_m3 146 rfl
theorem q755 : (Jvm.Cond.instanceMethod ({ cls := "FollowTheSun", name := "begin", desc := "(I)Z" } : Jvm.MethodName)) ∈ lw_all := lw_g (lw_at lw_m3 193 rfl) rfl
theorem q756 : (Jvm.Cond.selects "FollowTheSun" ({ cls := "FollowTheSun", name := "begin", desc := "(I)Z" } : Jvm.MethodName) ({ cls := "FollowTheSun", name := "begin", desc := "(I)Z" } : Jvm.MethodName)) ∈ lw_all := lw_g (lw_at lw_m3 194 rfl) rfl
theorem q757 : (Jvm.Cond.code ({ cls := "FollowTheSun", name := "begin", desc := "(I)Z" } : Jvm.MethodName) prog_1_method_29_code (2 : Nat) (Option.some Jvm.ClassFile.FieldType.boolean)) ∈ lw_all := lw_g (lw_at lw_m3 195 rfl) rfl
theorem q758 : (Jvm.Cond.methodLink "FollowTheSun" (221 : Nat) ({ cls := "FollowTheSun$State", name := "begin", desc := "(I)LFollowTheSun$State;" } : Jvm.MethodName)) ∈ lw_all := lw_g (lw_at lw_m3 196 rfl) rfl
theorem q764 : (Jvm.Cond.instanceMethod ({ cls := "FollowTheSun", name := "go", desc := "(I)I" } : Jvm.MethodName)) ∈ lw_all := lw_g (lw_at lw_m3 202 rfl) rfl
theorem q765 : (Jvm.Cond.selects "FollowTheSun" ({ cls := "FollowTheSun", name := "go", desc := "(I)I" } : Jvm.MethodName) ({ cls := "FollowTheSun", name := "go", desc := "(I)I" } : Jvm.MethodName)) ∈ lw_all := lw_g (lw_at lw_m3 203 rfl) rfl
theorem q766 : (Jvm.Cond.code ({ cls := "FollowTheSun", name := "go", desc := "(I)I" } : Jvm.MethodName) prog_1_method_30_code (3 : Nat) (Option.some Jvm.ClassFile.FieldType.int)) ∈ lw_all := lw_g (lw_at lw_m3 204 rfl) rfl
theorem q767 : (Jvm.Cond.methodLink "FollowTheSun" (228 : Nat) ({ cls := "FollowTheSun$State", name := "hour", desc := "(LFollowTheSun$World;)V" } : Jvm.MethodName)) ∈ lw_all := lw_g (lw_at lw_m3 205 rfl) rfl
theorem q787 : (Jvm.Cond.privateMethod ({ cls := "FollowTheSun", name := "chosen", desc := "(LFollowTheSun$World;LFollowTheSun$State;I)I" } : Jvm.MethodName)) ∈ lw_tbl := lw_at lw_m3 225 rfl
theorem q788 : (Jvm.Cond.instanceMethod ({ cls := "FollowTheSun", name := "chosen", desc := "(LFollowTheSun$World;LFollowTheSun$State;I)I" } : Jvm.MethodName)) ∈ lw_all := lw_g (lw_at lw_m3 226 rfl) rfl
theorem q789 : (Jvm.Cond.code ({ cls := "FollowTheSun", name := "chosen", desc := "(LFollowTheSun$World;LFollowTheSun$State;I)I" } : Jvm.MethodName) prog_1_method_4_code (8 : Nat) (Option.some Jvm.ClassFile.FieldType.int)) ∈ lw_all := lw_g (lw_at lw_m3 227 rfl) rfl
theorem q790 : (Jvm.Cond.methodLink "FollowTheSun" (27 : Nat) ({ cls := "FollowTheSun$Case", name := "of", desc := "(LFollowTheSun$World;LFollowTheSun$State;II)LFollowTheSun$Case;" } : Jvm.MethodName)) ∈ lw_all := lw_g (lw_at lw_m3 228 rfl) rfl
theorem q794 : (Jvm.Cond.interfaceEntry "FollowTheSun" (33 : Nat)) ∈ lw_tbl := lw_at lw_m3 232 rfl
theorem q795 : (Jvm.Cond.methodLink "FollowTheSun" (33 : Nat) ({ cls := "FollowTheSun$Node", name := "valueOf", desc := "(LFollowTheSun$Case;)I" } : Jvm.MethodName)) ∈ lw_all := lw_g (lw_at lw_m3 233 rfl) rfl
theorem q871 : (Jvm.Cond.instanceMethod ({ cls := "FollowTheSun", name := "hand", desc := "(II)I" } : Jvm.MethodName)) ∈ lw_all := lw_g (lw_at lw_m4 69 rfl) rfl
theorem q872 : (Jvm.Cond.selects "FollowTheSun" ({ cls := "FollowTheSun", name := "hand", desc := "(II)I" } : Jvm.MethodName) ({ cls := "FollowTheSun", name := "hand", desc := "(II)I" } : Jvm.MethodName)) ∈ lw_all := lw_g (lw_at lw_m4 70 rfl) rfl
theorem q873 : (Jvm.Cond.code ({ cls := "FollowTheSun", name := "hand", desc := "(II)I" } : Jvm.MethodName) prog_1_method_32_code (3 : Nat) (Option.some Jvm.ClassFile.FieldType.int)) ∈ lw_all := lw_g (lw_at lw_m4 71 rfl) rfl
theorem q874 : (Jvm.Cond.methodLink "FollowTheSun" (212 : Nat) ({ cls := "FollowTheSun", name := "isPiece", desc := "(I)Z" } : Jvm.MethodName)) ∈ lw_all := lw_g (lw_at lw_m4 72 rfl) rfl
theorem q875 : (Jvm.Cond.privateMethod ({ cls := "FollowTheSun", name := "isPiece", desc := "(I)Z" } : Jvm.MethodName)) ∈ lw_tbl := lw_at lw_m4 73 rfl
theorem q876 : (Jvm.Cond.instanceMethod ({ cls := "FollowTheSun", name := "isPiece", desc := "(I)Z" } : Jvm.MethodName)) ∈ lw_all := lw_g (lw_at lw_m4 74 rfl) rfl
theorem q877 : (Jvm.Cond.code ({ cls := "FollowTheSun", name := "isPiece", desc := "(I)Z" } : Jvm.MethodName) prog_1_method_10_code (2 : Nat) (Option.some Jvm.ClassFile.FieldType.boolean)) ∈ lw_all := lw_g (lw_at lw_m4 75 rfl) rfl
theorem q878 : (Jvm.Cond.methodLink "FollowTheSun" (256 : Nat) ({ cls := "FollowTheSun$State", name := "hand", desc := "(LFollowTheSun$World;III)I" } : Jvm.MethodName)) ∈ lw_all := lw_g (lw_at lw_m4 76 rfl) rfl
theorem q880 : (Jvm.Cond.instanceMethod ({ cls := "FollowTheSun", name := "ends", desc := "()I" } : Jvm.MethodName)) ∈ lw_all := lw_g (lw_at lw_m4 78 rfl) rfl
theorem q881 : (Jvm.Cond.selects "FollowTheSun" ({ cls := "FollowTheSun", name := "ends", desc := "()I" } : Jvm.MethodName) ({ cls := "FollowTheSun", name := "ends", desc := "()I" } : Jvm.MethodName)) ∈ lw_all := lw_g (lw_at lw_m4 79 rfl) rfl
theorem q882 : (Jvm.Cond.code ({ cls := "FollowTheSun", name := "ends", desc := "()I" } : Jvm.MethodName) prog_1_method_34_code (1 : Nat) (Option.some Jvm.ClassFile.FieldType.int)) ∈ lw_all := lw_g (lw_at lw_m4 80 rfl) rfl
theorem q883 : (Jvm.Cond.methodLink "FollowTheSun" (272 : Nat) ({ cls := "FollowTheSun$State", name := "as", desc := "(LFollowTheSun$State;)LFollowTheSun$State;" } : Jvm.MethodName)) ∈ lw_all := lw_g (lw_at lw_m4 81 rfl) rfl
theorem q890 : (Jvm.Cond.methodLink "FollowTheSun" (276 : Nat) ({ cls := "FollowTheSun", name := "endOf", desc := "(LFollowTheSun$State;LFollowTheSun$State;LFollowTheSun$World;)I" } : Jvm.MethodName)) ∈ lw_all := lw_g (lw_at lw_m4 88 rfl) rfl
theorem q891 : (Jvm.Cond.privateMethod ({ cls := "FollowTheSun", name := "endOf", desc := "(LFollowTheSun$State;LFollowTheSun$State;LFollowTheSun$World;)I" } : Jvm.MethodName)) ∈ lw_tbl := lw_at lw_m4 89 rfl
theorem q892 : (Jvm.Cond.instanceMethod ({ cls := "FollowTheSun", name := "endOf", desc := "(LFollowTheSun$State;LFollowTheSun$State;LFollowTheSun$World;)I" } : Jvm.MethodName)) ∈ lw_all := lw_g (lw_at lw_m4 90 rfl) rfl
theorem q893 : (Jvm.Cond.code ({ cls := "FollowTheSun", name := "endOf", desc := "(LFollowTheSun$State;LFollowTheSun$State;LFollowTheSun$World;)I" } : Jvm.MethodName) prog_1_method_33_code (9 : Nat) (Option.some Jvm.ClassFile.FieldType.int)) ∈ lw_all := lw_g (lw_at lw_m4 91 rfl) rfl
theorem q894 : (Jvm.Cond.methodLink "FollowTheSun" (268 : Nat) ({ cls := "FollowTheSun$State", name := "end", desc := "(LFollowTheSun$World;)I" } : Jvm.MethodName)) ∈ lw_all := lw_g (lw_at lw_m4 92 rfl) rfl
theorem q908 : (Jvm.Cond.instanceMethod ({ cls := "FollowTheSun", name := "judge", desc := "()I" } : Jvm.MethodName)) ∈ lw_all := lw_g (lw_at lw_m4 106 rfl) rfl
theorem q909 : (Jvm.Cond.selects "FollowTheSun" ({ cls := "FollowTheSun", name := "judge", desc := "()I" } : Jvm.MethodName) ({ cls := "FollowTheSun", name := "judge", desc := "()I" } : Jvm.MethodName)) ∈ lw_all := lw_g (lw_at lw_m4 107 rfl) rfl
theorem q910 : (Jvm.Cond.code ({ cls := "FollowTheSun", name := "judge", desc := "()I" } : Jvm.MethodName) prog_1_method_35_code (5 : Nat) (Option.some Jvm.ClassFile.FieldType.int)) ∈ lw_all := lw_g (lw_at lw_m4 108 rfl) rfl
theorem q911 : (Jvm.Cond.methodLink "FollowTheSun" (280 : Nat) ({ cls := "FollowTheSun$State", name := "isAllDone", desc := "()Z" } : Jvm.MethodName)) ∈ lw_all := lw_g (lw_at lw_m4 109 rfl) rfl
theorem q912 : (Jvm.Cond.methodLink "FollowTheSun" (287 : Nat) ({ cls := "FollowTheSun", name := "has", desc := "(II)Z" } : Jvm.MethodName)) ∈ lw_all := lw_g (lw_at lw_m4 110 rfl) rfl
theorem q914 : (Jvm.Cond.instanceMethod ({ cls := "FollowTheSun", name := "one", desc := "(III)I" } : Jvm.MethodName)) ∈ lw_all := lw_g (lw_at lw_m4 112 rfl) rfl
theorem q915 : (Jvm.Cond.selects "FollowTheSun" ({ cls := "FollowTheSun", name := "one", desc := "(III)I" } : Jvm.MethodName) ({ cls := "FollowTheSun", name := "one", desc := "(III)I" } : Jvm.MethodName)) ∈ lw_all := lw_g (lw_at lw_m4 113 rfl) rfl
theorem q916 : (Jvm.Cond.code ({ cls := "FollowTheSun", name := "one", desc := "(III)I" } : Jvm.MethodName) prog_1_method_37_code (5 : Nat) (Option.some Jvm.ClassFile.FieldType.int)) ∈ lw_all := lw_g (lw_at lw_m4 114 rfl) rfl
theorem q917 : (Jvm.Cond.methodLink "FollowTheSun" (299 : Nat) ({ cls := "FollowTheSun", name := "canAsk", desc := "(IIII)Z" } : Jvm.MethodName)) ∈ lw_all := lw_g (lw_at lw_m4 115 rfl) rfl
theorem q918 : (Jvm.Cond.privateMethod ({ cls := "FollowTheSun", name := "canAsk", desc := "(IIII)Z" } : Jvm.MethodName)) ∈ lw_tbl := lw_at lw_m4 116 rfl
theorem q919 : (Jvm.Cond.instanceMethod ({ cls := "FollowTheSun", name := "canAsk", desc := "(IIII)Z" } : Jvm.MethodName)) ∈ lw_all := lw_g (lw_at lw_m4 117 rfl) rfl
theorem q920 : (Jvm.Cond.code ({ cls := "FollowTheSun", name := "canAsk", desc := "(IIII)Z" } : Jvm.MethodName) prog_1_method_36_code (5 : Nat) (Option.some Jvm.ClassFile.FieldType.boolean)) ∈ lw_all := lw_g (lw_at lw_m4 118 rfl) rfl
theorem q921 : (Jvm.Cond.classLink "FollowTheSun" (303 : Nat) "FollowTheSun$Soonest") ∈ lw_all := lw_g (lw_at lw_m4 119 rfl) rfl
theorem q923 : (Jvm.Cond.methodLink "FollowTheSun" (305 : Nat) ({ cls := "FollowTheSun$Soonest", name := "<init>", desc := "(LFollowTheSun;III)V" } : Jvm.MethodName)) ∈ lw_all := lw_g (lw_at lw_m4 121 rfl) rfl
theorem q945 : (Jvm.Cond.fieldLink "FollowTheSun" (313 : Nat) "FollowTheSun$Rows" "best" "I") ∈ lw_all := lw_g (lw_at lw_m4 143 rfl) rfl
theorem q963 : (Jvm.Cond.methodLink "FollowTheSun" (308 : Nat) ({ cls := "FollowTheSun$Rows", name := "all", desc := "()V" } : Jvm.MethodName)) ∈ lw_all := lw_g (lw_at lw_m4 161 rfl) rfl
theorem q1024 : (Jvm.Cond.methodLink "FollowTheSun" (316 : Nat) ({ cls := "FollowTheSun$Rows", name := "tellRow", desc := "()V" } : Jvm.MethodName)) ∈ lw_all := lw_g (lw_at lw_m4 222 rfl) rfl
theorem q1032 : (Jvm.Cond.instanceMethod ({ cls := "FollowTheSun", name := "cheap", desc := "(IIII)I" } : Jvm.MethodName)) ∈ lw_all := lw_g (lw_at lw_m4 230 rfl) rfl
theorem q1033 : (Jvm.Cond.selects "FollowTheSun" ({ cls := "FollowTheSun", name := "cheap", desc := "(IIII)I" } : Jvm.MethodName) ({ cls := "FollowTheSun", name := "cheap", desc := "(IIII)I" } : Jvm.MethodName)) ∈ lw_all := lw_g (lw_at lw_m4 231 rfl) rfl
theorem q1034 : (Jvm.Cond.code ({ cls := "FollowTheSun", name := "cheap", desc := "(IIII)I" } : Jvm.MethodName) prog_1_method_38_code (6 : Nat) (Option.some Jvm.ClassFile.FieldType.int)) ∈ lw_all := lw_g (lw_at lw_m4 232 rfl) rfl
theorem q1035 : (Jvm.Cond.classLink "FollowTheSun" (319 : Nat) "FollowTheSun$Cheapest") ∈ lw_all := lw_g (lw_at lw_m4 233 rfl) rfl
theorem q1037 : (Jvm.Cond.methodLink "FollowTheSun" (321 : Nat) ({ cls := "FollowTheSun$Cheapest", name := "<init>", desc := "(LFollowTheSun;IIII)V" } : Jvm.MethodName)) ∈ lw_all := lw_g (lw_at lw_m4 235 rfl) rfl
theorem q1055 : (Jvm.Cond.instanceMethod ({ cls := "FollowTheSun", name := "edge", desc := "(III)I" } : Jvm.MethodName)) ∈ lw_all := lw_g (lw_at lw_m5 13 rfl) rfl
theorem q1056 : (Jvm.Cond.selects "FollowTheSun" ({ cls := "FollowTheSun", name := "edge", desc := "(III)I" } : Jvm.MethodName) ({ cls := "FollowTheSun", name := "edge", desc := "(III)I" } : Jvm.MethodName)) ∈ lw_all := lw_g (lw_at lw_m5 14 rfl) rfl
theorem q1057 : (Jvm.Cond.code ({ cls := "FollowTheSun", name := "edge", desc := "(III)I" } : Jvm.MethodName) prog_1_method_40_code (7 : Nat) (Option.some Jvm.ClassFile.FieldType.int)) ∈ lw_all := lw_g (lw_at lw_m5 15 rfl) rfl
theorem q1058 : (Jvm.Cond.methodLink "FollowTheSun" (324 : Nat) ({ cls := "FollowTheSun", name := "soonest", desc := "(III)I" } : Jvm.MethodName)) ∈ lw_all := lw_g (lw_at lw_m5 16 rfl) rfl
theorem q1059 : (Jvm.Cond.privateMethod ({ cls := "FollowTheSun", name := "soonest", desc := "(III)I" } : Jvm.MethodName)) ∈ lw_tbl := lw_at lw_m5 17 rfl
theorem q1060 : (Jvm.Cond.instanceMethod ({ cls := "FollowTheSun", name := "soonest", desc := "(III)I" } : Jvm.MethodName)) ∈ lw_all := lw_g (lw_at lw_m5 18 rfl) rfl
theorem q1061 : (Jvm.Cond.code ({ cls := "FollowTheSun", name := "soonest", desc := "(III)I" } : Jvm.MethodName) prog_1_method_39_code (5 : Nat) (Option.some Jvm.ClassFile.FieldType.int)) ∈ lw_all := lw_g (lw_at lw_m5 19 rfl) rfl
theorem q1063 : (Jvm.Cond.instanceMethod ({ cls := "FollowTheSun", name := "lie", desc := "(II)I" } : Jvm.MethodName)) ∈ lw_all := lw_g (lw_at lw_m5 21 rfl) rfl
theorem q1064 : (Jvm.Cond.selects "FollowTheSun" ({ cls := "FollowTheSun", name := "lie", desc := "(II)I" } : Jvm.MethodName) ({ cls := "FollowTheSun", name := "lie", desc := "(II)I" } : Jvm.MethodName)) ∈ lw_all := lw_g (lw_at lw_m5 22 rfl) rfl
theorem q1065 : (Jvm.Cond.code ({ cls := "FollowTheSun", name := "lie", desc := "(II)I" } : Jvm.MethodName) prog_1_method_41_code (9 : Nat) (Option.some Jvm.ClassFile.FieldType.int)) ∈ lw_all := lw_g (lw_at lw_m5 23 rfl) rfl
theorem q1066 : (Jvm.Cond.methodLink "FollowTheSun" (327 : Nat) ({ cls := "FollowTheSun", name := "alone", desc := "(LFollowTheSun$Piece;II[I)I" } : Jvm.MethodName)) ∈ lw_all := lw_g (lw_at lw_m5 24 rfl) rfl
theorem q1067 : (Jvm.Cond.privateMethod ({ cls := "FollowTheSun", name := "alone", desc := "(LFollowTheSun$Piece;II[I)I" } : Jvm.MethodName)) ∈ lw_tbl := lw_at lw_m5 25 rfl
theorem q1068 : (Jvm.Cond.instanceMethod ({ cls := "FollowTheSun", name := "alone", desc := "(LFollowTheSun$Piece;II[I)I" } : Jvm.MethodName)) ∈ lw_all := lw_g (lw_at lw_m5 26 rfl) rfl
theorem q1069 : (Jvm.Cond.code ({ cls := "FollowTheSun", name := "alone", desc := "(LFollowTheSun$Piece;II[I)I" } : Jvm.MethodName) prog_1_method_42_code (10 : Nat) (Option.some Jvm.ClassFile.FieldType.int)) ∈ lw_all := lw_g (lw_at lw_m5 27 rfl) rfl
theorem q1071 : (Jvm.Cond.instanceMethod ({ cls := "FollowTheSun", name := "homes", desc := "(II)I" } : Jvm.MethodName)) ∈ lw_all := lw_g (lw_at lw_m5 29 rfl) rfl
theorem q1072 : (Jvm.Cond.selects "FollowTheSun" ({ cls := "FollowTheSun", name := "homes", desc := "(II)I" } : Jvm.MethodName) ({ cls := "FollowTheSun", name := "homes", desc := "(II)I" } : Jvm.MethodName)) ∈ lw_all := lw_g (lw_at lw_m5 30 rfl) rfl
theorem q1073 : (Jvm.Cond.code ({ cls := "FollowTheSun", name := "homes", desc := "(II)I" } : Jvm.MethodName) prog_1_method_43_code (10 : Nat) (Option.some Jvm.ClassFile.FieldType.int)) ∈ lw_all := lw_g (lw_at lw_m5 31 rfl) rfl
theorem q1074 : (Jvm.Cond.methodLink "FollowTheSun" (340 : Nat) ({ cls := "java/lang/Integer", name := "bitCount", desc := "(I)I" } : Jvm.MethodName)) ∈ lw_all := lw_g (lw_at lw_m5 32 rfl) rfl
theorem q1080 : (Jvm.Cond.methodLink "FollowTheSun" (346 : Nat) ({ cls := "FollowTheSun$World", name := "as", desc := "(LFollowTheSun$World;)LFollowTheSun$World;" } : Jvm.MethodName)) ∈ lw_all := lw_g (lw_at lw_m5 38 rfl) rfl
theorem q1085 : (Jvm.Cond.methodLink "FollowTheSun" (349 : Nat) ({ cls := "FollowTheSun", name := "place", desc := "(LFollowTheSun$State;II)V" } : Jvm.MethodName)) ∈ lw_all := lw_g (lw_at lw_m5 43 rfl) rfl
theorem q1086 : (Jvm.Cond.privateMethod ({ cls := "FollowTheSun", name := "place", desc := "(LFollowTheSun$State;II)V" } : Jvm.MethodName)) ∈ lw_tbl := lw_at lw_m5 44 rfl
theorem q1087 : (Jvm.Cond.instanceMethod ({ cls := "FollowTheSun", name := "place", desc := "(LFollowTheSun$State;II)V" } : Jvm.MethodName)) ∈ lw_all := lw_g (lw_at lw_m5 45 rfl) rfl
theorem q1088 : (Jvm.Cond.code ({ cls := "FollowTheSun", name := "place", desc := "(LFollowTheSun$State;II)V" } : Jvm.MethodName) prog_1_method_44_code (6 : Nat) (Option.none : Option Jvm.ClassFile.FieldType)) ∈ lw_all := lw_g (lw_at lw_m5 46 rfl) rfl
theorem q1090 : (Jvm.Cond.instanceMethod ({ cls := "FollowTheSun", name := "pair", desc := "(III)I" } : Jvm.MethodName)) ∈ lw_all := lw_g (lw_at lw_m5 48 rfl) rfl
theorem q1091 : (Jvm.Cond.selects "FollowTheSun" ({ cls := "FollowTheSun", name := "pair", desc := "(III)I" } : Jvm.MethodName) ({ cls := "FollowTheSun", name := "pair", desc := "(III)I" } : Jvm.MethodName)) ∈ lw_all := lw_g (lw_at lw_m5 49 rfl) rfl
theorem q1092 : (Jvm.Cond.code ({ cls := "FollowTheSun", name := "pair", desc := "(III)I" } : Jvm.MethodName) prog_1_method_45_code (5 : Nat) (Option.some Jvm.ClassFile.FieldType.int)) ∈ lw_all := lw_g (lw_at lw_m5 50 rfl) rfl
theorem q1094 : (Jvm.Cond.instanceMethod ({ cls := "FollowTheSun", name := "whom", desc := "(II)I" } : Jvm.MethodName)) ∈ lw_all := lw_g (lw_at lw_m5 52 rfl) rfl
theorem q1095 : (Jvm.Cond.selects "FollowTheSun" ({ cls := "FollowTheSun", name := "whom", desc := "(II)I" } : Jvm.MethodName) ({ cls := "FollowTheSun", name := "whom", desc := "(II)I" } : Jvm.MethodName)) ∈ lw_all := lw_g (lw_at lw_m5 53 rfl) rfl
theorem q1096 : (Jvm.Cond.code ({ cls := "FollowTheSun", name := "whom", desc := "(II)I" } : Jvm.MethodName) prog_1_method_49_code (7 : Nat) (Option.some Jvm.ClassFile.FieldType.int)) ∈ lw_all := lw_g (lw_at lw_m5 54 rfl) rfl
theorem q1097 : (Jvm.Cond.methodLink "FollowTheSun" (355 : Nat) ({ cls := "FollowTheSun", name := "price", desc := "(I)I" } : Jvm.MethodName)) ∈ lw_all := lw_g (lw_at lw_m5 55 rfl) rfl
theorem q1098 : (Jvm.Cond.privateMethod ({ cls := "FollowTheSun", name := "price", desc := "(I)I" } : Jvm.MethodName)) ∈ lw_tbl := lw_at lw_m5 56 rfl
theorem q1099 : (Jvm.Cond.instanceMethod ({ cls := "FollowTheSun", name := "price", desc := "(I)I" } : Jvm.MethodName)) ∈ lw_all := lw_g (lw_at lw_m5 57 rfl) rfl
theorem q1100 : (Jvm.Cond.code ({ cls := "FollowTheSun", name := "price", desc := "(I)I" } : Jvm.MethodName) prog_1_method_47_code (4 : Nat) (Option.some Jvm.ClassFile.FieldType.int)) ∈ lw_all := lw_g (lw_at lw_m5 58 rfl) rfl
theorem q1101 : (Jvm.Cond.methodLink "FollowTheSun" (358 : Nat) ({ cls := "FollowTheSun", name := "with", desc := "(I)LFollowTheSun$World;" } : Jvm.MethodName)) ∈ lw_all := lw_g (lw_at lw_m5 59 rfl) rfl
theorem q1102 : (Jvm.Cond.privateMethod ({ cls := "FollowTheSun", name := "with", desc := "(I)LFollowTheSun$World;" } : Jvm.MethodName)) ∈ lw_tbl := lw_at lw_m5 60 rfl
theorem q1103 : (Jvm.Cond.instanceMethod ({ cls := "FollowTheSun", name := "with", desc := "(I)LFollowTheSun$World;" } : Jvm.MethodName)) ∈ lw_all := lw_g (lw_at lw_m5 61 rfl) rfl
theorem q1104 : (Jvm.Cond.code ({ cls := "FollowTheSun", name := "with", desc := "(I)LFollowTheSun$World;" } : Jvm.MethodName) prog_1_method_46_code (4 : Nat) (Option.some (Jvm.ClassFile.FieldType.object "FollowTheSun$World"))) ∈ lw_all := lw_g (lw_at lw_m5 62 rfl) rfl
theorem q1105 : (Jvm.Cond.methodLink "FollowTheSun" (362 : Nat) ({ cls := "FollowTheSun", name := "endIn", desc := "(LFollowTheSun$World;I)I" } : Jvm.MethodName)) ∈ lw_all := lw_g (lw_at lw_m5 63 rfl) rfl
theorem q1106 : (Jvm.Cond.privateMethod ({ cls := "FollowTheSun", name := "endIn", desc := "(LFollowTheSun$World;I)I" } : Jvm.MethodName)) ∈ lw_tbl := lw_at lw_m5 64 rfl
theorem q1107 : (Jvm.Cond.instanceMethod ({ cls := "FollowTheSun", name := "endIn", desc := "(LFollowTheSun$World;I)I" } : Jvm.MethodName)) ∈ lw_all := lw_g (lw_at lw_m5 65 rfl) rfl
theorem q1108 : (Jvm.Cond.code ({ cls := "FollowTheSun", name := "endIn", desc := "(LFollowTheSun$World;I)I" } : Jvm.MethodName) prog_1_method_48_code (3 : Nat) (Option.some Jvm.ClassFile.FieldType.int)) ∈ lw_all := lw_g (lw_at lw_m5 66 rfl) rfl
theorem q1110 : (Jvm.Cond.instanceMethod ({ cls := "FollowTheSun", name := "worth", desc := "(I)I" } : Jvm.MethodName)) ∈ lw_all := lw_g (lw_at lw_m5 68 rfl) rfl
theorem q1111 : (Jvm.Cond.selects "FollowTheSun" ({ cls := "FollowTheSun", name := "worth", desc := "(I)I" } : Jvm.MethodName) ({ cls := "FollowTheSun", name := "worth", desc := "(I)I" } : Jvm.MethodName)) ∈ lw_all := lw_g (lw_at lw_m5 69 rfl) rfl
theorem q1112 : (Jvm.Cond.code ({ cls := "FollowTheSun", name := "worth", desc := "(I)I" } : Jvm.MethodName) prog_1_method_50_code (8 : Nat) (Option.some Jvm.ClassFile.FieldType.int)) ∈ lw_all := lw_g (lw_at lw_m5 70 rfl) rfl
theorem q1114 : (Jvm.Cond.instanceMethod ({ cls := "FollowTheSun", name := "wrong", desc := "(I)I" } : Jvm.MethodName)) ∈ lw_all := lw_g (lw_at lw_m5 72 rfl) rfl
theorem q1115 : (Jvm.Cond.selects "FollowTheSun" ({ cls := "FollowTheSun", name := "wrong", desc := "(I)I" } : Jvm.MethodName) ({ cls := "FollowTheSun", name := "wrong", desc := "(I)I" } : Jvm.MethodName)) ∈ lw_all := lw_g (lw_at lw_m5 73 rfl) rfl
theorem q1116 : (Jvm.Cond.code ({ cls := "FollowTheSun", name := "wrong", desc := "(I)I" } : Jvm.MethodName) prog_1_method_52_code (9 : Nat) (Option.some Jvm.ClassFile.FieldType.int)) ∈ lw_all := lw_g (lw_at lw_m5 74 rfl) rfl
theorem q1117 : (Jvm.Cond.methodLink "FollowTheSun" (366 : Nat) ({ cls := "FollowTheSun", name := "kept", desc := "()I" } : Jvm.MethodName)) ∈ lw_all := lw_g (lw_at lw_m5 75 rfl) rfl
theorem q1118 : (Jvm.Cond.privateMethod ({ cls := "FollowTheSun", name := "kept", desc := "()I" } : Jvm.MethodName)) ∈ lw_tbl := lw_at lw_m5 76 rfl
theorem q1119 : (Jvm.Cond.instanceMethod ({ cls := "FollowTheSun", name := "kept", desc := "()I" } : Jvm.MethodName)) ∈ lw_all := lw_g (lw_at lw_m5 77 rfl) rfl
theorem q1120 : (Jvm.Cond.code ({ cls := "FollowTheSun", name := "kept", desc := "()I" } : Jvm.MethodName) prog_1_method_51_code (1 : Nat) (Option.some Jvm.ClassFile.FieldType.int)) ∈ lw_all := lw_g (lw_at lw_m5 78 rfl) rfl
theorem q1121 : (Jvm.Cond.constantLong "FollowTheSun" (373 : Nat) (100 : Int64)) ∈ lw_all := lw_g (lw_at lw_m5 79 rfl) rfl
theorem q1122 : (Jvm.Cond.methodLink "FollowTheSun" (375 : Nat) ({ cls := "FollowTheSun", name := "tellPart", desc := "(JJ)V" } : Jvm.MethodName)) ∈ lw_all := lw_g (lw_at lw_m5 80 rfl) rfl
theorem q1123 : (Jvm.Cond.privateMethod ({ cls := "FollowTheSun", name := "tellPart", desc := "(JJ)V" } : Jvm.MethodName)) ∈ lw_tbl := lw_at lw_m5 81 rfl
theorem q1124 : (Jvm.Cond.instanceMethod ({ cls := "FollowTheSun", name := "tellPart", desc := "(JJ)V" } : Jvm.MethodName)) ∈ lw_all := lw_g (lw_at lw_m5 82 rfl) rfl
theorem q1125 : (Jvm.Cond.code ({ cls := "FollowTheSun", name := "tellPart", desc := "(JJ)V" } : Jvm.MethodName) prog_1_method_8_code (7 : Nat) (Option.none : Option Jvm.ClassFile.FieldType)) ∈ lw_all := lw_g (lw_at lw_m5 83 rfl) rfl
theorem q1126 : (Jvm.Cond.methodLink "FollowTheSun" (97 : Nat) ({ cls := "FollowTheSun", name := "common", desc := "(JJ)J" } : Jvm.MethodName)) ∈ lw_all := lw_g (lw_at lw_m5 84 rfl) rfl
theorem q1127 : (Jvm.Cond.static ({ cls := "FollowTheSun", name := "common", desc := "(JJ)J" } : Jvm.MethodName)) ∈ lw_all := lw_g (lw_at lw_m5 85 rfl) rfl
theorem q1128 : (Jvm.Cond.code ({ cls := "FollowTheSun", name := "common", desc := "(JJ)J" } : Jvm.MethodName) prog_1_method_7_code (10 : Nat) (Option.some Jvm.ClassFile.FieldType.long)) ∈ lw_all := lw_g (lw_at lw_m5 86 rfl) rfl
theorem q1130 : (Jvm.Cond.instanceMethod ({ cls := "FollowTheSun", name := "mean", desc := "(I)I" } : Jvm.MethodName)) ∈ lw_all := lw_g (lw_at lw_m5 88 rfl) rfl
theorem q1131 : (Jvm.Cond.selects "FollowTheSun" ({ cls := "FollowTheSun", name := "mean", desc := "(I)I" } : Jvm.MethodName) ({ cls := "FollowTheSun", name := "mean", desc := "(I)I" } : Jvm.MethodName)) ∈ lw_all := lw_g (lw_at lw_m5 89 rfl) rfl
theorem q1132 : (Jvm.Cond.code ({ cls := "FollowTheSun", name := "mean", desc := "(I)I" } : Jvm.MethodName) prog_1_method_53_code (5 : Nat) (Option.some Jvm.ClassFile.FieldType.int)) ∈ lw_all := lw_g (lw_at lw_m5 90 rfl) rfl
theorem q1134 : (Jvm.Cond.instanceMethod ({ cls := "FollowTheSun", name := "riskiest", desc := "()I" } : Jvm.MethodName)) ∈ lw_all := lw_g (lw_at lw_m5 92 rfl) rfl
theorem q1135 : (Jvm.Cond.selects "FollowTheSun" ({ cls := "FollowTheSun", name := "riskiest", desc := "()I" } : Jvm.MethodName) ({ cls := "FollowTheSun", name := "riskiest", desc := "()I" } : Jvm.MethodName)) ∈ lw_all := lw_g (lw_at lw_m5 93 rfl) rfl
theorem q1136 : (Jvm.Cond.code ({ cls := "FollowTheSun", name := "riskiest", desc := "()I" } : Jvm.MethodName) prog_1_method_54_code (3 : Nat) (Option.some Jvm.ClassFile.FieldType.int)) ∈ lw_all := lw_g (lw_at lw_m5 94 rfl) rfl
theorem q1138 : (Jvm.Cond.instanceMethod ({ cls := "FollowTheSun", name := "site", desc := "(IIII)I" } : Jvm.MethodName)) ∈ lw_all := lw_g (lw_at lw_m5 96 rfl) rfl
theorem q1139 : (Jvm.Cond.selects "FollowTheSun" ({ cls := "FollowTheSun", name := "site", desc := "(IIII)I" } : Jvm.MethodName) ({ cls := "FollowTheSun", name := "site", desc := "(IIII)I" } : Jvm.MethodName)) ∈ lw_all := lw_g (lw_at lw_m5 97 rfl) rfl
theorem q1140 : (Jvm.Cond.code ({ cls := "FollowTheSun", name := "site", desc := "(IIII)I" } : Jvm.MethodName) prog_1_method_55_code (11 : Nat) (Option.some Jvm.ClassFile.FieldType.int)) ∈ lw_all := lw_g (lw_at lw_m5 98 rfl) rfl
theorem q1141 : (Jvm.Cond.constantLong "FollowTheSun" (379 : Nat) (-1 : Int64)) ∈ lw_all := lw_g (lw_at lw_m5 99 rfl) rfl
theorem q1143 : (Jvm.Cond.instanceMethod ({ cls := "FollowTheSun", name := "together", desc := "(II)I" } : Jvm.MethodName)) ∈ lw_all := lw_g (lw_at lw_m5 101 rfl) rfl
theorem q1144 : (Jvm.Cond.selects "FollowTheSun" ({ cls := "FollowTheSun", name := "together", desc := "(II)I" } : Jvm.MethodName) ({ cls := "FollowTheSun", name := "together", desc := "(II)I" } : Jvm.MethodName)) ∈ lw_all := lw_g (lw_at lw_m5 102 rfl) rfl
theorem q1145 : (Jvm.Cond.codeWith ({ cls := "FollowTheSun", name := "together", desc := "(II)I" } : Jvm.MethodName) prog_1_method_56_code (9 : Nat) (Option.some Jvm.ClassFile.FieldType.int) [((193 : Nat), (210 : Nat), (226 : Nat), (0 : Nat)), ((226 : Nat), (228 : Nat), (226 : Nat), (0 : Nat))]) ∈ lw_all := lw_g (lw_at lw_m5 103 rfl) rfl
theorem q1146 : (Jvm.Cond.methodLink "FollowTheSun" (381 : Nat) ({ cls := "FollowTheSun", name := "like", desc := "(LFollowTheSun$Office;II)LFollowTheSun$Office;" } : Jvm.MethodName)) ∈ lw_all := lw_g (lw_at lw_m5 104 rfl) rfl
theorem q1147 : (Jvm.Cond.static ({ cls := "FollowTheSun", name := "like", desc := "(LFollowTheSun$Office;II)LFollowTheSun$Office;" } : Jvm.MethodName)) ∈ lw_all := lw_g (lw_at lw_m5 105 rfl) rfl
theorem q1148 : (Jvm.Cond.code ({ cls := "FollowTheSun", name := "like", desc := "(LFollowTheSun$Office;II)LFollowTheSun$Office;" } : Jvm.MethodName) prog_1_method_57_code (4 : Nat) (Option.some (Jvm.ClassFile.FieldType.object "FollowTheSun$Office"))) ∈ lw_all := lw_g (lw_at lw_m5 106 rfl) rfl
theorem q1149 : (Jvm.Cond.methodLink "FollowTheSun" (393 : Nat) ({ cls := "java/lang/System", name := "arraycopy", desc := "(Ljava/lang/Object;ILjava/lang/Object;II)V" } : Jvm.MethodName)) ∈ lw_all := lw_g (lw_at lw_m5 107 rfl) rfl
theorem q1150 : (Jvm.Cond.methodLink "FollowTheSun" (385 : Nat) ({ cls := "[LFollowTheSun$Piece;", name := "clone", desc := "()Ljava/lang/Object;" } : Jvm.MethodName)) ∈ lw_all := lw_g (lw_at lw_m5 108 rfl) rfl
theorem q1154 : (Jvm.Cond.classLink "FollowTheSun" (386 : Nat) "[LFollowTheSun$Piece;") ∈ lw_all := lw_g (lw_at lw_m5 112 rfl) rfl
theorem q1156 : (Jvm.Cond.instanceMethod ({ cls := "FollowTheSun", name := "sleeps", desc := "(II)I" } : Jvm.MethodName)) ∈ lw_all := lw_g (lw_at lw_m5 114 rfl) rfl
theorem q1157 : (Jvm.Cond.selects "FollowTheSun" ({ cls := "FollowTheSun", name := "sleeps", desc := "(II)I" } : Jvm.MethodName) ({ cls := "FollowTheSun", name := "sleeps", desc := "(II)I" } : Jvm.MethodName)) ∈ lw_all := lw_g (lw_at lw_m5 115 rfl) rfl
theorem q1158 : (Jvm.Cond.code ({ cls := "FollowTheSun", name := "sleeps", desc := "(II)I" } : Jvm.MethodName) prog_1_method_60_code (5 : Nat) (Option.some Jvm.ClassFile.FieldType.int)) ∈ lw_all := lw_g (lw_at lw_m5 116 rfl) rfl
theorem q1159 : (Jvm.Cond.methodLink "FollowTheSun" (410 : Nat) ({ cls := "FollowTheSun", name := "sleeping", desc := "(II)LFollowTheSun$Office;" } : Jvm.MethodName)) ∈ lw_all := lw_g (lw_at lw_m5 117 rfl) rfl
theorem q1160 : (Jvm.Cond.privateMethod ({ cls := "FollowTheSun", name := "sleeping", desc := "(II)LFollowTheSun$Office;" } : Jvm.MethodName)) ∈ lw_tbl := lw_at lw_m5 118 rfl
theorem q1161 : (Jvm.Cond.instanceMethod ({ cls := "FollowTheSun", name := "sleeping", desc := "(II)LFollowTheSun$Office;" } : Jvm.MethodName)) ∈ lw_all := lw_g (lw_at lw_m5 119 rfl) rfl
theorem q1162 : (Jvm.Cond.code ({ cls := "FollowTheSun", name := "sleeping", desc := "(II)LFollowTheSun$Office;" } : Jvm.MethodName) prog_1_method_59_code (4 : Nat) (Option.some (Jvm.ClassFile.FieldType.object "FollowTheSun$Office"))) ∈ lw_all := lw_g (lw_at lw_m5 120 rfl) rfl
theorem q1163 : (Jvm.Cond.methodLink "FollowTheSun" (414 : Nat) ({ cls := "FollowTheSun", name := "endWith", desc := "(ILFollowTheSun$Office;)I" } : Jvm.MethodName)) ∈ lw_all := lw_g (lw_at lw_m5 121 rfl) rfl
theorem q1164 : (Jvm.Cond.privateMethod ({ cls := "FollowTheSun", name := "endWith", desc := "(ILFollowTheSun$Office;)I" } : Jvm.MethodName)) ∈ lw_tbl := lw_at lw_m5 122 rfl
theorem q1165 : (Jvm.Cond.instanceMethod ({ cls := "FollowTheSun", name := "endWith", desc := "(ILFollowTheSun$Office;)I" } : Jvm.MethodName)) ∈ lw_all := lw_g (lw_at lw_m5 123 rfl) rfl
theorem q1166 : (Jvm.Cond.code ({ cls := "FollowTheSun", name := "endWith", desc := "(ILFollowTheSun$Office;)I" } : Jvm.MethodName) prog_1_method_58_code (4 : Nat) (Option.some Jvm.ClassFile.FieldType.int)) ∈ lw_all := lw_g (lw_at lw_m5 124 rfl) rfl
theorem q1168 : (Jvm.Cond.instanceMethod ({ cls := "FollowTheSun", name := "worst", desc := "(III)I" } : Jvm.MethodName)) ∈ lw_all := lw_g (lw_at lw_m5 126 rfl) rfl
theorem q1169 : (Jvm.Cond.selects "FollowTheSun" ({ cls := "FollowTheSun", name := "worst", desc := "(III)I" } : Jvm.MethodName) ({ cls := "FollowTheSun", name := "worst", desc := "(III)I" } : Jvm.MethodName)) ∈ lw_all := lw_g (lw_at lw_m5 127 rfl) rfl
theorem q1170 : (Jvm.Cond.code ({ cls := "FollowTheSun", name := "worst", desc := "(III)I" } : Jvm.MethodName) prog_1_method_61_code (8 : Nat) (Option.some Jvm.ClassFile.FieldType.int)) ∈ lw_all := lw_g (lw_at lw_m5 128 rfl) rfl
theorem q1172 : (Jvm.Cond.instanceMethod ({ cls := "FollowTheSun", name := "march", desc := "(II)I" } : Jvm.MethodName)) ∈ lw_all := lw_g (lw_at lw_m5 130 rfl) rfl
theorem q1173 : (Jvm.Cond.selects "FollowTheSun" ({ cls := "FollowTheSun", name := "march", desc := "(II)I" } : Jvm.MethodName) ({ cls := "FollowTheSun", name := "march", desc := "(II)I" } : Jvm.MethodName)) ∈ lw_all := lw_g (lw_at lw_m5 131 rfl) rfl
theorem q1174 : (Jvm.Cond.code ({ cls := "FollowTheSun", name := "march", desc := "(II)I" } : Jvm.MethodName) prog_1_method_62_code (6 : Nat) (Option.some Jvm.ClassFile.FieldType.int)) ∈ lw_all := lw_g (lw_at lw_m5 132 rfl) rfl
theorem q1176 : (Jvm.Cond.instanceMethod ({ cls := "FollowTheSun", name := "keep", desc := "(I)Z" } : Jvm.MethodName)) ∈ lw_all := lw_g (lw_at lw_m5 134 rfl) rfl
theorem q1177 : (Jvm.Cond.selects "FollowTheSun" ({ cls := "FollowTheSun", name := "keep", desc := "(I)Z" } : Jvm.MethodName) ({ cls := "FollowTheSun", name := "keep", desc := "(I)Z" } : Jvm.MethodName)) ∈ lw_all := lw_g (lw_at lw_m5 135 rfl) rfl
theorem q1178 : (Jvm.Cond.code ({ cls := "FollowTheSun", name := "keep", desc := "(I)Z" } : Jvm.MethodName) prog_1_method_63_code (2 : Nat) (Option.some Jvm.ClassFile.FieldType.boolean)) ∈ lw_all := lw_g (lw_at lw_m5 136 rfl) rfl
theorem q1180 : (Jvm.Cond.instanceMethod ({ cls := "FollowTheSun", name := "again", desc := "(I)Z" } : Jvm.MethodName)) ∈ lw_all := lw_g (lw_at lw_m5 138 rfl) rfl
theorem q1181 : (Jvm.Cond.selects "FollowTheSun" ({ cls := "FollowTheSun", name := "again", desc := "(I)Z" } : Jvm.MethodName) ({ cls := "FollowTheSun", name := "again", desc := "(I)Z" } : Jvm.MethodName)) ∈ lw_all := lw_g (lw_at lw_m5 139 rfl) rfl
theorem q1182 : (Jvm.Cond.code ({ cls := "FollowTheSun", name := "again", desc := "(I)Z" } : Jvm.MethodName) prog_1_method_64_code (2 : Nat) (Option.some Jvm.ClassFile.FieldType.boolean)) ∈ lw_all := lw_g (lw_at lw_m5 140 rfl) rfl
theorem q1184 : (Jvm.Cond.instanceMethod ({ cls := "FollowTheSun", name := "count", desc := "(I)I" } : Jvm.MethodName)) ∈ lw_all := lw_g (lw_at lw_m5 142 rfl) rfl
theorem q1185 : (Jvm.Cond.selects "FollowTheSun" ({ cls := "FollowTheSun", name := "count", desc := "(I)I" } : Jvm.MethodName) ({ cls := "FollowTheSun", name := "count", desc := "(I)I" } : Jvm.MethodName)) ∈ lw_all := lw_g (lw_at lw_m5 143 rfl) rfl
theorem q1186 : (Jvm.Cond.code ({ cls := "FollowTheSun", name := "count", desc := "(I)I" } : Jvm.MethodName) prog_1_method_65_code (2 : Nat) (Option.some Jvm.ClassFile.FieldType.int)) ∈ lw_all := lw_g (lw_at lw_m5 144 rfl) rfl
theorem q1187 : (Jvm.Cond.methodLink "FollowTheSun" (418 : Nat) ({ cls := "FollowTheSun$State", name := "doneOnes", desc := "()I" } : Jvm.MethodName)) ∈ lw_all := lw_g (lw_at lw_m5 145 rfl) rfl
theorem q1193 : (Jvm.Cond.instanceMethod ({ cls := "FollowTheSun", name := "value", desc := "(II)I" } : Jvm.MethodName)) ∈ lw_all := lw_g (lw_at lw_m5 151 rfl) rfl
theorem q1194 : (Jvm.Cond.selects "FollowTheSun" ({ cls := "FollowTheSun", name := "value", desc := "(II)I" } : Jvm.MethodName) ({ cls := "FollowTheSun", name := "value", desc := "(II)I" } : Jvm.MethodName)) ∈ lw_all := lw_g (lw_at lw_m5 152 rfl) rfl
theorem q1195 : (Jvm.Cond.code ({ cls := "FollowTheSun", name := "value", desc := "(II)I" } : Jvm.MethodName) prog_1_method_28_code (3 : Nat) (Option.some Jvm.ClassFile.FieldType.int)) ∈ lw_all := lw_g (lw_at lw_m5 153 rfl) rfl
theorem q1196 : (Jvm.Cond.classLink "FollowTheSun" (215 : Nat) "java/util/NoSuchElementException") ∈ lw_all := lw_g (lw_at lw_m5 154 rfl) rfl
theorem q1205 : (Jvm.Cond.methodLink "FollowTheSun" (217 : Nat) ({ cls := "java/util/NoSuchElementException", name := "<init>", desc := "()V" } : Jvm.MethodName)) ∈ lw_all := lw_g (lw_at lw_m5 163 rfl) rfl
theorem q1214 : (Jvm.Cond.interfaceEntry "FollowTheSun" (218 : Nat)) ∈ lw_tbl := lw_at lw_m5 172 rfl
theorem q1215 : (Jvm.Cond.methodLink "FollowTheSun" (218 : Nat) ({ cls := "FollowTheSun$Node", name := "value", desc := "(LFollowTheSun$Case;)I" } : Jvm.MethodName)) ∈ lw_all := lw_g (lw_at lw_m5 173 rfl) rfl
theorem q1220 : (Jvm.Cond.instanceMethod ({ cls := "FollowTheSun", name := "of", desc := "(II)I" } : Jvm.MethodName)) ∈ lw_all := lw_g (lw_at lw_m5 178 rfl) rfl
theorem q1221 : (Jvm.Cond.selects "FollowTheSun" ({ cls := "FollowTheSun", name := "of", desc := "(II)I" } : Jvm.MethodName) ({ cls := "FollowTheSun", name := "of", desc := "(II)I" } : Jvm.MethodName)) ∈ lw_all := lw_g (lw_at lw_m5 179 rfl) rfl
theorem q1222 : (Jvm.Cond.code ({ cls := "FollowTheSun", name := "of", desc := "(II)I" } : Jvm.MethodName) prog_1_method_31_code (3 : Nat) (Option.some Jvm.ClassFile.FieldType.int)) ∈ lw_all := lw_g (lw_at lw_m5 180 rfl) rfl
theorem q1223 : (Jvm.Cond.methodLink "FollowTheSun" (253 : Nat) ({ cls := "FollowTheSun$State", name := "isReady", desc := "(I)Z" } : Jvm.MethodName)) ∈ lw_all := lw_g (lw_at lw_m5 181 rfl) rfl
theorem q1228 : (Jvm.Cond.instanceMethod ({ cls := "FollowTheSun", name := "row", desc := "(I)J" } : Jvm.MethodName)) ∈ lw_all := lw_g (lw_at lw_m5 186 rfl) rfl
theorem q1229 : (Jvm.Cond.selects "FollowTheSun" ({ cls := "FollowTheSun", name := "row", desc := "(I)J" } : Jvm.MethodName) ({ cls := "FollowTheSun", name := "row", desc := "(I)J" } : Jvm.MethodName)) ∈ lw_all := lw_g (lw_at lw_m5 187 rfl) rfl
theorem q1230 : (Jvm.Cond.code ({ cls := "FollowTheSun", name := "row", desc := "(I)J" } : Jvm.MethodName) prog_1_method_66_code (2 : Nat) (Option.some Jvm.ClassFile.FieldType.long)) ∈ lw_all := lw_g (lw_at lw_m5 188 rfl) rfl
theorem q1904 : (Jvm.Cond.castable "FollowTheSun" "java/lang/Object") ∈ lw_tbl := lw_at lw_m8 142 rfl
theorem in_X1 : ∀ w ∈ wsX10, w ∈ lw_all := lw_in wsX10 [285, 287, 289, 291, 293, 295, 297, 299, 301, 303, 305, 307, 309, 311, 313, 315, 317] (by decide +kernel) (by decide +kernel)

/-! FollowTheSun$Not -/
def RX10 : String := "FollowTheSun$Not"
def TX10 : u_T := fun k => match k with
  | _ => ("FollowTheSun$Less", "of", "LFollowTheSun$Node;", true)
def tyX10 : Nat → FieldType := fun k => match k with
  | _ => .object "FollowTheSun$Node"
abbrev wsX100 : List Cond := u_ws RX10 TX10 1
theorem nmX10 : ∀ a, a < 1 → ∀ b, b < 1 → a ≠ b → (TX10 a).2.1 ≠ (TX10 b).2.1 := by decide +kernel
theorem tyX10_ok : ∀ k, k < 1 → parseFieldDescriptor (TX10 k).2.2.1 = some (tyX10 k) := by decide +kernel
abbrev cX10_init : ByteArray := prog_8_method_1_code
def yX10_init : MethodName := ⟨RX10, "<init>", "(LFollowTheSun$Node;)V"⟩
abbrev cX10_value : ByteArray := prog_8_method_2_code
def yX10_value : MethodName := ⟨RX10, "value", "(LFollowTheSun$Case;)I"⟩
theorem q98 : (Jvm.Cond.initialized "FollowTheSun$Not") ∈ lw_all := lw_g (lw_at lw_m1 16 rfl) rfl
theorem q670 : (Jvm.Cond.instantiable "FollowTheSun$Not" (1 : Nat)) ∈ lw_all := lw_g (lw_at lw_m3 108 rfl) rfl
theorem q672 : (Jvm.Cond.instanceMethod ({ cls := "FollowTheSun$Not", name := "<init>", desc := "(LFollowTheSun$Node;)V" } : Jvm.MethodName)) ∈ lw_all := lw_g (lw_at lw_m3 110 rfl) rfl
theorem q673 : (Jvm.Cond.code ({ cls := "FollowTheSun$Not", name := "<init>", desc := "(LFollowTheSun$Node;)V" } : Jvm.MethodName) prog_8_method_1_code (2 : Nat) (Option.none : Option Jvm.ClassFile.FieldType)) ∈ lw_all := lw_g (lw_at lw_m3 111 rfl) rfl
theorem q674 : (Jvm.Cond.methodLink "FollowTheSun$Not" (1 : Nat) ({ cls := "FollowTheSun$Less", name := "<init>", desc := "(LFollowTheSun$Node;)V" } : Jvm.MethodName)) ∈ lw_all := lw_g (lw_at lw_m3 112 rfl) rfl
theorem q679 : (Jvm.Cond.laysFinal "FollowTheSun$Not" "FollowTheSun$Less" "of" "LFollowTheSun$Node;") ∈ lw_all := lw_g (lw_at lw_m3 117 rfl) rfl
theorem q681 : (Jvm.Cond.superclass "FollowTheSun$Not" "FollowTheSun$Less") ∈ lw_all := lw_g (lw_at lw_m3 119 rfl) rfl
theorem q822 : (Jvm.Cond.castable "FollowTheSun$Not" "FollowTheSun$Node") ∈ lw_tbl := lw_at lw_m4 20 rfl
theorem q823 : (Jvm.Cond.selects "FollowTheSun$Not" ({ cls := "FollowTheSun$Node", name := "value", desc := "(LFollowTheSun$Case;)I" } : Jvm.MethodName) ({ cls := "FollowTheSun$Not", name := "value", desc := "(LFollowTheSun$Case;)I" } : Jvm.MethodName)) ∈ lw_all := lw_g (lw_at lw_m4 21 rfl) rfl
theorem q824 : (Jvm.Cond.unhidden "FollowTheSun$Not" "value" "(LFollowTheSun$Case;)I") ∈ lw_tbl := lw_at lw_m4 22 rfl
theorem q825 : (Jvm.Cond.instanceMethod ({ cls := "FollowTheSun$Not", name := "value", desc := "(LFollowTheSun$Case;)I" } : Jvm.MethodName)) ∈ lw_all := lw_g (lw_at lw_m4 23 rfl) rfl
theorem q826 : (Jvm.Cond.publicMethod ({ cls := "FollowTheSun$Not", name := "value", desc := "(LFollowTheSun$Case;)I" } : Jvm.MethodName)) ∈ lw_tbl := lw_at lw_m4 24 rfl
theorem q827 : (Jvm.Cond.code ({ cls := "FollowTheSun$Not", name := "value", desc := "(LFollowTheSun$Case;)I" } : Jvm.MethodName) prog_8_method_2_code (2 : Nat) (Option.some Jvm.ClassFile.FieldType.int)) ∈ lw_all := lw_g (lw_at lw_m4 25 rfl) rfl
theorem q828 : (Jvm.Cond.methodLink "FollowTheSun$Not" (7 : Nat) ({ cls := "FollowTheSun$Less", name := "value", desc := "(LFollowTheSun$Case;)I" } : Jvm.MethodName)) ∈ lw_all := lw_g (lw_at lw_m4 26 rfl) rfl
theorem q858 : (Jvm.Cond.unhidden "FollowTheSun$Not" "valueOf" "(LFollowTheSun$Case;)I") ∈ lw_tbl := lw_at lw_m4 56 rfl
theorem q1913 : (Jvm.Cond.castable "FollowTheSun$Not" "java/lang/Object") ∈ lw_tbl := lw_at lw_m8 151 rfl
theorem in_X10 : ∀ w ∈ wsX100, w ∈ lw_all := lw_in wsX100 [679] (by decide +kernel) (by decide +kernel)

/-! FollowTheSun$Fault -/
def RX11 : String := "FollowTheSun$Fault"
def TX11 : u_T := fun k => match k with
  | 0 => ("java/lang/Throwable", "cause", "Ljava/lang/Throwable;", false)
  | 1 => ("java/lang/Throwable", "stackTrace", "[Ljava/lang/StackTraceElement;", false)
  | 2 => ("java/lang/Throwable", "suppressedExceptions", "Ljava/util/List;", false)
  | 3 => ("java/lang/Throwable", "detailMessage", "Ljava/lang/String;", false)
  | 4 => ("java/lang/Throwable", "backtrace", "Ljava/lang/Object;", false)
  | 5 => ("java/lang/Throwable", "depth", "I", false)
  | _ => ("FollowTheSun$Fault", "place", "I", true)
def tyX11 : Nat → FieldType := fun k => match k with
  | 0 => .object "java/lang/Throwable"
  | 1 => .array (.object "java/lang/StackTraceElement")
  | 2 => .object "java/util/List"
  | 3 => .object "java/lang/String"
  | 4 => .object "java/lang/Object"
  | 5 => .int
  | _ => .int
abbrev wsX110 : List Cond := u_ws RX11 TX11 7
theorem nmX11 : ∀ a, a < 7 → ∀ b, b < 7 → a ≠ b → (TX11 a).2.1 ≠ (TX11 b).2.1 := by decide +kernel
theorem tyX11_ok : ∀ k, k < 7 → parseFieldDescriptor (TX11 k).2.2.1 = some (tyX11 k) := by decide +kernel
abbrev cX11_init : ByteArray := prog_4_method_1_code
def yX11_init : MethodName := ⟨RX11, "<init>", "(I)V"⟩
theorem q99 : (Jvm.Cond.initialized "FollowTheSun$Fault") ∈ lw_all := lw_g (lw_at lw_m1 17 rfl) rfl
theorem q432 : (Jvm.Cond.selects "FollowTheSun$Fault" ({ cls := "java/lang/Throwable", name := "fillInStackTrace", desc := "()Ljava/lang/Throwable;" } : Jvm.MethodName) ({ cls := "java/lang/Throwable", name := "fillInStackTrace", desc := "()Ljava/lang/Throwable;" } : Jvm.MethodName)) ∈ lw_all := lw_g (lw_at lw_m2 110 rfl) rfl
theorem q692 : (Jvm.Cond.instantiable "FollowTheSun$Fault" (7 : Nat)) ∈ lw_all := lw_g (lw_at lw_m3 130 rfl) rfl
theorem q693 : (Jvm.Cond.castable "FollowTheSun$Fault" "FollowTheSun$Fault") ∈ lw_tbl := lw_at lw_m3 131 rfl
theorem q694 : (Jvm.Cond.selects "FollowTheSun$Fault" ({ cls := "java/lang/Throwable", name := "fillInStackTrace", desc := "(I)Ljava/lang/Throwable;" } : Jvm.MethodName) ({ cls := "java/lang/Throwable", name := "fillInStackTrace", desc := "(I)Ljava/lang/Throwable;" } : Jvm.MethodName)) ∈ lw_all := lw_g (lw_at lw_m3 132 rfl) rfl
theorem q695 : (Jvm.Cond.lays "FollowTheSun$Fault" "java/lang/Throwable" "cause" "Ljava/lang/Throwable;") ∈ lw_all := lw_g (lw_at lw_m3 133 rfl) rfl
theorem q696 : (Jvm.Cond.lays "FollowTheSun$Fault" "java/lang/Throwable" "stackTrace" "[Ljava/lang/StackTraceElement;") ∈ lw_all := lw_g (lw_at lw_m3 134 rfl) rfl
theorem q697 : (Jvm.Cond.lays "FollowTheSun$Fault" "java/lang/Throwable" "suppressedExceptions" "Ljava/util/List;") ∈ lw_all := lw_g (lw_at lw_m3 135 rfl) rfl
theorem q698 : (Jvm.Cond.lays "FollowTheSun$Fault" "java/lang/Throwable" "detailMessage" "Ljava/lang/String;") ∈ lw_all := lw_g (lw_at lw_m3 136 rfl) rfl
theorem q699 : (Jvm.Cond.lays "FollowTheSun$Fault" "java/lang/Throwable" "backtrace" "Ljava/lang/Object;") ∈ lw_all := lw_g (lw_at lw_m3 137 rfl) rfl
theorem q701 : (Jvm.Cond.instanceMethod ({ cls := "FollowTheSun$Fault", name := "<init>", desc := "(I)V" } : Jvm.MethodName)) ∈ lw_all := lw_g (lw_at lw_m3 139 rfl) rfl
theorem q702 : (Jvm.Cond.code ({ cls := "FollowTheSun$Fault", name := "<init>", desc := "(I)V" } : Jvm.MethodName) prog_4_method_1_code (2 : Nat) (Option.none : Option Jvm.ClassFile.FieldType)) ∈ lw_all := lw_g (lw_at lw_m3 140 rfl) rfl
theorem q703 : (Jvm.Cond.methodLink "FollowTheSun$Fault" (1 : Nat) ({ cls := "java/lang/Exception", name := "<init>", desc := "()V" } : Jvm.MethodName)) ∈ lw_all := lw_g (lw_at lw_m3 141 rfl) rfl
theorem q707 : (Jvm.Cond.fieldLink "FollowTheSun$Fault" (7 : Nat) "FollowTheSun$Fault" "place" "I") ∈ lw_all := lw_g (lw_at lw_m3 145 rfl) rfl
theorem q709 : (Jvm.Cond.laysFinal "FollowTheSun$Fault" "FollowTheSun$Fault" "place" "I") ∈ lw_all := lw_g (lw_at lw_m3 147 rfl) rfl
theorem q710 : (Jvm.Cond.soleField "FollowTheSun$Fault" "place") ∈ lw_all := lw_g (lw_at lw_m3 148 rfl) rfl
theorem q711 : (Jvm.Cond.lays "FollowTheSun$Fault" "java/lang/Throwable" "depth" "I") ∈ lw_all := lw_g (lw_at lw_m3 149 rfl) rfl
theorem q712 : (Jvm.Cond.superclass "FollowTheSun$Fault" "java/lang/Exception") ∈ lw_all := lw_g (lw_at lw_m3 150 rfl) rfl
theorem q1915 : (Jvm.Cond.castable "FollowTheSun$Fault" "java/lang/Object") ∈ lw_tbl := lw_at lw_m8 153 rfl
theorem in_X11 : ∀ w ∈ wsX110, w ∈ lw_all := lw_in wsX110 [695, 696, 697, 698, 699, 711, 709] (by decide +kernel) (by decide +kernel)

/-! FollowTheSun$Number -/
def RX12 : String := "FollowTheSun$Number"
def TX12 : u_T := fun k => match k with
  | _ => ("FollowTheSun$Number", "v", "I", true)
def tyX12 : Nat → FieldType := fun k => match k with
  | _ => .int
abbrev wsX120 : List Cond := u_ws RX12 TX12 1
theorem nmX12 : ∀ a, a < 1 → ∀ b, b < 1 → a ≠ b → (TX12 a).2.1 ≠ (TX12 b).2.1 := by decide +kernel
theorem tyX12_ok : ∀ k, k < 1 → parseFieldDescriptor (TX12 k).2.2.1 = some (tyX12 k) := by decide +kernel
abbrev cX12_init : ByteArray := prog_9_method_1_code
def yX12_init : MethodName := ⟨RX12, "<init>", "(I)V"⟩
abbrev cX12_value : ByteArray := prog_9_method_2_code
def yX12_value : MethodName := ⟨RX12, "value", "(LFollowTheSun$Case;)I"⟩
theorem q100 : (Jvm.Cond.initialized "FollowTheSun$Number") ∈ lw_all := lw_g (lw_at lw_m1 18 rfl) rfl
theorem q715 : (Jvm.Cond.instantiable "FollowTheSun$Number" (1 : Nat)) ∈ lw_all := lw_g (lw_at lw_m3 153 rfl) rfl
theorem q717 : (Jvm.Cond.instanceMethod ({ cls := "FollowTheSun$Number", name := "<init>", desc := "(I)V" } : Jvm.MethodName)) ∈ lw_all := lw_g (lw_at lw_m3 155 rfl) rfl
theorem q718 : (Jvm.Cond.code ({ cls := "FollowTheSun$Number", name := "<init>", desc := "(I)V" } : Jvm.MethodName) prog_9_method_1_code (2 : Nat) (Option.none : Option Jvm.ClassFile.FieldType)) ∈ lw_all := lw_g (lw_at lw_m3 156 rfl) rfl
theorem q719 : (Jvm.Cond.methodLink "FollowTheSun$Number" (1 : Nat) ({ cls := "java/lang/Object", name := "<init>", desc := "()V" } : Jvm.MethodName)) ∈ lw_all := lw_g (lw_at lw_m3 157 rfl) rfl
theorem q720 : (Jvm.Cond.fieldLink "FollowTheSun$Number" (7 : Nat) "FollowTheSun$Number" "v" "I") ∈ lw_all := lw_g (lw_at lw_m3 158 rfl) rfl
theorem q721 : (Jvm.Cond.laysFinal "FollowTheSun$Number" "FollowTheSun$Number" "v" "I") ∈ lw_all := lw_g (lw_at lw_m3 159 rfl) rfl
theorem q722 : (Jvm.Cond.soleField "FollowTheSun$Number" "v") ∈ lw_all := lw_g (lw_at lw_m3 160 rfl) rfl
theorem q723 : (Jvm.Cond.superclass "FollowTheSun$Number" "java/lang/Object") ∈ lw_all := lw_g (lw_at lw_m3 161 rfl) rfl
theorem q829 : (Jvm.Cond.castable "FollowTheSun$Number" "FollowTheSun$Node") ∈ lw_tbl := lw_at lw_m4 27 rfl
theorem q830 : (Jvm.Cond.selects "FollowTheSun$Number" ({ cls := "FollowTheSun$Node", name := "value", desc := "(LFollowTheSun$Case;)I" } : Jvm.MethodName) ({ cls := "FollowTheSun$Number", name := "value", desc := "(LFollowTheSun$Case;)I" } : Jvm.MethodName)) ∈ lw_all := lw_g (lw_at lw_m4 28 rfl) rfl
theorem q831 : (Jvm.Cond.unhidden "FollowTheSun$Number" "value" "(LFollowTheSun$Case;)I") ∈ lw_tbl := lw_at lw_m4 29 rfl
theorem q832 : (Jvm.Cond.instanceMethod ({ cls := "FollowTheSun$Number", name := "value", desc := "(LFollowTheSun$Case;)I" } : Jvm.MethodName)) ∈ lw_all := lw_g (lw_at lw_m4 30 rfl) rfl
theorem q833 : (Jvm.Cond.publicMethod ({ cls := "FollowTheSun$Number", name := "value", desc := "(LFollowTheSun$Case;)I" } : Jvm.MethodName)) ∈ lw_tbl := lw_at lw_m4 31 rfl
theorem q834 : (Jvm.Cond.code ({ cls := "FollowTheSun$Number", name := "value", desc := "(LFollowTheSun$Case;)I" } : Jvm.MethodName) prog_9_method_2_code (2 : Nat) (Option.some Jvm.ClassFile.FieldType.int)) ∈ lw_all := lw_g (lw_at lw_m4 32 rfl) rfl
theorem q859 : (Jvm.Cond.unhidden "FollowTheSun$Number" "valueOf" "(LFollowTheSun$Case;)I") ∈ lw_tbl := lw_at lw_m4 57 rfl
theorem q1916 : (Jvm.Cond.castable "FollowTheSun$Number" "java/lang/Object") ∈ lw_tbl := lw_at lw_m8 154 rfl
theorem in_X12 : ∀ w ∈ wsX120, w ∈ lw_all := lw_in wsX120 [721] (by decide +kernel) (by decide +kernel)

/-! FollowTheSun$Sign -/
def RX13 : String := "FollowTheSun$Sign"
def TX13 : u_T := fun k => match k with
  | _ => ("FollowTheSun$Sign", "which", "C", true)
def tyX13 : Nat → FieldType := fun k => match k with
  | _ => .char
abbrev wsX130 : List Cond := u_ws RX13 TX13 1
theorem nmX13 : ∀ a, a < 1 → ∀ b, b < 1 → a ≠ b → (TX13 a).2.1 ≠ (TX13 b).2.1 := by decide +kernel
theorem tyX13_ok : ∀ k, k < 1 → parseFieldDescriptor (TX13 k).2.2.1 = some (tyX13 k) := by decide +kernel
abbrev cX13_init : ByteArray := prog_14_method_1_code
def yX13_init : MethodName := ⟨RX13, "<init>", "(C)V"⟩
abbrev cX13_value : ByteArray := prog_14_method_2_code
def yX13_value : MethodName := ⟨RX13, "value", "(LFollowTheSun$Case;)I"⟩
theorem q101 : (Jvm.Cond.initialized "FollowTheSun$Sign") ∈ lw_all := lw_g (lw_at lw_m1 19 rfl) rfl
theorem q729 : (Jvm.Cond.instantiable "FollowTheSun$Sign" (1 : Nat)) ∈ lw_all := lw_g (lw_at lw_m3 167 rfl) rfl
theorem q731 : (Jvm.Cond.instanceMethod ({ cls := "FollowTheSun$Sign", name := "<init>", desc := "(C)V" } : Jvm.MethodName)) ∈ lw_all := lw_g (lw_at lw_m3 169 rfl) rfl
theorem q732 : (Jvm.Cond.code ({ cls := "FollowTheSun$Sign", name := "<init>", desc := "(C)V" } : Jvm.MethodName) prog_14_method_1_code (2 : Nat) (Option.none : Option Jvm.ClassFile.FieldType)) ∈ lw_all := lw_g (lw_at lw_m3 170 rfl) rfl
theorem q733 : (Jvm.Cond.methodLink "FollowTheSun$Sign" (1 : Nat) ({ cls := "java/lang/Object", name := "<init>", desc := "()V" } : Jvm.MethodName)) ∈ lw_all := lw_g (lw_at lw_m3 171 rfl) rfl
theorem q734 : (Jvm.Cond.fieldLink "FollowTheSun$Sign" (7 : Nat) "FollowTheSun$Sign" "which" "C") ∈ lw_all := lw_g (lw_at lw_m3 172 rfl) rfl
theorem q735 : (Jvm.Cond.laysFinal "FollowTheSun$Sign" "FollowTheSun$Sign" "which" "C") ∈ lw_all := lw_g (lw_at lw_m3 173 rfl) rfl
theorem q736 : (Jvm.Cond.soleField "FollowTheSun$Sign" "which") ∈ lw_all := lw_g (lw_at lw_m3 174 rfl) rfl
theorem q737 : (Jvm.Cond.superclass "FollowTheSun$Sign" "java/lang/Object") ∈ lw_all := lw_g (lw_at lw_m3 175 rfl) rfl
theorem q835 : (Jvm.Cond.castable "FollowTheSun$Sign" "FollowTheSun$Node") ∈ lw_tbl := lw_at lw_m4 33 rfl
theorem q836 : (Jvm.Cond.selects "FollowTheSun$Sign" ({ cls := "FollowTheSun$Node", name := "value", desc := "(LFollowTheSun$Case;)I" } : Jvm.MethodName) ({ cls := "FollowTheSun$Sign", name := "value", desc := "(LFollowTheSun$Case;)I" } : Jvm.MethodName)) ∈ lw_all := lw_g (lw_at lw_m4 34 rfl) rfl
theorem q837 : (Jvm.Cond.unhidden "FollowTheSun$Sign" "value" "(LFollowTheSun$Case;)I") ∈ lw_tbl := lw_at lw_m4 35 rfl
theorem q838 : (Jvm.Cond.instanceMethod ({ cls := "FollowTheSun$Sign", name := "value", desc := "(LFollowTheSun$Case;)I" } : Jvm.MethodName)) ∈ lw_all := lw_g (lw_at lw_m4 36 rfl) rfl
theorem q839 : (Jvm.Cond.publicMethod ({ cls := "FollowTheSun$Sign", name := "value", desc := "(LFollowTheSun$Case;)I" } : Jvm.MethodName)) ∈ lw_tbl := lw_at lw_m4 37 rfl
theorem q840 : (Jvm.Cond.code ({ cls := "FollowTheSun$Sign", name := "value", desc := "(LFollowTheSun$Case;)I" } : Jvm.MethodName) prog_14_method_2_code (2 : Nat) (Option.some Jvm.ClassFile.FieldType.int)) ∈ lw_all := lw_g (lw_at lw_m4 38 rfl) rfl
theorem q841 : (Jvm.Cond.methodLink "FollowTheSun$Sign" (13 : Nat) ({ cls := "FollowTheSun$Case", name := "value", desc := "(C)I" } : Jvm.MethodName)) ∈ lw_all := lw_g (lw_at lw_m4 39 rfl) rfl
theorem q860 : (Jvm.Cond.unhidden "FollowTheSun$Sign" "valueOf" "(LFollowTheSun$Case;)I") ∈ lw_tbl := lw_at lw_m4 58 rfl
theorem q1917 : (Jvm.Cond.castable "FollowTheSun$Sign" "java/lang/Object") ∈ lw_tbl := lw_at lw_m8 155 rfl
theorem in_X13 : ∀ w ∈ wsX130, w ∈ lw_all := lw_in wsX130 [735] (by decide +kernel) (by decide +kernel)

/-! FollowTheSun$Joined -/
def RX14 : String := "FollowTheSun$Joined"
def TX14 : u_T := fun k => match k with
  | 0 => ("FollowTheSun$Joined", "sign", "I", true)
  | 1 => ("FollowTheSun$Joined", "a", "LFollowTheSun$Node;", true)
  | _ => ("FollowTheSun$Joined", "b", "LFollowTheSun$Node;", true)
def tyX14 : Nat → FieldType := fun k => match k with
  | 0 => .int
  | 1 => .object "FollowTheSun$Node"
  | _ => .object "FollowTheSun$Node"
abbrev wsX140 : List Cond := u_ws RX14 TX14 3
theorem nmX14 : ∀ a, a < 3 → ∀ b, b < 3 → a ≠ b → (TX14 a).2.1 ≠ (TX14 b).2.1 := by decide +kernel
theorem tyX14_ok : ∀ k, k < 3 → parseFieldDescriptor (TX14 k).2.2.1 = some (tyX14 k) := by decide +kernel
abbrev cX14_init : ByteArray := prog_5_method_1_code
def yX14_init : MethodName := ⟨RX14, "<init>", "(ILFollowTheSun$Node;LFollowTheSun$Node;)V"⟩
abbrev cX14_value : ByteArray := prog_5_method_2_code
def yX14_value : MethodName := ⟨RX14, "value", "(LFollowTheSun$Case;)I"⟩
theorem q102 : (Jvm.Cond.initialized "FollowTheSun$Joined") ∈ lw_all := lw_g (lw_at lw_m1 20 rfl) rfl
theorem q739 : (Jvm.Cond.instantiable "FollowTheSun$Joined" (3 : Nat)) ∈ lw_all := lw_g (lw_at lw_m3 177 rfl) rfl
theorem q741 : (Jvm.Cond.instanceMethod ({ cls := "FollowTheSun$Joined", name := "<init>", desc := "(ILFollowTheSun$Node;LFollowTheSun$Node;)V" } : Jvm.MethodName)) ∈ lw_all := lw_g (lw_at lw_m3 179 rfl) rfl
theorem q742 : (Jvm.Cond.code ({ cls := "FollowTheSun$Joined", name := "<init>", desc := "(ILFollowTheSun$Node;LFollowTheSun$Node;)V" } : Jvm.MethodName) prog_5_method_1_code (4 : Nat) (Option.none : Option Jvm.ClassFile.FieldType)) ∈ lw_all := lw_g (lw_at lw_m3 180 rfl) rfl
theorem q743 : (Jvm.Cond.methodLink "FollowTheSun$Joined" (1 : Nat) ({ cls := "java/lang/Object", name := "<init>", desc := "()V" } : Jvm.MethodName)) ∈ lw_all := lw_g (lw_at lw_m3 181 rfl) rfl
theorem q744 : (Jvm.Cond.fieldLink "FollowTheSun$Joined" (7 : Nat) "FollowTheSun$Joined" "sign" "I") ∈ lw_all := lw_g (lw_at lw_m3 182 rfl) rfl
theorem q745 : (Jvm.Cond.fieldLink "FollowTheSun$Joined" (13 : Nat) "FollowTheSun$Joined" "a" "LFollowTheSun$Node;") ∈ lw_all := lw_g (lw_at lw_m3 183 rfl) rfl
theorem q746 : (Jvm.Cond.fieldLink "FollowTheSun$Joined" (17 : Nat) "FollowTheSun$Joined" "b" "LFollowTheSun$Node;") ∈ lw_all := lw_g (lw_at lw_m3 184 rfl) rfl
theorem q747 : (Jvm.Cond.laysFinal "FollowTheSun$Joined" "FollowTheSun$Joined" "sign" "I") ∈ lw_all := lw_g (lw_at lw_m3 185 rfl) rfl
theorem q748 : (Jvm.Cond.soleField "FollowTheSun$Joined" "sign") ∈ lw_all := lw_g (lw_at lw_m3 186 rfl) rfl
theorem q749 : (Jvm.Cond.laysFinal "FollowTheSun$Joined" "FollowTheSun$Joined" "a" "LFollowTheSun$Node;") ∈ lw_all := lw_g (lw_at lw_m3 187 rfl) rfl
theorem q750 : (Jvm.Cond.soleField "FollowTheSun$Joined" "a") ∈ lw_all := lw_g (lw_at lw_m3 188 rfl) rfl
theorem q751 : (Jvm.Cond.laysFinal "FollowTheSun$Joined" "FollowTheSun$Joined" "b" "LFollowTheSun$Node;") ∈ lw_all := lw_g (lw_at lw_m3 189 rfl) rfl
theorem q752 : (Jvm.Cond.soleField "FollowTheSun$Joined" "b") ∈ lw_all := lw_g (lw_at lw_m3 190 rfl) rfl
theorem q753 : (Jvm.Cond.superclass "FollowTheSun$Joined" "java/lang/Object") ∈ lw_all := lw_g (lw_at lw_m3 191 rfl) rfl
theorem q798 : (Jvm.Cond.castable "FollowTheSun$Joined" "FollowTheSun$Node") ∈ lw_tbl := lw_at lw_m3 236 rfl
theorem q799 : (Jvm.Cond.unhidden "FollowTheSun$Joined" "valueOf" "(LFollowTheSun$Case;)I") ∈ lw_tbl := lw_at lw_m3 237 rfl
theorem q807 : (Jvm.Cond.selects "FollowTheSun$Joined" ({ cls := "FollowTheSun$Node", name := "value", desc := "(LFollowTheSun$Case;)I" } : Jvm.MethodName) ({ cls := "FollowTheSun$Joined", name := "value", desc := "(LFollowTheSun$Case;)I" } : Jvm.MethodName)) ∈ lw_all := lw_g (lw_at lw_m4 5 rfl) rfl
theorem q808 : (Jvm.Cond.unhidden "FollowTheSun$Joined" "value" "(LFollowTheSun$Case;)I") ∈ lw_tbl := lw_at lw_m4 6 rfl
theorem q809 : (Jvm.Cond.instanceMethod ({ cls := "FollowTheSun$Joined", name := "value", desc := "(LFollowTheSun$Case;)I" } : Jvm.MethodName)) ∈ lw_all := lw_g (lw_at lw_m4 7 rfl) rfl
theorem q810 : (Jvm.Cond.publicMethod ({ cls := "FollowTheSun$Joined", name := "value", desc := "(LFollowTheSun$Case;)I" } : Jvm.MethodName)) ∈ lw_tbl := lw_at lw_m4 8 rfl
theorem q811 : (Jvm.Cond.code ({ cls := "FollowTheSun$Joined", name := "value", desc := "(LFollowTheSun$Case;)I" } : Jvm.MethodName) prog_5_method_2_code (4 : Nat) (Option.some Jvm.ClassFile.FieldType.int)) ∈ lw_all := lw_g (lw_at lw_m4 9 rfl) rfl
theorem q812 : (Jvm.Cond.interfaceEntry "FollowTheSun$Joined" (20 : Nat)) ∈ lw_tbl := lw_at lw_m4 10 rfl
theorem q813 : (Jvm.Cond.methodLink "FollowTheSun$Joined" (20 : Nat) ({ cls := "FollowTheSun$Node", name := "value", desc := "(LFollowTheSun$Case;)I" } : Jvm.MethodName)) ∈ lw_all := lw_g (lw_at lw_m4 11 rfl) rfl
theorem q1918 : (Jvm.Cond.castable "FollowTheSun$Joined" "java/lang/Object") ∈ lw_tbl := lw_at lw_m8 156 rfl
theorem in_X14 : ∀ w ∈ wsX140, w ∈ lw_all := lw_in wsX140 [747, 749, 751] (by decide +kernel) (by decide +kernel)

/-! FollowTheSun$Rows -/
def RX15 : String := "FollowTheSun$Rows"
abbrev cX15_init : ByteArray := prog_13_method_1_code
def yX15_init : MethodName := ⟨RX15, "<init>", "(LFollowTheSun;III)V"⟩
abbrev cX15_all : ByteArray := prog_13_method_4_code
def yX15_all : MethodName := ⟨RX15, "all", "()V"⟩
abbrev cX15_go : ByteArray := prog_13_method_3_code
def yX15_go : MethodName := ⟨RX15, "go", "(II)V"⟩
abbrev cX15_works : ByteArray := prog_13_method_5_code
def yX15_works : MethodName := ⟨RX15, "works", "(II)Z"⟩
abbrev cX15_lost : ByteArray := prog_13_method_6_code
def yX15_lost : MethodName := ⟨RX15, "lost", "(II)I"⟩
abbrev cX15_tellRow : ByteArray := prog_13_method_7_code
def yX15_tellRow : MethodName := ⟨RX15, "tellRow", "()V"⟩
theorem q108 : (Jvm.Cond.initialized "FollowTheSun$Rows") ∈ lw_all := lw_g (lw_at lw_m1 26 rfl) rfl
theorem q136 : (Jvm.Cond.fieldLink "FollowTheSun$Rows" (72 : Nat) "FollowTheSun$World" "offices" "[LFollowTheSun$Office;") ∈ lw_all := lw_g (lw_at lw_m1 54 rfl) rfl
theorem q140 : (Jvm.Cond.fieldLink "FollowTheSun$Rows" (65 : Nat) "FollowTheSun$World" "many" "I") ∈ lw_all := lw_g (lw_at lw_m1 58 rfl) rfl
theorem q260 : (Jvm.Cond.fieldLinkNest "FollowTheSun$Rows" (19 : Nat) "FollowTheSun" "pieces" "[LFollowTheSun$Piece;" "FollowTheSun") ∈ lw_tbl := lw_at lw_m1 178 rfl
theorem q266 : (Jvm.Cond.fieldLinkNest "FollowTheSun$Rows" (39 : Nat) "FollowTheSun" "world" "LFollowTheSun$World;" "FollowTheSun") ∈ lw_tbl := lw_at lw_m1 184 rfl
theorem q278 : (Jvm.Cond.fieldLinkNest "FollowTheSun$Rows" (85 : Nat) "FollowTheSun" "rowMany" "I" "FollowTheSun") ∈ lw_tbl := lw_at lw_m1 196 rfl
theorem q560 : (Jvm.Cond.fieldLink "FollowTheSun$Rows" (43 : Nat) "FollowTheSun$Piece" "craft" "I") ∈ lw_all := lw_g (lw_at lw_m2 238 rfl) rfl
theorem q580 : (Jvm.Cond.fieldLink "FollowTheSun$Rows" (34 : Nat) "FollowTheSun$Piece" "born" "I") ∈ lw_all := lw_g (lw_at lw_m3 18 rfl) rfl
theorem q927 : (Jvm.Cond.instanceMethod ({ cls := "FollowTheSun$Rows", name := "<init>", desc := "(LFollowTheSun;III)V" } : Jvm.MethodName)) ∈ lw_all := lw_g (lw_at lw_m4 125 rfl) rfl
theorem q928 : (Jvm.Cond.code ({ cls := "FollowTheSun$Rows", name := "<init>", desc := "(LFollowTheSun;III)V" } : Jvm.MethodName) prog_13_method_1_code (5 : Nat) (Option.none : Option Jvm.ClassFile.FieldType)) ∈ lw_all := lw_g (lw_at lw_m4 126 rfl) rfl
theorem q929 : (Jvm.Cond.methodLink "FollowTheSun$Rows" (9 : Nat) ({ cls := "java/lang/Object", name := "<init>", desc := "()V" } : Jvm.MethodName)) ∈ lw_all := lw_g (lw_at lw_m4 127 rfl) rfl
theorem q931 : (Jvm.Cond.fieldLink "FollowTheSun$Rows" (23 : Nat) "FollowTheSun$Rows" "piece" "LFollowTheSun$Piece;") ∈ lw_all := lw_g (lw_at lw_m4 129 rfl) rfl
theorem q936 : (Jvm.Cond.fieldLink "FollowTheSun$Rows" (27 : Nat) "FollowTheSun$Rows" "from" "I") ∈ lw_all := lw_g (lw_at lw_m4 134 rfl) rfl
theorem q941 : (Jvm.Cond.fieldLink "FollowTheSun$Rows" (30 : Nat) "FollowTheSun$Rows" "offices" "[I") ∈ lw_all := lw_g (lw_at lw_m4 139 rfl) rfl
theorem q944 : (Jvm.Cond.fieldLink "FollowTheSun$Rows" (15 : Nat) "FollowTheSun$Rows" "best" "I") ∈ lw_all := lw_g (lw_at lw_m4 142 rfl) rfl
theorem q946 : (Jvm.Cond.fieldLink "FollowTheSun$Rows" (62 : Nat) "FollowTheSun$Rows" "bestRow" "[I") ∈ lw_all := lw_g (lw_at lw_m4 144 rfl) rfl
theorem q947 : (Jvm.Cond.fieldLink "FollowTheSun$Rows" (3 : Nat) "FollowTheSun$Rows" "this$0" "LFollowTheSun;") ∈ lw_all := lw_g (lw_at lw_m4 145 rfl) rfl
theorem q951 : (Jvm.Cond.soleField "FollowTheSun$Rows" "piece") ∈ lw_all := lw_g (lw_at lw_m4 149 rfl) rfl
theorem q953 : (Jvm.Cond.soleField "FollowTheSun$Rows" "from") ∈ lw_all := lw_g (lw_at lw_m4 151 rfl) rfl
theorem q955 : (Jvm.Cond.soleField "FollowTheSun$Rows" "offices") ∈ lw_all := lw_g (lw_at lw_m4 153 rfl) rfl
theorem q957 : (Jvm.Cond.soleField "FollowTheSun$Rows" "best") ∈ lw_all := lw_g (lw_at lw_m4 155 rfl) rfl
theorem q959 : (Jvm.Cond.soleField "FollowTheSun$Rows" "bestRow") ∈ lw_all := lw_g (lw_at lw_m4 157 rfl) rfl
theorem q961 : (Jvm.Cond.soleField "FollowTheSun$Rows" "this$0") ∈ lw_all := lw_g (lw_at lw_m4 159 rfl) rfl
theorem q964 : (Jvm.Cond.instanceMethod ({ cls := "FollowTheSun$Rows", name := "all", desc := "()V" } : Jvm.MethodName)) ∈ lw_all := lw_g (lw_at lw_m4 162 rfl) rfl
theorem q965 : (Jvm.Cond.sameMethod "FollowTheSun$Rows" "FollowTheSun$Rows" "all" "()V") ∈ lw_all := lw_g (lw_at lw_m4 163 rfl) rfl
theorem q968 : (Jvm.Cond.code ({ cls := "FollowTheSun$Rows", name := "all", desc := "()V" } : Jvm.MethodName) prog_13_method_4_code (2 : Nat) (Option.none : Option Jvm.ClassFile.FieldType)) ∈ lw_all := lw_g (lw_at lw_m4 166 rfl) rfl
theorem q969 : (Jvm.Cond.methodLink "FollowTheSun$Rows" (68 : Nat) ({ cls := "FollowTheSun$Rows", name := "go", desc := "(II)V" } : Jvm.MethodName)) ∈ lw_all := lw_g (lw_at lw_m4 167 rfl) rfl
theorem q970 : (Jvm.Cond.instanceMethod ({ cls := "FollowTheSun$Rows", name := "go", desc := "(II)V" } : Jvm.MethodName)) ∈ lw_all := lw_g (lw_at lw_m4 168 rfl) rfl
theorem q971 : (Jvm.Cond.sameMethod "FollowTheSun$Rows" "FollowTheSun$Rows" "go" "(II)V") ∈ lw_all := lw_g (lw_at lw_m4 169 rfl) rfl
theorem q974 : (Jvm.Cond.code ({ cls := "FollowTheSun$Rows", name := "go", desc := "(II)V" } : Jvm.MethodName) prog_13_method_3_code (4 : Nat) (Option.none : Option Jvm.ClassFile.FieldType)) ∈ lw_all := lw_g (lw_at lw_m4 172 rfl) rfl
theorem q975 : (Jvm.Cond.methodLink "FollowTheSun$Rows" (46 : Nat) ({ cls := "FollowTheSun$World", name := "hasCraft", desc := "(II)Z" } : Jvm.MethodName)) ∈ lw_all := lw_g (lw_at lw_m4 173 rfl) rfl
theorem q976 : (Jvm.Cond.methodLink "FollowTheSun$Rows" (52 : Nat) ({ cls := "FollowTheSun$Rows", name := "worth", desc := "(I)I" } : Jvm.MethodName)) ∈ lw_all := lw_g (lw_at lw_m4 174 rfl) rfl
theorem q977 : (Jvm.Cond.declares ({ cls := "FollowTheSun$Rows", name := "worth", desc := "(I)I" } : Jvm.MethodName)) ∈ lw_tbl := lw_at lw_m4 175 rfl
theorem q978 : (Jvm.Cond.sameMethod "FollowTheSun$Rows" "FollowTheSun$Rows" "worth" "(I)I") ∈ lw_all := lw_g (lw_at lw_m4 176 rfl) rfl
theorem q989 : (Jvm.Cond.declares ({ cls := "FollowTheSun$Rows", name := "works", desc := "(II)Z" } : Jvm.MethodName)) ∈ lw_tbl := lw_at lw_m4 187 rfl
theorem q991 : (Jvm.Cond.instanceMethod ({ cls := "FollowTheSun$Rows", name := "works", desc := "(II)Z" } : Jvm.MethodName)) ∈ lw_all := lw_g (lw_at lw_m4 189 rfl) rfl
theorem q992 : (Jvm.Cond.code ({ cls := "FollowTheSun$Rows", name := "works", desc := "(II)Z" } : Jvm.MethodName) prog_13_method_5_code (3 : Nat) (Option.some Jvm.ClassFile.FieldType.boolean)) ∈ lw_all := lw_g (lw_at lw_m4 190 rfl) rfl
theorem q993 : (Jvm.Cond.methodLink "FollowTheSun$Rows" (75 : Nat) ({ cls := "FollowTheSun$Office", name := "isOpen", desc := "(I)Z" } : Jvm.MethodName)) ∈ lw_all := lw_g (lw_at lw_m4 191 rfl) rfl
theorem q997 : (Jvm.Cond.declares ({ cls := "FollowTheSun$Rows", name := "lost", desc := "(II)I" } : Jvm.MethodName)) ∈ lw_tbl := lw_at lw_m4 195 rfl
theorem q999 : (Jvm.Cond.instanceMethod ({ cls := "FollowTheSun$Rows", name := "lost", desc := "(II)I" } : Jvm.MethodName)) ∈ lw_all := lw_g (lw_at lw_m4 197 rfl) rfl
theorem q1000 : (Jvm.Cond.code ({ cls := "FollowTheSun$Rows", name := "lost", desc := "(II)I" } : Jvm.MethodName) prog_13_method_6_code (3 : Nat) (Option.some Jvm.ClassFile.FieldType.int)) ∈ lw_all := lw_g (lw_at lw_m4 198 rfl) rfl
theorem q1001 : (Jvm.Cond.methodLink "FollowTheSun$Rows" (81 : Nat) ({ cls := "FollowTheSun$World", name := "lost", desc := "(III)I" } : Jvm.MethodName)) ∈ lw_all := lw_g (lw_at lw_m4 199 rfl) rfl
theorem q1012 : (Jvm.Cond.methodLink "FollowTheSun$Rows" (56 : Nat) ({ cls := "java/util/Arrays", name := "copyOf", desc := "([II)[I" } : Jvm.MethodName)) ∈ lw_all := lw_g (lw_at lw_m4 210 rfl) rfl
theorem q1025 : (Jvm.Cond.instanceMethod ({ cls := "FollowTheSun$Rows", name := "tellRow", desc := "()V" } : Jvm.MethodName)) ∈ lw_all := lw_g (lw_at lw_m4 223 rfl) rfl
theorem q1026 : (Jvm.Cond.sameMethod "FollowTheSun$Rows" "FollowTheSun$Rows" "tellRow" "()V") ∈ lw_all := lw_g (lw_at lw_m4 224 rfl) rfl
theorem q1029 : (Jvm.Cond.code ({ cls := "FollowTheSun$Rows", name := "tellRow", desc := "()V" } : Jvm.MethodName) prog_13_method_7_code (2 : Nat) (Option.none : Option Jvm.ClassFile.FieldType)) ∈ lw_all := lw_g (lw_at lw_m4 227 rfl) rfl
theorem q1030 : (Jvm.Cond.methodLinkNest "FollowTheSun$Rows" (88 : Nat) ({ cls := "FollowTheSun", name := "tell", desc := "(J)V" } : Jvm.MethodName) "FollowTheSun") ∈ lw_tbl := lw_at lw_m4 228 rfl

/-! FollowTheSun$Soonest -/
def RX16 : String := "FollowTheSun$Soonest"
def TX16 : u_T := fun k => match k with
  | 0 => ("FollowTheSun$Rows", "piece", "LFollowTheSun$Piece;", true)
  | 1 => ("FollowTheSun$Rows", "from", "I", true)
  | 2 => ("FollowTheSun$Rows", "offices", "[I", true)
  | 3 => ("FollowTheSun$Rows", "best", "I", false)
  | 4 => ("FollowTheSun$Rows", "bestRow", "[I", false)
  | 5 => ("FollowTheSun$Rows", "this$0", "LFollowTheSun;", true)
  | _ => ("FollowTheSun$Soonest", "this$0", "LFollowTheSun;", true)
def tyX16 : Nat → FieldType := fun k => match k with
  | 0 => .object "FollowTheSun$Piece"
  | 1 => .int
  | 2 => .array .int
  | 3 => .int
  | 4 => .array .int
  | 5 => .object "FollowTheSun"
  | _ => .object "FollowTheSun"
abbrev wsX160 : List Cond := u_ws RX16 TX16 7
-- two fields of one name: no nmX16
theorem tyX16_ok : ∀ k, k < 7 → parseFieldDescriptor (TX16 k).2.2.1 = some (tyX16 k) := by decide +kernel
abbrev cX16_init : ByteArray := prog_15_method_1_code
def yX16_init : MethodName := ⟨RX16, "<init>", "(LFollowTheSun;III)V"⟩
abbrev cX16_worth : ByteArray := prog_15_method_2_code
def yX16_worth : MethodName := ⟨RX16, "worth", "(I)I"⟩
theorem q109 : (Jvm.Cond.initialized "FollowTheSun$Soonest") ∈ lw_all := lw_g (lw_at lw_m1 27 rfl) rfl
theorem q565 : (Jvm.Cond.fieldLink "FollowTheSun$Soonest" (19 : Nat) "FollowTheSun$Piece" "length" "I") ∈ lw_all := lw_g (lw_at lw_m3 3 rfl) rfl
theorem q922 : (Jvm.Cond.instantiable "FollowTheSun$Soonest" (7 : Nat)) ∈ lw_all := lw_g (lw_at lw_m4 120 rfl) rfl
theorem q924 : (Jvm.Cond.instanceMethod ({ cls := "FollowTheSun$Soonest", name := "<init>", desc := "(LFollowTheSun;III)V" } : Jvm.MethodName)) ∈ lw_all := lw_g (lw_at lw_m4 122 rfl) rfl
theorem q925 : (Jvm.Cond.code ({ cls := "FollowTheSun$Soonest", name := "<init>", desc := "(LFollowTheSun;III)V" } : Jvm.MethodName) prog_15_method_1_code (5 : Nat) (Option.none : Option Jvm.ClassFile.FieldType)) ∈ lw_all := lw_g (lw_at lw_m4 123 rfl) rfl
theorem q926 : (Jvm.Cond.methodLink "FollowTheSun$Soonest" (9 : Nat) ({ cls := "FollowTheSun$Rows", name := "<init>", desc := "(LFollowTheSun;III)V" } : Jvm.MethodName)) ∈ lw_all := lw_g (lw_at lw_m4 124 rfl) rfl
theorem q930 : (Jvm.Cond.fieldLink "FollowTheSun$Soonest" (3 : Nat) "FollowTheSun$Soonest" "this$0" "LFollowTheSun;") ∈ lw_all := lw_g (lw_at lw_m4 128 rfl) rfl
theorem q932 : (Jvm.Cond.fieldLink "FollowTheSun$Soonest" (15 : Nat) "FollowTheSun$Soonest" "piece" "LFollowTheSun$Piece;") ∈ lw_all := lw_g (lw_at lw_m4 130 rfl) rfl
theorem q933 : (Jvm.Cond.sameField "FollowTheSun$Soonest" "FollowTheSun$Rows" "piece" "LFollowTheSun$Piece;") ∈ lw_all := lw_g (lw_at lw_m4 131 rfl) rfl
theorem q937 : (Jvm.Cond.fieldLink "FollowTheSun$Soonest" (25 : Nat) "FollowTheSun$Soonest" "from" "I") ∈ lw_all := lw_g (lw_at lw_m4 135 rfl) rfl
theorem q938 : (Jvm.Cond.sameField "FollowTheSun$Soonest" "FollowTheSun$Rows" "from" "I") ∈ lw_all := lw_g (lw_at lw_m4 136 rfl) rfl
theorem q948 : (Jvm.Cond.laysFinal "FollowTheSun$Soonest" "FollowTheSun$Soonest" "this$0" "LFollowTheSun;") ∈ lw_all := lw_g (lw_at lw_m4 146 rfl) rfl
theorem q949 : (Jvm.Cond.soleField "FollowTheSun$Soonest" "this$0") ∈ lw_all := lw_g (lw_at lw_m4 147 rfl) rfl
theorem q950 : (Jvm.Cond.laysFinal "FollowTheSun$Soonest" "FollowTheSun$Rows" "piece" "LFollowTheSun$Piece;") ∈ lw_all := lw_g (lw_at lw_m4 148 rfl) rfl
theorem q952 : (Jvm.Cond.laysFinal "FollowTheSun$Soonest" "FollowTheSun$Rows" "from" "I") ∈ lw_all := lw_g (lw_at lw_m4 150 rfl) rfl
theorem q954 : (Jvm.Cond.laysFinal "FollowTheSun$Soonest" "FollowTheSun$Rows" "offices" "[I") ∈ lw_all := lw_g (lw_at lw_m4 152 rfl) rfl
theorem q956 : (Jvm.Cond.lays "FollowTheSun$Soonest" "FollowTheSun$Rows" "best" "I") ∈ lw_all := lw_g (lw_at lw_m4 154 rfl) rfl
theorem q958 : (Jvm.Cond.lays "FollowTheSun$Soonest" "FollowTheSun$Rows" "bestRow" "[I") ∈ lw_all := lw_g (lw_at lw_m4 156 rfl) rfl
theorem q960 : (Jvm.Cond.laysFinal "FollowTheSun$Soonest" "FollowTheSun$Rows" "this$0" "LFollowTheSun;") ∈ lw_all := lw_g (lw_at lw_m4 158 rfl) rfl
theorem q962 : (Jvm.Cond.superclass "FollowTheSun$Soonest" "FollowTheSun$Rows") ∈ lw_all := lw_g (lw_at lw_m4 160 rfl) rfl
theorem q967 : (Jvm.Cond.selects "FollowTheSun$Soonest" ({ cls := "FollowTheSun$Rows", name := "all", desc := "()V" } : Jvm.MethodName) ({ cls := "FollowTheSun$Rows", name := "all", desc := "()V" } : Jvm.MethodName)) ∈ lw_all := lw_g (lw_at lw_m4 165 rfl) rfl
theorem q973 : (Jvm.Cond.selects "FollowTheSun$Soonest" ({ cls := "FollowTheSun$Rows", name := "go", desc := "(II)V" } : Jvm.MethodName) ({ cls := "FollowTheSun$Rows", name := "go", desc := "(II)V" } : Jvm.MethodName)) ∈ lw_all := lw_g (lw_at lw_m4 171 rfl) rfl
theorem q1002 : (Jvm.Cond.selects "FollowTheSun$Soonest" ({ cls := "FollowTheSun$Rows", name := "worth", desc := "(I)I" } : Jvm.MethodName) ({ cls := "FollowTheSun$Soonest", name := "worth", desc := "(I)I" } : Jvm.MethodName)) ∈ lw_all := lw_g (lw_at lw_m4 200 rfl) rfl
theorem q1003 : (Jvm.Cond.instanceMethod ({ cls := "FollowTheSun$Soonest", name := "worth", desc := "(I)I" } : Jvm.MethodName)) ∈ lw_all := lw_g (lw_at lw_m4 201 rfl) rfl
theorem q1004 : (Jvm.Cond.code ({ cls := "FollowTheSun$Soonest", name := "worth", desc := "(I)I" } : Jvm.MethodName) prog_15_method_2_code (5 : Nat) (Option.some Jvm.ClassFile.FieldType.int)) ∈ lw_all := lw_g (lw_at lw_m4 202 rfl) rfl
theorem q1005 : (Jvm.Cond.methodLink "FollowTheSun$Soonest" (28 : Nat) ({ cls := "FollowTheSun$Soonest", name := "works", desc := "(II)Z" } : Jvm.MethodName)) ∈ lw_all := lw_g (lw_at lw_m4 203 rfl) rfl
theorem q1006 : (Jvm.Cond.sameMethod "FollowTheSun$Soonest" "FollowTheSun$Rows" "works" "(II)Z") ∈ lw_all := lw_g (lw_at lw_m4 204 rfl) rfl
theorem q1007 : (Jvm.Cond.selects "FollowTheSun$Soonest" ({ cls := "FollowTheSun$Soonest", name := "works", desc := "(II)Z" } : Jvm.MethodName) ({ cls := "FollowTheSun$Rows", name := "works", desc := "(II)Z" } : Jvm.MethodName)) ∈ lw_all := lw_g (lw_at lw_m4 205 rfl) rfl
theorem q1008 : (Jvm.Cond.methodLink "FollowTheSun$Soonest" (32 : Nat) ({ cls := "FollowTheSun$Soonest", name := "lost", desc := "(II)I" } : Jvm.MethodName)) ∈ lw_all := lw_g (lw_at lw_m4 206 rfl) rfl
theorem q1009 : (Jvm.Cond.sameMethod "FollowTheSun$Soonest" "FollowTheSun$Rows" "lost" "(II)I") ∈ lw_all := lw_g (lw_at lw_m4 207 rfl) rfl
theorem q1010 : (Jvm.Cond.selects "FollowTheSun$Soonest" ({ cls := "FollowTheSun$Soonest", name := "lost", desc := "(II)I" } : Jvm.MethodName) ({ cls := "FollowTheSun$Rows", name := "lost", desc := "(II)I" } : Jvm.MethodName)) ∈ lw_all := lw_g (lw_at lw_m4 208 rfl) rfl
theorem q1011 : (Jvm.Cond.methodLink "FollowTheSun$Soonest" (36 : Nat) ({ cls := "java/lang/Math", name := "min", desc := "(II)I" } : Jvm.MethodName)) ∈ lw_all := lw_g (lw_at lw_m4 209 rfl) rfl
theorem q1028 : (Jvm.Cond.selects "FollowTheSun$Soonest" ({ cls := "FollowTheSun$Rows", name := "tellRow", desc := "()V" } : Jvm.MethodName) ({ cls := "FollowTheSun$Rows", name := "tellRow", desc := "()V" } : Jvm.MethodName)) ∈ lw_all := lw_g (lw_at lw_m4 226 rfl) rfl
theorem q1920 : (Jvm.Cond.castable "FollowTheSun$Soonest" "java/lang/Object") ∈ lw_tbl := lw_at lw_m8 158 rfl
theorem in_X16 : ∀ w ∈ wsX160, w ∈ lw_all := lw_in wsX160 [950, 952, 954, 956, 958, 960, 948] (by decide +kernel) (by decide +kernel)

/-! FollowTheSun$Cheapest -/
def RX17 : String := "FollowTheSun$Cheapest"
def TX17 : u_T := fun k => match k with
  | 0 => ("FollowTheSun$Rows", "piece", "LFollowTheSun$Piece;", true)
  | 1 => ("FollowTheSun$Rows", "from", "I", true)
  | 2 => ("FollowTheSun$Rows", "offices", "[I", true)
  | 3 => ("FollowTheSun$Rows", "best", "I", false)
  | 4 => ("FollowTheSun$Rows", "bestRow", "[I", false)
  | 5 => ("FollowTheSun$Rows", "this$0", "LFollowTheSun;", true)
  | 6 => ("FollowTheSun$Cheapest", "end", "I", true)
  | _ => ("FollowTheSun$Cheapest", "this$0", "LFollowTheSun;", true)
def tyX17 : Nat → FieldType := fun k => match k with
  | 0 => .object "FollowTheSun$Piece"
  | 1 => .int
  | 2 => .array .int
  | 3 => .int
  | 4 => .array .int
  | 5 => .object "FollowTheSun"
  | 6 => .int
  | _ => .object "FollowTheSun"
abbrev wsX170 : List Cond := u_ws RX17 TX17 8
-- two fields of one name: no nmX17
theorem tyX17_ok : ∀ k, k < 8 → parseFieldDescriptor (TX17 k).2.2.1 = some (tyX17 k) := by decide +kernel
abbrev cX17_worth : ByteArray := prog_3_method_2_code
def yX17_worth : MethodName := ⟨RX17, "worth", "(I)I"⟩
abbrev cX17_init : ByteArray := prog_3_method_1_code
def yX17_init : MethodName := ⟨RX17, "<init>", "(LFollowTheSun;IIII)V"⟩
theorem q111 : (Jvm.Cond.initialized "FollowTheSun$Cheapest") ∈ lw_all := lw_g (lw_at lw_m1 29 rfl) rfl
theorem q134 : (Jvm.Cond.fieldLink "FollowTheSun$Cheapest" (48 : Nat) "FollowTheSun$World" "offices" "[LFollowTheSun$Office;") ∈ lw_all := lw_g (lw_at lw_m1 52 rfl) rfl
theorem q265 : (Jvm.Cond.fieldLinkNest "FollowTheSun$Cheapest" (44 : Nat) "FollowTheSun" "world" "LFollowTheSun$World;" "FollowTheSun") ∈ lw_tbl := lw_at lw_m1 183 rfl
theorem q345 : (Jvm.Cond.fieldLink "FollowTheSun$Cheapest" (57 : Nat) "FollowTheSun$Office" "pay" "I") ∈ lw_all := lw_g (lw_at lw_m2 23 rfl) rfl
theorem q566 : (Jvm.Cond.fieldLink "FollowTheSun$Cheapest" (32 : Nat) "FollowTheSun$Piece" "length" "I") ∈ lw_all := lw_g (lw_at lw_m3 4 rfl) rfl
theorem q934 : (Jvm.Cond.fieldLink "FollowTheSun$Cheapest" (28 : Nat) "FollowTheSun$Cheapest" "piece" "LFollowTheSun$Piece;") ∈ lw_all := lw_g (lw_at lw_m4 132 rfl) rfl
theorem q935 : (Jvm.Cond.sameField "FollowTheSun$Cheapest" "FollowTheSun$Rows" "piece" "LFollowTheSun$Piece;") ∈ lw_all := lw_g (lw_at lw_m4 133 rfl) rfl
theorem q939 : (Jvm.Cond.fieldLink "FollowTheSun$Cheapest" (37 : Nat) "FollowTheSun$Cheapest" "from" "I") ∈ lw_all := lw_g (lw_at lw_m4 137 rfl) rfl
theorem q940 : (Jvm.Cond.sameField "FollowTheSun$Cheapest" "FollowTheSun$Rows" "from" "I") ∈ lw_all := lw_g (lw_at lw_m4 138 rfl) rfl
theorem q942 : (Jvm.Cond.fieldLink "FollowTheSun$Cheapest" (54 : Nat) "FollowTheSun$Cheapest" "offices" "[I") ∈ lw_all := lw_g (lw_at lw_m4 140 rfl) rfl
theorem q943 : (Jvm.Cond.sameField "FollowTheSun$Cheapest" "FollowTheSun$Rows" "offices" "[I") ∈ lw_all := lw_g (lw_at lw_m4 141 rfl) rfl
theorem q966 : (Jvm.Cond.selects "FollowTheSun$Cheapest" ({ cls := "FollowTheSun$Rows", name := "all", desc := "()V" } : Jvm.MethodName) ({ cls := "FollowTheSun$Rows", name := "all", desc := "()V" } : Jvm.MethodName)) ∈ lw_all := lw_g (lw_at lw_m4 164 rfl) rfl
theorem q972 : (Jvm.Cond.selects "FollowTheSun$Cheapest" ({ cls := "FollowTheSun$Rows", name := "go", desc := "(II)V" } : Jvm.MethodName) ({ cls := "FollowTheSun$Rows", name := "go", desc := "(II)V" } : Jvm.MethodName)) ∈ lw_all := lw_g (lw_at lw_m4 170 rfl) rfl
theorem q979 : (Jvm.Cond.selects "FollowTheSun$Cheapest" ({ cls := "FollowTheSun$Rows", name := "worth", desc := "(I)I" } : Jvm.MethodName) ({ cls := "FollowTheSun$Cheapest", name := "worth", desc := "(I)I" } : Jvm.MethodName)) ∈ lw_all := lw_g (lw_at lw_m4 177 rfl) rfl
theorem q980 : (Jvm.Cond.instanceMethod ({ cls := "FollowTheSun$Cheapest", name := "worth", desc := "(I)I" } : Jvm.MethodName)) ∈ lw_all := lw_g (lw_at lw_m4 178 rfl) rfl
theorem q981 : (Jvm.Cond.code ({ cls := "FollowTheSun$Cheapest", name := "worth", desc := "(I)I" } : Jvm.MethodName) prog_3_method_2_code (8 : Nat) (Option.some Jvm.ClassFile.FieldType.int)) ∈ lw_all := lw_g (lw_at lw_m4 179 rfl) rfl
theorem q982 : (Jvm.Cond.classLink "FollowTheSun$Cheapest" (19 : Nat) "[[I") ∈ lw_all := lw_g (lw_at lw_m4 180 rfl) rfl
theorem q983 : (Jvm.Cond.constant "FollowTheSun$Cheapest" (21 : Nat) (1000000 : Int32)) ∈ lw_all := lw_g (lw_at lw_m4 181 rfl) rfl
theorem q984 : (Jvm.Cond.methodLink "FollowTheSun$Cheapest" (22 : Nat) ({ cls := "java/util/Arrays", name := "fill", desc := "([II)V" } : Jvm.MethodName)) ∈ lw_all := lw_g (lw_at lw_m4 182 rfl) rfl
theorem q987 : (Jvm.Cond.methodLink "FollowTheSun$Cheapest" (40 : Nat) ({ cls := "FollowTheSun$Cheapest", name := "works", desc := "(II)Z" } : Jvm.MethodName)) ∈ lw_all := lw_g (lw_at lw_m4 185 rfl) rfl
theorem q988 : (Jvm.Cond.sameMethod "FollowTheSun$Cheapest" "FollowTheSun$Rows" "works" "(II)Z") ∈ lw_all := lw_g (lw_at lw_m4 186 rfl) rfl
theorem q990 : (Jvm.Cond.selects "FollowTheSun$Cheapest" ({ cls := "FollowTheSun$Cheapest", name := "works", desc := "(II)Z" } : Jvm.MethodName) ({ cls := "FollowTheSun$Rows", name := "works", desc := "(II)Z" } : Jvm.MethodName)) ∈ lw_all := lw_g (lw_at lw_m4 188 rfl) rfl
theorem q994 : (Jvm.Cond.methodLink "FollowTheSun$Cheapest" (62 : Nat) ({ cls := "java/lang/Math", name := "min", desc := "(II)I" } : Jvm.MethodName)) ∈ lw_all := lw_g (lw_at lw_m4 192 rfl) rfl
theorem q995 : (Jvm.Cond.methodLink "FollowTheSun$Cheapest" (68 : Nat) ({ cls := "FollowTheSun$Cheapest", name := "lost", desc := "(II)I" } : Jvm.MethodName)) ∈ lw_all := lw_g (lw_at lw_m4 193 rfl) rfl
theorem q996 : (Jvm.Cond.sameMethod "FollowTheSun$Cheapest" "FollowTheSun$Rows" "lost" "(II)I") ∈ lw_all := lw_g (lw_at lw_m4 194 rfl) rfl
theorem q998 : (Jvm.Cond.selects "FollowTheSun$Cheapest" ({ cls := "FollowTheSun$Cheapest", name := "lost", desc := "(II)I" } : Jvm.MethodName) ({ cls := "FollowTheSun$Rows", name := "lost", desc := "(II)I" } : Jvm.MethodName)) ∈ lw_all := lw_g (lw_at lw_m4 196 rfl) rfl
theorem q1027 : (Jvm.Cond.selects "FollowTheSun$Cheapest" ({ cls := "FollowTheSun$Rows", name := "tellRow", desc := "()V" } : Jvm.MethodName) ({ cls := "FollowTheSun$Rows", name := "tellRow", desc := "()V" } : Jvm.MethodName)) ∈ lw_all := lw_g (lw_at lw_m4 225 rfl) rfl
theorem q1036 : (Jvm.Cond.instantiable "FollowTheSun$Cheapest" (8 : Nat)) ∈ lw_all := lw_g (lw_at lw_m4 234 rfl) rfl
theorem q1038 : (Jvm.Cond.instanceMethod ({ cls := "FollowTheSun$Cheapest", name := "<init>", desc := "(LFollowTheSun;IIII)V" } : Jvm.MethodName)) ∈ lw_all := lw_g (lw_at lw_m4 236 rfl) rfl
theorem q1039 : (Jvm.Cond.code ({ cls := "FollowTheSun$Cheapest", name := "<init>", desc := "(LFollowTheSun;IIII)V" } : Jvm.MethodName) prog_3_method_1_code (6 : Nat) (Option.none : Option Jvm.ClassFile.FieldType)) ∈ lw_all := lw_g (lw_at lw_m4 237 rfl) rfl
theorem q1040 : (Jvm.Cond.methodLink "FollowTheSun$Cheapest" (9 : Nat) ({ cls := "FollowTheSun$Rows", name := "<init>", desc := "(LFollowTheSun;III)V" } : Jvm.MethodName)) ∈ lw_all := lw_g (lw_at lw_m4 238 rfl) rfl
theorem q1041 : (Jvm.Cond.fieldLink "FollowTheSun$Cheapest" (15 : Nat) "FollowTheSun$Cheapest" "end" "I") ∈ lw_all := lw_g (lw_at lw_m4 239 rfl) rfl
theorem q1042 : (Jvm.Cond.fieldLink "FollowTheSun$Cheapest" (3 : Nat) "FollowTheSun$Cheapest" "this$0" "LFollowTheSun;") ∈ lw_all := lw_g (lw_at lw_m5 0 rfl) rfl
theorem q1043 : (Jvm.Cond.laysFinal "FollowTheSun$Cheapest" "FollowTheSun$Cheapest" "end" "I") ∈ lw_all := lw_g (lw_at lw_m5 1 rfl) rfl
theorem q1044 : (Jvm.Cond.soleField "FollowTheSun$Cheapest" "end") ∈ lw_all := lw_g (lw_at lw_m5 2 rfl) rfl
theorem q1045 : (Jvm.Cond.laysFinal "FollowTheSun$Cheapest" "FollowTheSun$Cheapest" "this$0" "LFollowTheSun;") ∈ lw_all := lw_g (lw_at lw_m5 3 rfl) rfl
theorem q1046 : (Jvm.Cond.soleField "FollowTheSun$Cheapest" "this$0") ∈ lw_all := lw_g (lw_at lw_m5 4 rfl) rfl
theorem q1047 : (Jvm.Cond.laysFinal "FollowTheSun$Cheapest" "FollowTheSun$Rows" "piece" "LFollowTheSun$Piece;") ∈ lw_all := lw_g (lw_at lw_m5 5 rfl) rfl
theorem q1048 : (Jvm.Cond.laysFinal "FollowTheSun$Cheapest" "FollowTheSun$Rows" "from" "I") ∈ lw_all := lw_g (lw_at lw_m5 6 rfl) rfl
theorem q1049 : (Jvm.Cond.laysFinal "FollowTheSun$Cheapest" "FollowTheSun$Rows" "offices" "[I") ∈ lw_all := lw_g (lw_at lw_m5 7 rfl) rfl
theorem q1050 : (Jvm.Cond.lays "FollowTheSun$Cheapest" "FollowTheSun$Rows" "best" "I") ∈ lw_all := lw_g (lw_at lw_m5 8 rfl) rfl
theorem q1051 : (Jvm.Cond.lays "FollowTheSun$Cheapest" "FollowTheSun$Rows" "bestRow" "[I") ∈ lw_all := lw_g (lw_at lw_m5 9 rfl) rfl
theorem q1052 : (Jvm.Cond.laysFinal "FollowTheSun$Cheapest" "FollowTheSun$Rows" "this$0" "LFollowTheSun;") ∈ lw_all := lw_g (lw_at lw_m5 10 rfl) rfl
theorem q1053 : (Jvm.Cond.superclass "FollowTheSun$Cheapest" "FollowTheSun$Rows") ∈ lw_all := lw_g (lw_at lw_m5 11 rfl) rfl
theorem q1921 : (Jvm.Cond.castable "FollowTheSun$Cheapest" "java/lang/Object") ∈ lw_tbl := lw_at lw_m8 159 rfl
theorem in_X17 : ∀ w ∈ wsX170, w ∈ lw_all := lw_in wsX170 [1047, 1048, 1049, 1050, 1051, 1052, 1043, 1045] (by decide +kernel) (by decide +kernel)

/-! FollowTheSun$Node -/
def RX18 : String := "FollowTheSun$Node"
abbrev cX18_valueOf : ByteArray := prog_7_method_2_code
def yX18_valueOf : MethodName := ⟨RX18, "valueOf", "(LFollowTheSun$Case;)I"⟩
theorem q796 : (Jvm.Cond.interfaceMethod "FollowTheSun$Node" "FollowTheSun$Node" "valueOf" "(LFollowTheSun$Case;)I") ∈ lw_tbl := lw_at lw_m3 234 rfl
theorem q797 : (Jvm.Cond.declares ({ cls := "FollowTheSun$Node", name := "valueOf", desc := "(LFollowTheSun$Case;)I" } : Jvm.MethodName)) ∈ lw_tbl := lw_at lw_m3 235 rfl
theorem q800 : (Jvm.Cond.instanceMethod ({ cls := "FollowTheSun$Node", name := "valueOf", desc := "(LFollowTheSun$Case;)I" } : Jvm.MethodName)) ∈ lw_all := lw_g (lw_at lw_m3 238 rfl) rfl
theorem q801 : (Jvm.Cond.publicMethod ({ cls := "FollowTheSun$Node", name := "valueOf", desc := "(LFollowTheSun$Case;)I" } : Jvm.MethodName)) ∈ lw_tbl := lw_at lw_m3 239 rfl
theorem q802 : (Jvm.Cond.code ({ cls := "FollowTheSun$Node", name := "valueOf", desc := "(LFollowTheSun$Case;)I" } : Jvm.MethodName) prog_7_method_2_code (2 : Nat) (Option.some Jvm.ClassFile.FieldType.int)) ∈ lw_all := lw_g (lw_at lw_m4 0 rfl) rfl
theorem q803 : (Jvm.Cond.interfaceEntry "FollowTheSun$Node" (1 : Nat)) ∈ lw_tbl := lw_at lw_m4 1 rfl
theorem q804 : (Jvm.Cond.methodLink "FollowTheSun$Node" (1 : Nat) ({ cls := "FollowTheSun$Node", name := "value", desc := "(LFollowTheSun$Case;)I" } : Jvm.MethodName)) ∈ lw_all := lw_g (lw_at lw_m4 2 rfl) rfl
theorem q805 : (Jvm.Cond.interfaceMethod "FollowTheSun$Node" "FollowTheSun$Node" "value" "(LFollowTheSun$Case;)I") ∈ lw_tbl := lw_at lw_m4 3 rfl
theorem q806 : (Jvm.Cond.declares ({ cls := "FollowTheSun$Node", name := "value", desc := "(LFollowTheSun$Case;)I" } : Jvm.MethodName)) ∈ lw_tbl := lw_at lw_m4 4 rfl
theorem q1903 : (Jvm.Cond.initialized "FollowTheSun$Node") ∈ lw_all := lw_g (lw_at lw_m8 141 rfl) rfl

/-! FollowTheSun$World -/
def RX2 : String := "FollowTheSun$World"
def TX2 : u_T := fun k => match k with
  | 0 => ("FollowTheSun$World", "offices", "[LFollowTheSun$Office;", true)
  | 1 => ("FollowTheSun$World", "many", "I", false)
  | 2 => ("FollowTheSun$World", "lose", "I", false)
  | 3 => ("FollowTheSun$World", "miss", "I", false)
  | 4 => ("FollowTheSun$World", "known", "[[I", true)
  | _ => ("FollowTheSun$World", "rule", "LFollowTheSun$Node;", false)
def tyX2 : Nat → FieldType := fun k => match k with
  | 0 => .array (.object "FollowTheSun$Office")
  | 1 => .int
  | 2 => .int
  | 3 => .int
  | 4 => .array (.array .int)
  | _ => .object "FollowTheSun$Node"
abbrev wsX20 : List Cond := u_ws RX2 TX2 6
theorem nmX2 : ∀ a, a < 6 → ∀ b, b < 6 → a ≠ b → (TX2 a).2.1 ≠ (TX2 b).2.1 := by decide +kernel
theorem tyX2_ok : ∀ k, k < 6 → parseFieldDescriptor (TX2 k).2.2.1 = some (tyX2 k) := by decide +kernel
abbrev cX2_init : ByteArray := prog_17_method_1_code
def yX2_init : MethodName := ⟨RX2, "<init>", "()V"⟩
abbrev cX2_add : ByteArray := prog_17_method_3_code
def yX2_add : MethodName := ⟨RX2, "add", "(LFollowTheSun$Office;)I"⟩
abbrev cX2_know : ByteArray := prog_17_method_4_code
def yX2_know : MethodName := ⟨RX2, "know", "(III)V"⟩
abbrev cX2_overlap : ByteArray := prog_17_method_5_code
def yX2_overlap : MethodName := ⟨RX2, "overlap", "(III)I"⟩
abbrev cX2_lost : ByteArray := prog_17_method_6_code
def yX2_lost : MethodName := ⟨RX2, "lost", "(III)I"⟩
abbrev cX2_hasCraft : ByteArray := prog_17_method_8_code
def yX2_hasCraft : MethodName := ⟨RX2, "hasCraft", "(II)Z"⟩
abbrev cX2_wrong : ByteArray := prog_17_method_7_code
def yX2_wrong : MethodName := ⟨RX2, "wrong", "(II)I"⟩
abbrev cX2_as : ByteArray := prog_17_method_2_code
def yX2_as : MethodName := ⟨RX2, "as", "(LFollowTheSun$World;)LFollowTheSun$World;"⟩
theorem q84 : (Jvm.Cond.initialized "FollowTheSun$World") ∈ lw_all := lw_g (lw_at lw_m1 2 rfl) rfl
theorem q124 : (Jvm.Cond.instantiable "FollowTheSun$World" (6 : Nat)) ∈ lw_all := lw_g (lw_at lw_m1 42 rfl) rfl
theorem q126 : (Jvm.Cond.instanceMethod ({ cls := "FollowTheSun$World", name := "<init>", desc := "()V" } : Jvm.MethodName)) ∈ lw_all := lw_g (lw_at lw_m1 44 rfl) rfl
theorem q127 : (Jvm.Cond.code ({ cls := "FollowTheSun$World", name := "<init>", desc := "()V" } : Jvm.MethodName) prog_17_method_1_code (1 : Nat) (Option.none : Option Jvm.ClassFile.FieldType)) ∈ lw_all := lw_g (lw_at lw_m1 45 rfl) rfl
theorem q128 : (Jvm.Cond.methodLink "FollowTheSun$World" (3 : Nat) ({ cls := "java/lang/Object", name := "<init>", desc := "()V" } : Jvm.MethodName)) ∈ lw_all := lw_g (lw_at lw_m1 46 rfl) rfl
theorem q129 : (Jvm.Cond.classLink "FollowTheSun$World" (9 : Nat) "FollowTheSun$Office") ∈ lw_all := lw_g (lw_at lw_m1 47 rfl) rfl
theorem q131 : (Jvm.Cond.classLink "FollowTheSun$World" (24 : Nat) "[[I") ∈ lw_all := lw_g (lw_at lw_m1 49 rfl) rfl
theorem q133 : (Jvm.Cond.fieldLink "FollowTheSun$World" (11 : Nat) "FollowTheSun$World" "offices" "[LFollowTheSun$Office;") ∈ lw_all := lw_g (lw_at lw_m1 51 rfl) rfl
theorem q139 : (Jvm.Cond.fieldLink "FollowTheSun$World" (29 : Nat) "FollowTheSun$World" "many" "I") ∈ lw_all := lw_g (lw_at lw_m1 57 rfl) rfl
theorem q142 : (Jvm.Cond.fieldLink "FollowTheSun$World" (17 : Nat) "FollowTheSun$World" "lose" "I") ∈ lw_all := lw_g (lw_at lw_m1 60 rfl) rfl
theorem q144 : (Jvm.Cond.fieldLink "FollowTheSun$World" (21 : Nat) "FollowTheSun$World" "miss" "I") ∈ lw_all := lw_g (lw_at lw_m1 62 rfl) rfl
theorem q146 : (Jvm.Cond.fieldLink "FollowTheSun$World" (26 : Nat) "FollowTheSun$World" "known" "[[I") ∈ lw_all := lw_g (lw_at lw_m1 64 rfl) rfl
theorem q149 : (Jvm.Cond.fieldLink "FollowTheSun$World" (32 : Nat) "FollowTheSun$World" "rule" "LFollowTheSun$Node;") ∈ lw_all := lw_g (lw_at lw_m1 67 rfl) rfl
theorem q152 : (Jvm.Cond.laysFinal "FollowTheSun$World" "FollowTheSun$World" "offices" "[LFollowTheSun$Office;") ∈ lw_all := lw_g (lw_at lw_m1 70 rfl) rfl
theorem q153 : (Jvm.Cond.soleField "FollowTheSun$World" "offices") ∈ lw_all := lw_g (lw_at lw_m1 71 rfl) rfl
theorem q154 : (Jvm.Cond.lays "FollowTheSun$World" "FollowTheSun$World" "many" "I") ∈ lw_all := lw_g (lw_at lw_m1 72 rfl) rfl
theorem q155 : (Jvm.Cond.soleField "FollowTheSun$World" "many") ∈ lw_all := lw_g (lw_at lw_m1 73 rfl) rfl
theorem q156 : (Jvm.Cond.lays "FollowTheSun$World" "FollowTheSun$World" "lose" "I") ∈ lw_all := lw_g (lw_at lw_m1 74 rfl) rfl
theorem q157 : (Jvm.Cond.soleField "FollowTheSun$World" "lose") ∈ lw_all := lw_g (lw_at lw_m1 75 rfl) rfl
theorem q158 : (Jvm.Cond.lays "FollowTheSun$World" "FollowTheSun$World" "miss" "I") ∈ lw_all := lw_g (lw_at lw_m1 76 rfl) rfl
theorem q159 : (Jvm.Cond.soleField "FollowTheSun$World" "miss") ∈ lw_all := lw_g (lw_at lw_m1 77 rfl) rfl
theorem q160 : (Jvm.Cond.laysFinal "FollowTheSun$World" "FollowTheSun$World" "known" "[[I") ∈ lw_all := lw_g (lw_at lw_m1 78 rfl) rfl
theorem q161 : (Jvm.Cond.soleField "FollowTheSun$World" "known") ∈ lw_all := lw_g (lw_at lw_m1 79 rfl) rfl
theorem q162 : (Jvm.Cond.lays "FollowTheSun$World" "FollowTheSun$World" "rule" "LFollowTheSun$Node;") ∈ lw_all := lw_g (lw_at lw_m1 80 rfl) rfl
theorem q163 : (Jvm.Cond.soleField "FollowTheSun$World" "rule") ∈ lw_all := lw_g (lw_at lw_m1 81 rfl) rfl
theorem q164 : (Jvm.Cond.superclass "FollowTheSun$World" "java/lang/Object") ∈ lw_all := lw_g (lw_at lw_m1 82 rfl) rfl
theorem q353 : (Jvm.Cond.fieldLink "FollowTheSun$World" (56 : Nat) "FollowTheSun$Office" "crafts" "I") ∈ lw_all := lw_g (lw_at lw_m2 31 rfl) rfl
theorem q381 : (Jvm.Cond.instanceMethod ({ cls := "FollowTheSun$World", name := "add", desc := "(LFollowTheSun$Office;)I" } : Jvm.MethodName)) ∈ lw_all := lw_g (lw_at lw_m2 59 rfl) rfl
theorem q382 : (Jvm.Cond.selects "FollowTheSun$World" ({ cls := "FollowTheSun$World", name := "add", desc := "(LFollowTheSun$Office;)I" } : Jvm.MethodName) ({ cls := "FollowTheSun$World", name := "add", desc := "(LFollowTheSun$Office;)I" } : Jvm.MethodName)) ∈ lw_all := lw_g (lw_at lw_m2 60 rfl) rfl
theorem q383 : (Jvm.Cond.code ({ cls := "FollowTheSun$World", name := "add", desc := "(LFollowTheSun$Office;)I" } : Jvm.MethodName) prog_17_method_3_code (2 : Nat) (Option.some Jvm.ClassFile.FieldType.int)) ∈ lw_all := lw_g (lw_at lw_m2 61 rfl) rfl
theorem q404 : (Jvm.Cond.instanceMethod ({ cls := "FollowTheSun$World", name := "know", desc := "(III)V" } : Jvm.MethodName)) ∈ lw_all := lw_g (lw_at lw_m2 82 rfl) rfl
theorem q405 : (Jvm.Cond.selects "FollowTheSun$World" ({ cls := "FollowTheSun$World", name := "know", desc := "(III)V" } : Jvm.MethodName) ({ cls := "FollowTheSun$World", name := "know", desc := "(III)V" } : Jvm.MethodName)) ∈ lw_all := lw_g (lw_at lw_m2 83 rfl) rfl
theorem q406 : (Jvm.Cond.code ({ cls := "FollowTheSun$World", name := "know", desc := "(III)V" } : Jvm.MethodName) prog_17_method_4_code (4 : Nat) (Option.none : Option Jvm.ClassFile.FieldType)) ∈ lw_all := lw_g (lw_at lw_m2 84 rfl) rfl
theorem q521 : (Jvm.Cond.instanceMethod ({ cls := "FollowTheSun$World", name := "overlap", desc := "(III)I" } : Jvm.MethodName)) ∈ lw_all := lw_g (lw_at lw_m2 199 rfl) rfl
theorem q522 : (Jvm.Cond.selects "FollowTheSun$World" ({ cls := "FollowTheSun$World", name := "overlap", desc := "(III)I" } : Jvm.MethodName) ({ cls := "FollowTheSun$World", name := "overlap", desc := "(III)I" } : Jvm.MethodName)) ∈ lw_all := lw_g (lw_at lw_m2 200 rfl) rfl
theorem q523 : (Jvm.Cond.code ({ cls := "FollowTheSun$World", name := "overlap", desc := "(III)I" } : Jvm.MethodName) prog_17_method_5_code (6 : Nat) (Option.some Jvm.ClassFile.FieldType.int)) ∈ lw_all := lw_g (lw_at lw_m2 201 rfl) rfl
theorem q524 : (Jvm.Cond.methodLink "FollowTheSun$World" (42 : Nat) ({ cls := "FollowTheSun$Office", name := "isOpen", desc := "(I)Z" } : Jvm.MethodName)) ∈ lw_all := lw_g (lw_at lw_m2 202 rfl) rfl
theorem q530 : (Jvm.Cond.instanceMethod ({ cls := "FollowTheSun$World", name := "lost", desc := "(III)I" } : Jvm.MethodName)) ∈ lw_all := lw_g (lw_at lw_m2 208 rfl) rfl
theorem q531 : (Jvm.Cond.selects "FollowTheSun$World" ({ cls := "FollowTheSun$World", name := "lost", desc := "(III)I" } : Jvm.MethodName) ({ cls := "FollowTheSun$World", name := "lost", desc := "(III)I" } : Jvm.MethodName)) ∈ lw_all := lw_g (lw_at lw_m2 209 rfl) rfl
theorem q532 : (Jvm.Cond.code ({ cls := "FollowTheSun$World", name := "lost", desc := "(III)I" } : Jvm.MethodName) prog_17_method_6_code (4 : Nat) (Option.some Jvm.ClassFile.FieldType.int)) ∈ lw_all := lw_g (lw_at lw_m2 210 rfl) rfl
theorem q533 : (Jvm.Cond.methodLink "FollowTheSun$World" (46 : Nat) ({ cls := "java/lang/Math", name := "max", desc := "(II)I" } : Jvm.MethodName)) ∈ lw_all := lw_g (lw_at lw_m2 211 rfl) rfl
theorem q534 : (Jvm.Cond.methodLink "FollowTheSun$World" (52 : Nat) ({ cls := "FollowTheSun$World", name := "overlap", desc := "(III)I" } : Jvm.MethodName)) ∈ lw_all := lw_g (lw_at lw_m2 212 rfl) rfl
theorem q540 : (Jvm.Cond.instanceMethod ({ cls := "FollowTheSun$World", name := "hasCraft", desc := "(II)Z" } : Jvm.MethodName)) ∈ lw_all := lw_g (lw_at lw_m2 218 rfl) rfl
theorem q541 : (Jvm.Cond.selects "FollowTheSun$World" ({ cls := "FollowTheSun$World", name := "hasCraft", desc := "(II)Z" } : Jvm.MethodName) ({ cls := "FollowTheSun$World", name := "hasCraft", desc := "(II)Z" } : Jvm.MethodName)) ∈ lw_all := lw_g (lw_at lw_m2 219 rfl) rfl
theorem q542 : (Jvm.Cond.code ({ cls := "FollowTheSun$World", name := "hasCraft", desc := "(II)Z" } : Jvm.MethodName) prog_17_method_8_code (3 : Nat) (Option.some Jvm.ClassFile.FieldType.boolean)) ∈ lw_all := lw_g (lw_at lw_m2 220 rfl) rfl
theorem q543 : (Jvm.Cond.methodLinkNest "FollowTheSun$World" (59 : Nat) ({ cls := "FollowTheSun", name := "has", desc := "(II)Z" } : Jvm.MethodName) "FollowTheSun") ∈ lw_tbl := lw_at lw_m2 221 rfl
theorem q867 : (Jvm.Cond.instanceMethod ({ cls := "FollowTheSun$World", name := "wrong", desc := "(II)I" } : Jvm.MethodName)) ∈ lw_all := lw_g (lw_at lw_m4 65 rfl) rfl
theorem q868 : (Jvm.Cond.selects "FollowTheSun$World" ({ cls := "FollowTheSun$World", name := "wrong", desc := "(II)I" } : Jvm.MethodName) ({ cls := "FollowTheSun$World", name := "wrong", desc := "(II)I" } : Jvm.MethodName)) ∈ lw_all := lw_g (lw_at lw_m4 66 rfl) rfl
theorem q869 : (Jvm.Cond.code ({ cls := "FollowTheSun$World", name := "wrong", desc := "(II)I" } : Jvm.MethodName) prog_17_method_7_code (3 : Nat) (Option.some Jvm.ClassFile.FieldType.int)) ∈ lw_all := lw_g (lw_at lw_m4 67 rfl) rfl
theorem q1081 : (Jvm.Cond.instanceMethod ({ cls := "FollowTheSun$World", name := "as", desc := "(LFollowTheSun$World;)LFollowTheSun$World;" } : Jvm.MethodName)) ∈ lw_all := lw_g (lw_at lw_m5 39 rfl) rfl
theorem q1082 : (Jvm.Cond.selects "FollowTheSun$World" ({ cls := "FollowTheSun$World", name := "as", desc := "(LFollowTheSun$World;)LFollowTheSun$World;" } : Jvm.MethodName) ({ cls := "FollowTheSun$World", name := "as", desc := "(LFollowTheSun$World;)LFollowTheSun$World;" } : Jvm.MethodName)) ∈ lw_all := lw_g (lw_at lw_m5 40 rfl) rfl
theorem q1083 : (Jvm.Cond.code ({ cls := "FollowTheSun$World", name := "as", desc := "(LFollowTheSun$World;)LFollowTheSun$World;" } : Jvm.MethodName) prog_17_method_2_code (3 : Nat) (Option.some (Jvm.ClassFile.FieldType.object "FollowTheSun$World"))) ∈ lw_all := lw_g (lw_at lw_m5 41 rfl) rfl
theorem q1084 : (Jvm.Cond.methodLink "FollowTheSun$World" (36 : Nat) ({ cls := "java/lang/System", name := "arraycopy", desc := "(Ljava/lang/Object;ILjava/lang/Object;II)V" } : Jvm.MethodName)) ∈ lw_all := lw_g (lw_at lw_m5 42 rfl) rfl
theorem q1905 : (Jvm.Cond.castable "FollowTheSun$World" "java/lang/Object") ∈ lw_tbl := lw_at lw_m8 143 rfl
theorem in_X2 : ∀ w ∈ wsX20, w ∈ lw_all := lw_in wsX20 [152, 154, 156, 158, 160, 162] (by decide +kernel) (by decide +kernel)

/-! FollowTheSun$State -/
def RX3 : String := "FollowTheSun$State"
def TX3 : u_T := fun k => match k with
  | 0 => ("FollowTheSun$State", "now", "I", false)
  | 1 => ("FollowTheSun$State", "pay", "I", false)
  | 2 => ("FollowTheSun$State", "handings", "I", false)
  | 3 => ("FollowTheSun$State", "lost", "I", false)
  | 4 => ("FollowTheSun$State", "at", "[I", true)
  | 5 => ("FollowTheSun$State", "left", "[I", true)
  | 6 => ("FollowTheSun$State", "since", "[I", true)
  | 7 => ("FollowTheSun$State", "done", "[I", true)
  | 8 => ("FollowTheSun$State", "waits", "[Z", true)
  | 9 => ("FollowTheSun$State", "worked", "[I", true)
  | 10 => ("FollowTheSun$State", "handed", "[I", true)
  | 11 => ("FollowTheSun$State", "lostOf", "[I", true)
  | 12 => ("FollowTheSun$State", "wrongs", "[I", true)
  | 13 => ("FollowTheSun$State", "idle", "I", false)
  | 14 => ("FollowTheSun$State", "busy", "[I", true)
  | _ => ("FollowTheSun$State", "this$0", "LFollowTheSun;", true)
def tyX3 : Nat → FieldType := fun k => match k with
  | 0 => .int
  | 1 => .int
  | 2 => .int
  | 3 => .int
  | 4 => .array .int
  | 5 => .array .int
  | 6 => .array .int
  | 7 => .array .int
  | 8 => .array .boolean
  | 9 => .array .int
  | 10 => .array .int
  | 11 => .array .int
  | 12 => .array .int
  | 13 => .int
  | 14 => .array .int
  | _ => .object "FollowTheSun"
abbrev wsX30 : List Cond := u_ws RX3 TX3 16
theorem nmX3 : ∀ a, a < 16 → ∀ b, b < 16 → a ≠ b → (TX3 a).2.1 ≠ (TX3 b).2.1 := by decide +kernel
theorem tyX3_ok : ∀ k, k < 16 → parseFieldDescriptor (TX3 k).2.2.1 = some (tyX3 k) := by decide +kernel
abbrev cX3_init : ByteArray := prog_16_method_1_code
def yX3_init : MethodName := ⟨RX3, "<init>", "(LFollowTheSun;)V"⟩
abbrev cX3_fresh : ByteArray := prog_16_method_4_code
def yX3_fresh : MethodName := ⟨RX3, "fresh", "(I)V"⟩
abbrev cX3_begin : ByteArray := prog_16_method_2_code
def yX3_begin : MethodName := ⟨RX3, "begin", "(I)LFollowTheSun$State;"⟩
abbrev cX3_hour : ByteArray := prog_16_method_10_code
def yX3_hour : MethodName := ⟨RX3, "hour", "(LFollowTheSun$World;)V"⟩
abbrev cX3_isReady : ByteArray := prog_16_method_7_code
def yX3_isReady : MethodName := ⟨RX3, "isReady", "(I)Z"⟩
abbrev cX3_doneOnes : ByteArray := prog_16_method_6_code
def yX3_doneOnes : MethodName := ⟨RX3, "doneOnes", "()I"⟩
abbrev cX3_work : ByteArray := prog_16_method_11_code
def yX3_work : MethodName := ⟨RX3, "work", "(ILFollowTheSun$Office;)V"⟩
abbrev cX3_pieceOf : ByteArray := prog_16_method_5_code
def yX3_pieceOf : MethodName := ⟨RX3, "pieceOf", "(I)LFollowTheSun$Piece;"⟩
abbrev cX3_hand : ByteArray := prog_16_method_9_code
def yX3_hand : MethodName := ⟨RX3, "hand", "(LFollowTheSun$World;III)I"⟩
abbrev cX3_as : ByteArray := prog_16_method_3_code
def yX3_as : MethodName := ⟨RX3, "as", "(LFollowTheSun$State;)LFollowTheSun$State;"⟩
abbrev cX3_end : ByteArray := prog_16_method_12_code
def yX3_end : MethodName := ⟨RX3, "end", "(LFollowTheSun$World;)I"⟩
abbrev cX3_isAllDone : ByteArray := prog_16_method_8_code
def yX3_isAllDone : MethodName := ⟨RX3, "isAllDone", "()Z"⟩
abbrev cX3_isStuck : ByteArray := prog_16_method_13_code
def yX3_isStuck : MethodName := ⟨RX3, "isStuck", "(LFollowTheSun$World;)Z"⟩
theorem q85 : (Jvm.Cond.initialized "FollowTheSun$State") ∈ lw_all := lw_g (lw_at lw_m1 3 rfl) rfl
theorem q137 : (Jvm.Cond.fieldLink "FollowTheSun$State" (112 : Nat) "FollowTheSun$World" "offices" "[LFollowTheSun$Office;") ∈ lw_all := lw_g (lw_at lw_m1 55 rfl) rfl
theorem q151 : (Jvm.Cond.fieldLink "FollowTheSun$State" (153 : Nat) "FollowTheSun$World" "rule" "LFollowTheSun$Node;") ∈ lw_all := lw_g (lw_at lw_m1 69 rfl) rfl
theorem q167 : (Jvm.Cond.instantiable "FollowTheSun$State" (16 : Nat)) ∈ lw_all := lw_g (lw_at lw_m1 85 rfl) rfl
theorem q169 : (Jvm.Cond.instanceMethod ({ cls := "FollowTheSun$State", name := "<init>", desc := "(LFollowTheSun;)V" } : Jvm.MethodName)) ∈ lw_all := lw_g (lw_at lw_m1 87 rfl) rfl
theorem q170 : (Jvm.Cond.code ({ cls := "FollowTheSun$State", name := "<init>", desc := "(LFollowTheSun;)V" } : Jvm.MethodName) prog_16_method_1_code (2 : Nat) (Option.none : Option Jvm.ClassFile.FieldType)) ∈ lw_all := lw_g (lw_at lw_m1 88 rfl) rfl
theorem q171 : (Jvm.Cond.methodLink "FollowTheSun$State" (9 : Nat) ({ cls := "java/lang/Object", name := "<init>", desc := "()V" } : Jvm.MethodName)) ∈ lw_all := lw_g (lw_at lw_m1 89 rfl) rfl
theorem q172 : (Jvm.Cond.fieldLink "FollowTheSun$State" (47 : Nat) "FollowTheSun$State" "now" "I") ∈ lw_all := lw_g (lw_at lw_m1 90 rfl) rfl
theorem q175 : (Jvm.Cond.fieldLink "FollowTheSun$State" (51 : Nat) "FollowTheSun$State" "pay" "I") ∈ lw_all := lw_g (lw_at lw_m1 93 rfl) rfl
theorem q177 : (Jvm.Cond.fieldLink "FollowTheSun$State" (54 : Nat) "FollowTheSun$State" "handings" "I") ∈ lw_all := lw_g (lw_at lw_m1 95 rfl) rfl
theorem q179 : (Jvm.Cond.fieldLink "FollowTheSun$State" (57 : Nat) "FollowTheSun$State" "lost" "I") ∈ lw_all := lw_g (lw_at lw_m1 97 rfl) rfl
theorem q181 : (Jvm.Cond.fieldLink "FollowTheSun$State" (15 : Nat) "FollowTheSun$State" "at" "[I") ∈ lw_all := lw_g (lw_at lw_m1 99 rfl) rfl
theorem q184 : (Jvm.Cond.fieldLink "FollowTheSun$State" (19 : Nat) "FollowTheSun$State" "left" "[I") ∈ lw_all := lw_g (lw_at lw_m1 102 rfl) rfl
theorem q187 : (Jvm.Cond.fieldLink "FollowTheSun$State" (22 : Nat) "FollowTheSun$State" "since" "[I") ∈ lw_all := lw_g (lw_at lw_m1 105 rfl) rfl
theorem q189 : (Jvm.Cond.fieldLink "FollowTheSun$State" (25 : Nat) "FollowTheSun$State" "done" "[I") ∈ lw_all := lw_g (lw_at lw_m1 107 rfl) rfl
theorem q191 : (Jvm.Cond.fieldLink "FollowTheSun$State" (28 : Nat) "FollowTheSun$State" "waits" "[Z") ∈ lw_all := lw_g (lw_at lw_m1 109 rfl) rfl
theorem q193 : (Jvm.Cond.fieldLink "FollowTheSun$State" (32 : Nat) "FollowTheSun$State" "worked" "[I") ∈ lw_all := lw_g (lw_at lw_m1 111 rfl) rfl
theorem q195 : (Jvm.Cond.fieldLink "FollowTheSun$State" (35 : Nat) "FollowTheSun$State" "handed" "[I") ∈ lw_all := lw_g (lw_at lw_m1 113 rfl) rfl
theorem q197 : (Jvm.Cond.fieldLink "FollowTheSun$State" (38 : Nat) "FollowTheSun$State" "lostOf" "[I") ∈ lw_all := lw_g (lw_at lw_m1 115 rfl) rfl
theorem q199 : (Jvm.Cond.fieldLink "FollowTheSun$State" (41 : Nat) "FollowTheSun$State" "wrongs" "[I") ∈ lw_all := lw_g (lw_at lw_m1 117 rfl) rfl
theorem q201 : (Jvm.Cond.fieldLink "FollowTheSun$State" (105 : Nat) "FollowTheSun$State" "idle" "I") ∈ lw_all := lw_g (lw_at lw_m1 119 rfl) rfl
theorem q203 : (Jvm.Cond.fieldLink "FollowTheSun$State" (44 : Nat) "FollowTheSun$State" "busy" "[I") ∈ lw_all := lw_g (lw_at lw_m1 121 rfl) rfl
theorem q205 : (Jvm.Cond.fieldLink "FollowTheSun$State" (3 : Nat) "FollowTheSun$State" "this$0" "LFollowTheSun;") ∈ lw_all := lw_g (lw_at lw_m1 123 rfl) rfl
theorem q206 : (Jvm.Cond.lays "FollowTheSun$State" "FollowTheSun$State" "now" "I") ∈ lw_all := lw_g (lw_at lw_m1 124 rfl) rfl
theorem q207 : (Jvm.Cond.soleField "FollowTheSun$State" "now") ∈ lw_all := lw_g (lw_at lw_m1 125 rfl) rfl
theorem q208 : (Jvm.Cond.lays "FollowTheSun$State" "FollowTheSun$State" "pay" "I") ∈ lw_all := lw_g (lw_at lw_m1 126 rfl) rfl
theorem q209 : (Jvm.Cond.soleField "FollowTheSun$State" "pay") ∈ lw_all := lw_g (lw_at lw_m1 127 rfl) rfl
theorem q210 : (Jvm.Cond.lays "FollowTheSun$State" "FollowTheSun$State" "handings" "I") ∈ lw_all := lw_g (lw_at lw_m1 128 rfl) rfl
theorem q211 : (Jvm.Cond.soleField "FollowTheSun$State" "handings") ∈ lw_all := lw_g (lw_at lw_m1 129 rfl) rfl
theorem q212 : (Jvm.Cond.lays "FollowTheSun$State" "FollowTheSun$State" "lost" "I") ∈ lw_all := lw_g (lw_at lw_m1 130 rfl) rfl
theorem q213 : (Jvm.Cond.soleField "FollowTheSun$State" "lost") ∈ lw_all := lw_g (lw_at lw_m1 131 rfl) rfl
theorem q214 : (Jvm.Cond.laysFinal "FollowTheSun$State" "FollowTheSun$State" "at" "[I") ∈ lw_all := lw_g (lw_at lw_m1 132 rfl) rfl
theorem q215 : (Jvm.Cond.soleField "FollowTheSun$State" "at") ∈ lw_all := lw_g (lw_at lw_m1 133 rfl) rfl
theorem q216 : (Jvm.Cond.laysFinal "FollowTheSun$State" "FollowTheSun$State" "left" "[I") ∈ lw_all := lw_g (lw_at lw_m1 134 rfl) rfl
theorem q217 : (Jvm.Cond.soleField "FollowTheSun$State" "left") ∈ lw_all := lw_g (lw_at lw_m1 135 rfl) rfl
theorem q218 : (Jvm.Cond.laysFinal "FollowTheSun$State" "FollowTheSun$State" "since" "[I") ∈ lw_all := lw_g (lw_at lw_m1 136 rfl) rfl
theorem q219 : (Jvm.Cond.soleField "FollowTheSun$State" "since") ∈ lw_all := lw_g (lw_at lw_m1 137 rfl) rfl
theorem q220 : (Jvm.Cond.laysFinal "FollowTheSun$State" "FollowTheSun$State" "done" "[I") ∈ lw_all := lw_g (lw_at lw_m1 138 rfl) rfl
theorem q221 : (Jvm.Cond.soleField "FollowTheSun$State" "done") ∈ lw_all := lw_g (lw_at lw_m1 139 rfl) rfl
theorem q222 : (Jvm.Cond.laysFinal "FollowTheSun$State" "FollowTheSun$State" "waits" "[Z") ∈ lw_all := lw_g (lw_at lw_m1 140 rfl) rfl
theorem q223 : (Jvm.Cond.soleField "FollowTheSun$State" "waits") ∈ lw_all := lw_g (lw_at lw_m1 141 rfl) rfl
theorem q224 : (Jvm.Cond.laysFinal "FollowTheSun$State" "FollowTheSun$State" "worked" "[I") ∈ lw_all := lw_g (lw_at lw_m1 142 rfl) rfl
theorem q225 : (Jvm.Cond.soleField "FollowTheSun$State" "worked") ∈ lw_all := lw_g (lw_at lw_m1 143 rfl) rfl
theorem q226 : (Jvm.Cond.laysFinal "FollowTheSun$State" "FollowTheSun$State" "handed" "[I") ∈ lw_all := lw_g (lw_at lw_m1 144 rfl) rfl
theorem q227 : (Jvm.Cond.soleField "FollowTheSun$State" "handed") ∈ lw_all := lw_g (lw_at lw_m1 145 rfl) rfl
theorem q228 : (Jvm.Cond.laysFinal "FollowTheSun$State" "FollowTheSun$State" "lostOf" "[I") ∈ lw_all := lw_g (lw_at lw_m1 146 rfl) rfl
theorem q229 : (Jvm.Cond.soleField "FollowTheSun$State" "lostOf") ∈ lw_all := lw_g (lw_at lw_m1 147 rfl) rfl
theorem q230 : (Jvm.Cond.laysFinal "FollowTheSun$State" "FollowTheSun$State" "wrongs" "[I") ∈ lw_all := lw_g (lw_at lw_m1 148 rfl) rfl
theorem q231 : (Jvm.Cond.soleField "FollowTheSun$State" "wrongs") ∈ lw_all := lw_g (lw_at lw_m1 149 rfl) rfl
theorem q232 : (Jvm.Cond.lays "FollowTheSun$State" "FollowTheSun$State" "idle" "I") ∈ lw_all := lw_g (lw_at lw_m1 150 rfl) rfl
theorem q233 : (Jvm.Cond.soleField "FollowTheSun$State" "idle") ∈ lw_all := lw_g (lw_at lw_m1 151 rfl) rfl
theorem q234 : (Jvm.Cond.laysFinal "FollowTheSun$State" "FollowTheSun$State" "busy" "[I") ∈ lw_all := lw_g (lw_at lw_m1 152 rfl) rfl
theorem q235 : (Jvm.Cond.soleField "FollowTheSun$State" "busy") ∈ lw_all := lw_g (lw_at lw_m1 153 rfl) rfl
theorem q236 : (Jvm.Cond.laysFinal "FollowTheSun$State" "FollowTheSun$State" "this$0" "LFollowTheSun;") ∈ lw_all := lw_g (lw_at lw_m1 154 rfl) rfl
theorem q237 : (Jvm.Cond.soleField "FollowTheSun$State" "this$0") ∈ lw_all := lw_g (lw_at lw_m1 155 rfl) rfl
theorem q238 : (Jvm.Cond.superclass "FollowTheSun$State" "java/lang/Object") ∈ lw_all := lw_g (lw_at lw_m1 156 rfl) rfl
theorem q261 : (Jvm.Cond.fieldLinkNest "FollowTheSun$State" (73 : Nat) "FollowTheSun" "pieces" "[LFollowTheSun$Piece;" "FollowTheSun") ∈ lw_tbl := lw_at lw_m1 179 rfl
theorem q263 : (Jvm.Cond.fieldLinkNest "FollowTheSun$State" (60 : Nat) "FollowTheSun" "pieceMany" "I" "FollowTheSun") ∈ lw_tbl := lw_at lw_m1 181 rfl
theorem q347 : (Jvm.Cond.fieldLink "FollowTheSun$State" (145 : Nat) "FollowTheSun$Office" "pay" "I") ∈ lw_all := lw_g (lw_at lw_m2 25 rfl) rfl
theorem q350 : (Jvm.Cond.fieldLink "FollowTheSun$State" (130 : Nat) "FollowTheSun$Office" "people" "I") ∈ lw_all := lw_g (lw_at lw_m2 28 rfl) rfl
theorem q562 : (Jvm.Cond.fieldLink "FollowTheSun$State" (124 : Nat) "FollowTheSun$Piece" "craft" "I") ∈ lw_all := lw_g (lw_at lw_m3 0 rfl) rfl
theorem q567 : (Jvm.Cond.fieldLink "FollowTheSun$State" (82 : Nat) "FollowTheSun$Piece" "length" "I") ∈ lw_all := lw_g (lw_at lw_m3 5 rfl) rfl
theorem q570 : (Jvm.Cond.fieldLink "FollowTheSun$State" (85 : Nat) "FollowTheSun$Piece" "after" "I") ∈ lw_all := lw_g (lw_at lw_m3 8 rfl) rfl
theorem q574 : (Jvm.Cond.fieldLink "FollowTheSun$State" (121 : Nat) "FollowTheSun$Piece" "asks" "I") ∈ lw_all := lw_g (lw_at lw_m3 12 rfl) rfl
theorem q577 : (Jvm.Cond.fieldLink "FollowTheSun$State" (146 : Nat) "FollowTheSun$Piece" "every" "I") ∈ lw_all := lw_g (lw_at lw_m3 15 rfl) rfl
theorem q582 : (Jvm.Cond.fieldLink "FollowTheSun$State" (77 : Nat) "FollowTheSun$Piece" "born" "I") ∈ lw_all := lw_g (lw_at lw_m3 20 rfl) rfl
theorem q597 : (Jvm.Cond.instanceMethod ({ cls := "FollowTheSun$State", name := "fresh", desc := "(I)V" } : Jvm.MethodName)) ∈ lw_all := lw_g (lw_at lw_m3 35 rfl) rfl
theorem q598 : (Jvm.Cond.selects "FollowTheSun$State" ({ cls := "FollowTheSun$State", name := "fresh", desc := "(I)V" } : Jvm.MethodName) ({ cls := "FollowTheSun$State", name := "fresh", desc := "(I)V" } : Jvm.MethodName)) ∈ lw_all := lw_g (lw_at lw_m3 36 rfl) rfl
theorem q599 : (Jvm.Cond.code ({ cls := "FollowTheSun$State", name := "fresh", desc := "(I)V" } : Jvm.MethodName) prog_16_method_4_code (2 : Nat) (Option.none : Option Jvm.ClassFile.FieldType)) ∈ lw_all := lw_g (lw_at lw_m3 37 rfl) rfl
theorem q759 : (Jvm.Cond.instanceMethod ({ cls := "FollowTheSun$State", name := "begin", desc := "(I)LFollowTheSun$State;" } : Jvm.MethodName)) ∈ lw_all := lw_g (lw_at lw_m3 197 rfl) rfl
theorem q760 : (Jvm.Cond.selects "FollowTheSun$State" ({ cls := "FollowTheSun$State", name := "begin", desc := "(I)LFollowTheSun$State;" } : Jvm.MethodName) ({ cls := "FollowTheSun$State", name := "begin", desc := "(I)LFollowTheSun$State;" } : Jvm.MethodName)) ∈ lw_all := lw_g (lw_at lw_m3 198 rfl) rfl
theorem q761 : (Jvm.Cond.code ({ cls := "FollowTheSun$State", name := "begin", desc := "(I)LFollowTheSun$State;" } : Jvm.MethodName) prog_16_method_2_code (3 : Nat) (Option.some (Jvm.ClassFile.FieldType.object "FollowTheSun$State"))) ∈ lw_all := lw_g (lw_at lw_m3 199 rfl) rfl
theorem q762 : (Jvm.Cond.methodLink "FollowTheSun$State" (63 : Nat) ({ cls := "FollowTheSun$State", name := "fresh", desc := "(I)V" } : Jvm.MethodName)) ∈ lw_all := lw_g (lw_at lw_m3 200 rfl) rfl
theorem q768 : (Jvm.Cond.instanceMethod ({ cls := "FollowTheSun$State", name := "hour", desc := "(LFollowTheSun$World;)V" } : Jvm.MethodName)) ∈ lw_all := lw_g (lw_at lw_m3 206 rfl) rfl
theorem q769 : (Jvm.Cond.selects "FollowTheSun$State" ({ cls := "FollowTheSun$State", name := "hour", desc := "(LFollowTheSun$World;)V" } : Jvm.MethodName) ({ cls := "FollowTheSun$State", name := "hour", desc := "(LFollowTheSun$World;)V" } : Jvm.MethodName)) ∈ lw_all := lw_g (lw_at lw_m3 207 rfl) rfl
theorem q770 : (Jvm.Cond.code ({ cls := "FollowTheSun$State", name := "hour", desc := "(LFollowTheSun$World;)V" } : Jvm.MethodName) prog_16_method_10_code (6 : Nat) (Option.none : Option Jvm.ClassFile.FieldType)) ∈ lw_all := lw_g (lw_at lw_m3 208 rfl) rfl
theorem q771 : (Jvm.Cond.methodLink "FollowTheSun$State" (101 : Nat) ({ cls := "FollowTheSun$State", name := "isReady", desc := "(I)Z" } : Jvm.MethodName)) ∈ lw_all := lw_g (lw_at lw_m3 209 rfl) rfl
theorem q772 : (Jvm.Cond.instanceMethod ({ cls := "FollowTheSun$State", name := "isReady", desc := "(I)Z" } : Jvm.MethodName)) ∈ lw_all := lw_g (lw_at lw_m3 210 rfl) rfl
theorem q773 : (Jvm.Cond.selects "FollowTheSun$State" ({ cls := "FollowTheSun$State", name := "isReady", desc := "(I)Z" } : Jvm.MethodName) ({ cls := "FollowTheSun$State", name := "isReady", desc := "(I)Z" } : Jvm.MethodName)) ∈ lw_all := lw_g (lw_at lw_m3 211 rfl) rfl
theorem q774 : (Jvm.Cond.code ({ cls := "FollowTheSun$State", name := "isReady", desc := "(I)Z" } : Jvm.MethodName) prog_16_method_7_code (2 : Nat) (Option.some Jvm.ClassFile.FieldType.boolean)) ∈ lw_all := lw_g (lw_at lw_m3 212 rfl) rfl
theorem q775 : (Jvm.Cond.methodLink "FollowTheSun$State" (88 : Nat) ({ cls := "FollowTheSun$State", name := "doneOnes", desc := "()I" } : Jvm.MethodName)) ∈ lw_all := lw_g (lw_at lw_m3 213 rfl) rfl
theorem q776 : (Jvm.Cond.instanceMethod ({ cls := "FollowTheSun$State", name := "doneOnes", desc := "()I" } : Jvm.MethodName)) ∈ lw_all := lw_g (lw_at lw_m3 214 rfl) rfl
theorem q777 : (Jvm.Cond.selects "FollowTheSun$State" ({ cls := "FollowTheSun$State", name := "doneOnes", desc := "()I" } : Jvm.MethodName) ({ cls := "FollowTheSun$State", name := "doneOnes", desc := "()I" } : Jvm.MethodName)) ∈ lw_all := lw_g (lw_at lw_m3 215 rfl) rfl
theorem q778 : (Jvm.Cond.code ({ cls := "FollowTheSun$State", name := "doneOnes", desc := "()I" } : Jvm.MethodName) prog_16_method_6_code (3 : Nat) (Option.some Jvm.ClassFile.FieldType.int)) ∈ lw_all := lw_g (lw_at lw_m3 216 rfl) rfl
theorem q779 : (Jvm.Cond.methodLinkNest "FollowTheSun$State" (108 : Nat) ({ cls := "FollowTheSun", name := "has", desc := "(II)Z" } : Jvm.MethodName) "FollowTheSun") ∈ lw_tbl := lw_at lw_m3 217 rfl
theorem q780 : (Jvm.Cond.methodLink "FollowTheSun$State" (116 : Nat) ({ cls := "FollowTheSun$Office", name := "isOpen", desc := "(I)Z" } : Jvm.MethodName)) ∈ lw_all := lw_g (lw_at lw_m3 218 rfl) rfl
theorem q781 : (Jvm.Cond.methodLink "FollowTheSun$State" (127 : Nat) ({ cls := "FollowTheSun$World", name := "hasCraft", desc := "(II)Z" } : Jvm.MethodName)) ∈ lw_all := lw_g (lw_at lw_m3 219 rfl) rfl
theorem q782 : (Jvm.Cond.methodLink "FollowTheSun$State" (133 : Nat) ({ cls := "FollowTheSun$State", name := "work", desc := "(ILFollowTheSun$Office;)V" } : Jvm.MethodName)) ∈ lw_all := lw_g (lw_at lw_m3 220 rfl) rfl
theorem q783 : (Jvm.Cond.privateMethod ({ cls := "FollowTheSun$State", name := "work", desc := "(ILFollowTheSun$Office;)V" } : Jvm.MethodName)) ∈ lw_tbl := lw_at lw_m3 221 rfl
theorem q784 : (Jvm.Cond.instanceMethod ({ cls := "FollowTheSun$State", name := "work", desc := "(ILFollowTheSun$Office;)V" } : Jvm.MethodName)) ∈ lw_all := lw_g (lw_at lw_m3 222 rfl) rfl
theorem q785 : (Jvm.Cond.code ({ cls := "FollowTheSun$State", name := "work", desc := "(ILFollowTheSun$Office;)V" } : Jvm.MethodName) prog_16_method_11_code (3 : Nat) (Option.none : Option Jvm.ClassFile.FieldType)) ∈ lw_all := lw_g (lw_at lw_m3 223 rfl) rfl
theorem q786 : (Jvm.Cond.methodLinkNest "FollowTheSun$State" (137 : Nat) ({ cls := "FollowTheSun", name := "chosen", desc := "(LFollowTheSun$World;LFollowTheSun$State;I)I" } : Jvm.MethodName) "FollowTheSun") ∈ lw_tbl := lw_at lw_m3 224 rfl
theorem q853 : (Jvm.Cond.instanceMethod ({ cls := "FollowTheSun$State", name := "pieceOf", desc := "(I)LFollowTheSun$Piece;" } : Jvm.MethodName)) ∈ lw_all := lw_g (lw_at lw_m4 51 rfl) rfl
theorem q854 : (Jvm.Cond.selects "FollowTheSun$State" ({ cls := "FollowTheSun$State", name := "pieceOf", desc := "(I)LFollowTheSun$Piece;" } : Jvm.MethodName) ({ cls := "FollowTheSun$State", name := "pieceOf", desc := "(I)LFollowTheSun$Piece;" } : Jvm.MethodName)) ∈ lw_all := lw_g (lw_at lw_m4 52 rfl) rfl
theorem q855 : (Jvm.Cond.code ({ cls := "FollowTheSun$State", name := "pieceOf", desc := "(I)LFollowTheSun$Piece;" } : Jvm.MethodName) prog_16_method_5_code (2 : Nat) (Option.some (Jvm.ClassFile.FieldType.object "FollowTheSun$Piece"))) ∈ lw_all := lw_g (lw_at lw_m4 53 rfl) rfl
theorem q861 : (Jvm.Cond.methodLink "FollowTheSun$State" (141 : Nat) ({ cls := "FollowTheSun$State", name := "hand", desc := "(LFollowTheSun$World;III)I" } : Jvm.MethodName)) ∈ lw_all := lw_g (lw_at lw_m4 59 rfl) rfl
theorem q862 : (Jvm.Cond.instanceMethod ({ cls := "FollowTheSun$State", name := "hand", desc := "(LFollowTheSun$World;III)I" } : Jvm.MethodName)) ∈ lw_all := lw_g (lw_at lw_m4 60 rfl) rfl
theorem q863 : (Jvm.Cond.selects "FollowTheSun$State" ({ cls := "FollowTheSun$State", name := "hand", desc := "(LFollowTheSun$World;III)I" } : Jvm.MethodName) ({ cls := "FollowTheSun$State", name := "hand", desc := "(LFollowTheSun$World;III)I" } : Jvm.MethodName)) ∈ lw_all := lw_g (lw_at lw_m4 61 rfl) rfl
theorem q864 : (Jvm.Cond.code ({ cls := "FollowTheSun$State", name := "hand", desc := "(LFollowTheSun$World;III)I" } : Jvm.MethodName) prog_16_method_9_code (6 : Nat) (Option.some Jvm.ClassFile.FieldType.int)) ∈ lw_all := lw_g (lw_at lw_m4 62 rfl) rfl
theorem q865 : (Jvm.Cond.methodLink "FollowTheSun$State" (92 : Nat) ({ cls := "FollowTheSun$World", name := "lost", desc := "(III)I" } : Jvm.MethodName)) ∈ lw_all := lw_g (lw_at lw_m4 63 rfl) rfl
theorem q866 : (Jvm.Cond.methodLink "FollowTheSun$State" (97 : Nat) ({ cls := "FollowTheSun$World", name := "wrong", desc := "(II)I" } : Jvm.MethodName)) ∈ lw_all := lw_g (lw_at lw_m4 64 rfl) rfl
theorem q884 : (Jvm.Cond.instanceMethod ({ cls := "FollowTheSun$State", name := "as", desc := "(LFollowTheSun$State;)LFollowTheSun$State;" } : Jvm.MethodName)) ∈ lw_all := lw_g (lw_at lw_m4 82 rfl) rfl
theorem q885 : (Jvm.Cond.selects "FollowTheSun$State" ({ cls := "FollowTheSun$State", name := "as", desc := "(LFollowTheSun$State;)LFollowTheSun$State;" } : Jvm.MethodName) ({ cls := "FollowTheSun$State", name := "as", desc := "(LFollowTheSun$State;)LFollowTheSun$State;" } : Jvm.MethodName)) ∈ lw_all := lw_g (lw_at lw_m4 83 rfl) rfl
theorem q886 : (Jvm.Cond.code ({ cls := "FollowTheSun$State", name := "as", desc := "(LFollowTheSun$State;)LFollowTheSun$State;" } : Jvm.MethodName) prog_16_method_3_code (3 : Nat) (Option.some (Jvm.ClassFile.FieldType.object "FollowTheSun$State"))) ∈ lw_all := lw_g (lw_at lw_m4 84 rfl) rfl
theorem q887 : (Jvm.Cond.methodLink "FollowTheSun$State" (67 : Nat) ({ cls := "java/lang/System", name := "arraycopy", desc := "(Ljava/lang/Object;ILjava/lang/Object;II)V" } : Jvm.MethodName)) ∈ lw_all := lw_g (lw_at lw_m4 85 rfl) rfl
theorem q895 : (Jvm.Cond.instanceMethod ({ cls := "FollowTheSun$State", name := "end", desc := "(LFollowTheSun$World;)I" } : Jvm.MethodName)) ∈ lw_all := lw_g (lw_at lw_m4 93 rfl) rfl
theorem q896 : (Jvm.Cond.selects "FollowTheSun$State" ({ cls := "FollowTheSun$State", name := "end", desc := "(LFollowTheSun$World;)I" } : Jvm.MethodName) ({ cls := "FollowTheSun$State", name := "end", desc := "(LFollowTheSun$World;)I" } : Jvm.MethodName)) ∈ lw_all := lw_g (lw_at lw_m4 94 rfl) rfl
theorem q897 : (Jvm.Cond.code ({ cls := "FollowTheSun$State", name := "end", desc := "(LFollowTheSun$World;)I" } : Jvm.MethodName) prog_16_method_12_code (2 : Nat) (Option.some Jvm.ClassFile.FieldType.int)) ∈ lw_all := lw_g (lw_at lw_m4 95 rfl) rfl
theorem q898 : (Jvm.Cond.methodLink "FollowTheSun$State" (149 : Nat) ({ cls := "FollowTheSun$State", name := "isAllDone", desc := "()Z" } : Jvm.MethodName)) ∈ lw_all := lw_g (lw_at lw_m4 96 rfl) rfl
theorem q899 : (Jvm.Cond.instanceMethod ({ cls := "FollowTheSun$State", name := "isAllDone", desc := "()Z" } : Jvm.MethodName)) ∈ lw_all := lw_g (lw_at lw_m4 97 rfl) rfl
theorem q900 : (Jvm.Cond.selects "FollowTheSun$State" ({ cls := "FollowTheSun$State", name := "isAllDone", desc := "()Z" } : Jvm.MethodName) ({ cls := "FollowTheSun$State", name := "isAllDone", desc := "()Z" } : Jvm.MethodName)) ∈ lw_all := lw_g (lw_at lw_m4 98 rfl) rfl
theorem q901 : (Jvm.Cond.code ({ cls := "FollowTheSun$State", name := "isAllDone", desc := "()Z" } : Jvm.MethodName) prog_16_method_8_code (1 : Nat) (Option.some Jvm.ClassFile.FieldType.boolean)) ∈ lw_all := lw_g (lw_at lw_m4 99 rfl) rfl
theorem q902 : (Jvm.Cond.methodLink "FollowTheSun$State" (157 : Nat) ({ cls := "FollowTheSun$State", name := "isStuck", desc := "(LFollowTheSun$World;)Z" } : Jvm.MethodName)) ∈ lw_all := lw_g (lw_at lw_m4 100 rfl) rfl
theorem q903 : (Jvm.Cond.privateMethod ({ cls := "FollowTheSun$State", name := "isStuck", desc := "(LFollowTheSun$World;)Z" } : Jvm.MethodName)) ∈ lw_tbl := lw_at lw_m4 101 rfl
theorem q904 : (Jvm.Cond.instanceMethod ({ cls := "FollowTheSun$State", name := "isStuck", desc := "(LFollowTheSun$World;)Z" } : Jvm.MethodName)) ∈ lw_all := lw_g (lw_at lw_m4 102 rfl) rfl
theorem q905 : (Jvm.Cond.code ({ cls := "FollowTheSun$State", name := "isStuck", desc := "(LFollowTheSun$World;)Z" } : Jvm.MethodName) prog_16_method_13_code (3 : Nat) (Option.some Jvm.ClassFile.FieldType.boolean)) ∈ lw_all := lw_g (lw_at lw_m4 103 rfl) rfl
theorem q906 : (Jvm.Cond.methodLink "FollowTheSun$State" (161 : Nat) ({ cls := "FollowTheSun$State", name := "hour", desc := "(LFollowTheSun$World;)V" } : Jvm.MethodName)) ∈ lw_all := lw_g (lw_at lw_m4 104 rfl) rfl
theorem q1906 : (Jvm.Cond.castable "FollowTheSun$State" "java/lang/Object") ∈ lw_tbl := lw_at lw_m8 144 rfl
theorem in_X3 : ∀ w ∈ wsX30, w ∈ lw_all := lw_in wsX30 [206, 208, 210, 212, 214, 216, 218, 220, 222, 224, 226, 228, 230, 232, 234, 236] (by decide +kernel) (by decide +kernel)

/-! FollowTheSun$Case -/
def RX4 : String := "FollowTheSun$Case"
def TX4 : u_T := fun k => match k with
  | 0 => ("FollowTheSun$Case", "w", "LFollowTheSun$World;", false)
  | 1 => ("FollowTheSun$Case", "piece", "I", false)
  | 2 => ("FollowTheSun$Case", "office", "I", false)
  | _ => ("FollowTheSun$Case", "s", "LFollowTheSun$State;", false)
def tyX4 : Nat → FieldType := fun k => match k with
  | 0 => .object "FollowTheSun$World"
  | 1 => .int
  | 2 => .int
  | _ => .object "FollowTheSun$State"
abbrev wsX40 : List Cond := u_ws RX4 TX4 4
theorem nmX4 : ∀ a, a < 4 → ∀ b, b < 4 → a ≠ b → (TX4 a).2.1 ≠ (TX4 b).2.1 := by decide +kernel
theorem tyX4_ok : ∀ k, k < 4 → parseFieldDescriptor (TX4 k).2.2.1 = some (tyX4 k) := by decide +kernel
abbrev cX4_init : ByteArray := prog_2_method_1_code
def yX4_init : MethodName := ⟨RX4, "<init>", "()V"⟩
abbrev cX4_of : ByteArray := prog_2_method_2_code
def yX4_of : MethodName := ⟨RX4, "of", "(LFollowTheSun$World;LFollowTheSun$State;II)LFollowTheSun$Case;"⟩
abbrev cX4_value : ByteArray := prog_2_method_3_code
def yX4_value : MethodName := ⟨RX4, "value", "(C)I"⟩
abbrev cX4_rest : ByteArray := prog_2_method_4_code
def yX4_rest : MethodName := ⟨RX4, "rest", "(I)I"⟩
theorem q86 : (Jvm.Cond.initialized "FollowTheSun$Case") ∈ lw_all := lw_g (lw_at lw_m1 4 rfl) rfl
theorem q135 : (Jvm.Cond.fieldLink "FollowTheSun$Case" (48 : Nat) "FollowTheSun$World" "offices" "[LFollowTheSun$Office;") ∈ lw_all := lw_g (lw_at lw_m1 53 rfl) rfl
theorem q147 : (Jvm.Cond.fieldLink "FollowTheSun$Case" (35 : Nat) "FollowTheSun$World" "known" "[[I") ∈ lw_all := lw_g (lw_at lw_m1 65 rfl) rfl
theorem q173 : (Jvm.Cond.fieldLink "FollowTheSun$Case" (32 : Nat) "FollowTheSun$State" "now" "I") ∈ lw_all := lw_g (lw_at lw_m1 91 rfl) rfl
theorem q182 : (Jvm.Cond.fieldLink "FollowTheSun$Case" (26 : Nat) "FollowTheSun$State" "at" "[I") ∈ lw_all := lw_g (lw_at lw_m1 100 rfl) rfl
theorem q185 : (Jvm.Cond.fieldLink "FollowTheSun$Case" (84 : Nat) "FollowTheSun$State" "left" "[I") ∈ lw_all := lw_g (lw_at lw_m1 103 rfl) rfl
theorem q241 : (Jvm.Cond.instantiable "FollowTheSun$Case" (4 : Nat)) ∈ lw_all := lw_g (lw_at lw_m1 159 rfl) rfl
theorem q243 : (Jvm.Cond.instanceMethod ({ cls := "FollowTheSun$Case", name := "<init>", desc := "()V" } : Jvm.MethodName)) ∈ lw_all := lw_g (lw_at lw_m1 161 rfl) rfl
theorem q244 : (Jvm.Cond.code ({ cls := "FollowTheSun$Case", name := "<init>", desc := "()V" } : Jvm.MethodName) prog_2_method_1_code (1 : Nat) (Option.none : Option Jvm.ClassFile.FieldType)) ∈ lw_all := lw_g (lw_at lw_m1 162 rfl) rfl
theorem q245 : (Jvm.Cond.methodLink "FollowTheSun$Case" (3 : Nat) ({ cls := "java/lang/Object", name := "<init>", desc := "()V" } : Jvm.MethodName)) ∈ lw_all := lw_g (lw_at lw_m1 163 rfl) rfl
theorem q246 : (Jvm.Cond.fieldLink "FollowTheSun$Case" (9 : Nat) "FollowTheSun$Case" "w" "LFollowTheSun$World;") ∈ lw_all := lw_g (lw_at lw_m1 164 rfl) rfl
theorem q247 : (Jvm.Cond.fieldLink "FollowTheSun$Case" (19 : Nat) "FollowTheSun$Case" "piece" "I") ∈ lw_all := lw_g (lw_at lw_m1 165 rfl) rfl
theorem q248 : (Jvm.Cond.fieldLink "FollowTheSun$Case" (23 : Nat) "FollowTheSun$Case" "office" "I") ∈ lw_all := lw_g (lw_at lw_m1 166 rfl) rfl
theorem q249 : (Jvm.Cond.fieldLink "FollowTheSun$Case" (15 : Nat) "FollowTheSun$Case" "s" "LFollowTheSun$State;") ∈ lw_all := lw_g (lw_at lw_m1 167 rfl) rfl
theorem q250 : (Jvm.Cond.lays "FollowTheSun$Case" "FollowTheSun$Case" "w" "LFollowTheSun$World;") ∈ lw_all := lw_g (lw_at lw_m1 168 rfl) rfl
theorem q251 : (Jvm.Cond.soleField "FollowTheSun$Case" "w") ∈ lw_all := lw_g (lw_at lw_m1 169 rfl) rfl
theorem q252 : (Jvm.Cond.lays "FollowTheSun$Case" "FollowTheSun$Case" "piece" "I") ∈ lw_all := lw_g (lw_at lw_m1 170 rfl) rfl
theorem q253 : (Jvm.Cond.soleField "FollowTheSun$Case" "piece") ∈ lw_all := lw_g (lw_at lw_m1 171 rfl) rfl
theorem q254 : (Jvm.Cond.lays "FollowTheSun$Case" "FollowTheSun$Case" "office" "I") ∈ lw_all := lw_g (lw_at lw_m1 172 rfl) rfl
theorem q255 : (Jvm.Cond.soleField "FollowTheSun$Case" "office") ∈ lw_all := lw_g (lw_at lw_m1 173 rfl) rfl
theorem q256 : (Jvm.Cond.lays "FollowTheSun$Case" "FollowTheSun$Case" "s" "LFollowTheSun$State;") ∈ lw_all := lw_g (lw_at lw_m1 174 rfl) rfl
theorem q257 : (Jvm.Cond.soleField "FollowTheSun$Case" "s") ∈ lw_all := lw_g (lw_at lw_m1 175 rfl) rfl
theorem q258 : (Jvm.Cond.superclass "FollowTheSun$Case" "java/lang/Object") ∈ lw_all := lw_g (lw_at lw_m1 176 rfl) rfl
theorem q346 : (Jvm.Cond.fieldLink "FollowTheSun$Case" (81 : Nat) "FollowTheSun$Office" "pay" "I") ∈ lw_all := lw_g (lw_at lw_m2 24 rfl) rfl
theorem q561 : (Jvm.Cond.fieldLink "FollowTheSun$Case" (66 : Nat) "FollowTheSun$Piece" "craft" "I") ∈ lw_all := lw_g (lw_at lw_m2 239 rfl) rfl
theorem q573 : (Jvm.Cond.fieldLink "FollowTheSun$Case" (78 : Nat) "FollowTheSun$Piece" "asks" "I") ∈ lw_all := lw_g (lw_at lw_m3 11 rfl) rfl
theorem q581 : (Jvm.Cond.fieldLink "FollowTheSun$Case" (75 : Nat) "FollowTheSun$Piece" "born" "I") ∈ lw_all := lw_g (lw_at lw_m3 19 rfl) rfl
theorem q791 : (Jvm.Cond.instanceMethod ({ cls := "FollowTheSun$Case", name := "of", desc := "(LFollowTheSun$World;LFollowTheSun$State;II)LFollowTheSun$Case;" } : Jvm.MethodName)) ∈ lw_all := lw_g (lw_at lw_m3 229 rfl) rfl
theorem q792 : (Jvm.Cond.selects "FollowTheSun$Case" ({ cls := "FollowTheSun$Case", name := "of", desc := "(LFollowTheSun$World;LFollowTheSun$State;II)LFollowTheSun$Case;" } : Jvm.MethodName) ({ cls := "FollowTheSun$Case", name := "of", desc := "(LFollowTheSun$World;LFollowTheSun$State;II)LFollowTheSun$Case;" } : Jvm.MethodName)) ∈ lw_all := lw_g (lw_at lw_m3 230 rfl) rfl
theorem q793 : (Jvm.Cond.code ({ cls := "FollowTheSun$Case", name := "of", desc := "(LFollowTheSun$World;LFollowTheSun$State;II)LFollowTheSun$Case;" } : Jvm.MethodName) prog_2_method_2_code (5 : Nat) (Option.some (Jvm.ClassFile.FieldType.object "FollowTheSun$Case"))) ∈ lw_all := lw_g (lw_at lw_m3 231 rfl) rfl
theorem q842 : (Jvm.Cond.instanceMethod ({ cls := "FollowTheSun$Case", name := "value", desc := "(C)I" } : Jvm.MethodName)) ∈ lw_all := lw_g (lw_at lw_m4 40 rfl) rfl
theorem q843 : (Jvm.Cond.selects "FollowTheSun$Case" ({ cls := "FollowTheSun$Case", name := "value", desc := "(C)I" } : Jvm.MethodName) ({ cls := "FollowTheSun$Case", name := "value", desc := "(C)I" } : Jvm.MethodName)) ∈ lw_all := lw_g (lw_at lw_m4 41 rfl) rfl
theorem q844 : (Jvm.Cond.code ({ cls := "FollowTheSun$Case", name := "value", desc := "(C)I" } : Jvm.MethodName) prog_2_method_3_code (4 : Nat) (Option.some Jvm.ClassFile.FieldType.int)) ∈ lw_all := lw_g (lw_at lw_m4 42 rfl) rfl
theorem q845 : (Jvm.Cond.methodLink "FollowTheSun$Case" (41 : Nat) ({ cls := "FollowTheSun$World", name := "lost", desc := "(III)I" } : Jvm.MethodName)) ∈ lw_all := lw_g (lw_at lw_m4 43 rfl) rfl
theorem q846 : (Jvm.Cond.methodLink "FollowTheSun$Case" (45 : Nat) ({ cls := "FollowTheSun$World", name := "overlap", desc := "(III)I" } : Jvm.MethodName)) ∈ lw_all := lw_g (lw_at lw_m4 44 rfl) rfl
theorem q847 : (Jvm.Cond.methodLink "FollowTheSun$Case" (52 : Nat) ({ cls := "FollowTheSun$Office", name := "isOpen", desc := "(I)Z" } : Jvm.MethodName)) ∈ lw_all := lw_g (lw_at lw_m4 45 rfl) rfl
theorem q848 : (Jvm.Cond.methodLink "FollowTheSun$Case" (58 : Nat) ({ cls := "FollowTheSun$Case", name := "rest", desc := "(I)I" } : Jvm.MethodName)) ∈ lw_all := lw_g (lw_at lw_m4 46 rfl) rfl
theorem q849 : (Jvm.Cond.privateMethod ({ cls := "FollowTheSun$Case", name := "rest", desc := "(I)I" } : Jvm.MethodName)) ∈ lw_tbl := lw_at lw_m4 47 rfl
theorem q850 : (Jvm.Cond.instanceMethod ({ cls := "FollowTheSun$Case", name := "rest", desc := "(I)I" } : Jvm.MethodName)) ∈ lw_all := lw_g (lw_at lw_m4 48 rfl) rfl
theorem q851 : (Jvm.Cond.code ({ cls := "FollowTheSun$Case", name := "rest", desc := "(I)I" } : Jvm.MethodName) prog_2_method_4_code (3 : Nat) (Option.some Jvm.ClassFile.FieldType.int)) ∈ lw_all := lw_g (lw_at lw_m4 49 rfl) rfl
theorem q852 : (Jvm.Cond.methodLink "FollowTheSun$Case" (62 : Nat) ({ cls := "FollowTheSun$State", name := "pieceOf", desc := "(I)LFollowTheSun$Piece;" } : Jvm.MethodName)) ∈ lw_all := lw_g (lw_at lw_m4 50 rfl) rfl
theorem q856 : (Jvm.Cond.methodLink "FollowTheSun$Case" (71 : Nat) ({ cls := "FollowTheSun$World", name := "hasCraft", desc := "(II)Z" } : Jvm.MethodName)) ∈ lw_all := lw_g (lw_at lw_m4 54 rfl) rfl
theorem q1907 : (Jvm.Cond.castable "FollowTheSun$Case" "java/lang/Object") ∈ lw_tbl := lw_at lw_m8 145 rfl
theorem in_X4 : ∀ w ∈ wsX40, w ∈ lw_all := lw_in wsX40 [250, 252, 254, 256] (by decide +kernel) (by decide +kernel)

/-! FollowTheSunModel -/
def RX5 : String := "FollowTheSunModel"
def TX5 : u_T := fun k => match k with
  | 0 => ("FollowTheSunModel", "thrown", "I", false)
  | 1 => ("FollowTheSunModel", "rows", "I", false)
  | 2 => ("FollowTheSunModel", "row", "[J", true)
  | 3 => ("FollowTheSunModel", "offices", "I", false)
  | 4 => ("FollowTheSunModel", "zone", "[I", true)
  | 5 => ("FollowTheSunModel", "from", "[I", true)
  | 6 => ("FollowTheSunModel", "longOf", "[I", true)
  | 7 => ("FollowTheSunModel", "payOf", "[I", true)
  | 8 => ("FollowTheSunModel", "people", "[I", true)
  | 9 => ("FollowTheSunModel", "crafts", "[I", true)
  | 10 => ("FollowTheSunModel", "clockHour", "[I", true)
  | 11 => ("FollowTheSunModel", "clockBy", "[I", true)
  | 12 => ("FollowTheSunModel", "isFeast", "[Z", true)
  | 13 => ("FollowTheSunModel", "known", "[I", true)
  | 14 => ("FollowTheSunModel", "lose", "I", false)
  | 15 => ("FollowTheSunModel", "miss", "I", false)
  | 16 => ("FollowTheSunModel", "pieces", "I", false)
  | 17 => ("FollowTheSunModel", "craftOf", "[I", true)
  | 18 => ("FollowTheSunModel", "lengthOf", "[I", true)
  | 19 => ("FollowTheSunModel", "afterOf", "[I", true)
  | 20 => ("FollowTheSunModel", "bornAt", "[I", true)
  | 21 => ("FollowTheSunModel", "asksOf", "[I", true)
  | 22 => ("FollowTheSunModel", "every", "[I", true)
  | 23 => ("FollowTheSunModel", "state", "[I", true)
  | 24 => ("FollowTheSunModel", "aside", "[I", true)
  | 25 => ("FollowTheSunModel", "code", "[I", true)
  | 26 => ("FollowTheSunModel", "codes", "[I", true)
  | 27 => ("FollowTheSunModel", "stack", "[I", true)
  | 28 => ("FollowTheSunModel", "tape", "[I", true)
  | 29 => ("FollowTheSunModel", "taped", "I", false)
  | 30 => ("FollowTheSunModel", "place", "I", false)
  | 31 => ("FollowTheSunModel", "to", "I", false)
  | 32 => ("FollowTheSunModel", "nest", "I", false)
  | 33 => ("FollowTheSunModel", "hands", "[I", true)
  | 34 => ("FollowTheSunModel", "readyThen", "I", false)
  | 35 => ("FollowTheSunModel", "waitedThen", "I", false)
  | 36 => ("FollowTheSunModel", "workedThen", "I", false)
  | 37 => ("FollowTheSunModel", "isOneHouse", "Z", false)
  | 38 => ("FollowTheSunModel", "nowAt", "[I", false)
  | 39 => ("FollowTheSunModel", "nextAt", "[I", false)
  | 40 => ("FollowTheSunModel", "lostNow", "[I", true)
  | 41 => ("FollowTheSunModel", "oneHanded", "I", false)
  | 42 => ("FollowTheSunModel", "oneRoute", "I", false)
  | 43 => ("FollowTheSunModel", "paidNow", "[J", false)
  | 44 => ("FollowTheSunModel", "paidNext", "[J", false)
  | 45 => ("FollowTheSunModel", "cheapBest", "J", false)
  | 46 => ("FollowTheSunModel", "cheapHanded", "I", false)
  | 47 => ("FollowTheSunModel", "lieWaited", "I", false)
  | 48 => ("FollowTheSunModel", "bornThen", "[I", true)
  | 49 => ("FollowTheSunModel", "homesBest", "[I", true)
  | 50 => ("FollowTheSunModel", "pairs", "I", false)
  | 51 => ("FollowTheSunModel", "pairOne", "[I", true)
  | 52 => ("FollowTheSunModel", "pairOther", "[I", true)
  | 53 => ("FollowTheSunModel", "pairPrice", "[I", true)
  | 54 => ("FollowTheSunModel", "knownThen", "[I", true)
  | 55 => ("FollowTheSunModel", "chance", "[J", true)
  | 56 => ("FollowTheSunModel", "keptPieces", "[I", true)
  | _ => ("FollowTheSunModel", "kept", "[I", true)
def tyX5 : Nat → FieldType := fun k => match k with
  | 0 => .int
  | 1 => .int
  | 2 => .array .long
  | 3 => .int
  | 4 => .array .int
  | 5 => .array .int
  | 6 => .array .int
  | 7 => .array .int
  | 8 => .array .int
  | 9 => .array .int
  | 10 => .array .int
  | 11 => .array .int
  | 12 => .array .boolean
  | 13 => .array .int
  | 14 => .int
  | 15 => .int
  | 16 => .int
  | 17 => .array .int
  | 18 => .array .int
  | 19 => .array .int
  | 20 => .array .int
  | 21 => .array .int
  | 22 => .array .int
  | 23 => .array .int
  | 24 => .array .int
  | 25 => .array .int
  | 26 => .array .int
  | 27 => .array .int
  | 28 => .array .int
  | 29 => .int
  | 30 => .int
  | 31 => .int
  | 32 => .int
  | 33 => .array .int
  | 34 => .int
  | 35 => .int
  | 36 => .int
  | 37 => .boolean
  | 38 => .array .int
  | 39 => .array .int
  | 40 => .array .int
  | 41 => .int
  | 42 => .int
  | 43 => .array .long
  | 44 => .array .long
  | 45 => .long
  | 46 => .int
  | 47 => .int
  | 48 => .array .int
  | 49 => .array .int
  | 50 => .int
  | 51 => .array .int
  | 52 => .array .int
  | 53 => .array .int
  | 54 => .array .int
  | 55 => .array .long
  | 56 => .array .int
  | _ => .array .int
abbrev wsX50 : List Cond := u_ws RX5 TX5 58
theorem nmX5 : ∀ a, a < 58 → ∀ b, b < 58 → a ≠ b → (TX5 a).2.1 ≠ (TX5 b).2.1 := by decide +kernel
theorem tyX5_ok : ∀ k, k < 58 → parseFieldDescriptor (TX5 k).2.2.1 = some (tyX5 k) := by decide +kernel
abbrev cX5_thrown : ByteArray := prog_19_method_1_code
def yX5_thrown : MethodName := ⟨RX5, "thrown", "()I"⟩
abbrev cX5_office : ByteArray := prog_19_method_12_code
def yX5_office : MethodName := ⟨RX5, "office", "(IIII)I"⟩
abbrev cX5_in : ByteArray := prog_19_method_2_code
def yX5_in : MethodName := ⟨RX5, "in", "(JJJ)Z"⟩
abbrev cX5_opens : ByteArray := prog_19_method_11_code
def yX5_opens : MethodName := ⟨RX5, "opens", "(IIIIII)V"⟩
abbrev cX5_clock : ByteArray := prog_19_method_13_code
def yX5_clock : MethodName := ⟨RX5, "clock", "(III)Z"⟩
abbrev cX5_isOffice : ByteArray := prog_19_method_9_code
def yX5_isOffice : MethodName := ⟨RX5, "isOffice", "(I)Z"⟩
abbrev cX5_isHour : ByteArray := prog_19_method_10_code
def yX5_isHour : MethodName := ⟨RX5, "isHour", "(I)Z"⟩
abbrev cX5_feast : ByteArray := prog_19_method_15_code
def yX5_feast : MethodName := ⟨RX5, "feast", "(IIZ)Z"⟩
abbrev cX5_isDay : ByteArray := prog_19_method_14_code
def yX5_isDay : MethodName := ⟨RX5, "isDay", "(I)Z"⟩
abbrev cX5_know : ByteArray := prog_19_method_17_code
def yX5_know : MethodName := ⟨RX5, "know", "(III)I"⟩
abbrev cX5_knows : ByteArray := prog_19_method_16_code
def yX5_knows : MethodName := ⟨RX5, "knows", "(III)V"⟩
abbrev cX5_sheet : ByteArray := prog_19_method_18_code
def yX5_sheet : MethodName := ⟨RX5, "sheet", "(IIIII)I"⟩
abbrev cX5_set : ByteArray := prog_19_method_19_code
def yX5_set : MethodName := ⟨RX5, "set", "(II)I"⟩
abbrev cX5_open : ByteArray := prog_19_method_23_code
def yX5_open : MethodName := ⟨RX5, "open", "(II)I"⟩
abbrev cX5_isOpen : ByteArray := prog_19_method_20_code
def yX5_isOpen : MethodName := ⟨RX5, "isOpen", "(II)Z"⟩
abbrev cX5_flag : ByteArray := prog_19_method_4_code
def yX5_flag : MethodName := ⟨RX5, "flag", "(Z)I"⟩
abbrev cX5_overlap : ByteArray := prog_19_method_24_code
def yX5_overlap : MethodName := ⟨RX5, "overlap", "(III)I"⟩
abbrev cX5_overlapOf : ByteArray := prog_19_method_21_code
def yX5_overlapOf : MethodName := ⟨RX5, "overlapOf", "(III)I"⟩
abbrev cX5_loses : ByteArray := prog_19_method_25_code
def yX5_loses : MethodName := ⟨RX5, "loses", "(III)I"⟩
abbrev cX5_lostOf : ByteArray := prog_19_method_22_code
def yX5_lostOf : MethodName := ⟨RX5, "lostOf", "(III)I"⟩
abbrev cX5_dark : ByteArray := prog_19_method_26_code
def yX5_dark : MethodName := ⟨RX5, "dark", "(II)I"⟩
abbrev cX5_has : ByteArray := prog_19_method_3_code
def yX5_has : MethodName := ⟨RX5, "has", "(II)Z"⟩
abbrev cX5_enters : ByteArray := prog_19_method_6_code
def yX5_enters : MethodName := ⟨RX5, "enters", "(J)V"⟩
abbrev cX5_piece : ByteArray := prog_19_method_30_code
def yX5_piece : MethodName := ⟨RX5, "piece", "(IIIII)I"⟩
abbrev cX5_lays : ByteArray := prog_19_method_29_code
def yX5_lays : MethodName := ⟨RX5, "lays", "(I)V"⟩
abbrev cX5_sign : ByteArray := prog_19_method_31_code
def yX5_sign : MethodName := ⟨RX5, "sign", "(I)I"⟩
abbrev cX5_end : ByteArray := prog_19_method_32_code
def yX5_end : MethodName := ⟨RX5, "end", "(I)Z"⟩
abbrev cX5_rule : ByteArray := prog_19_method_39_code
def yX5_rule : MethodName := ⟨RX5, "rule", "()I"⟩
abbrev cX5_ranked : ByteArray := prog_19_method_38_code
def yX5_ranked : MethodName := ⟨RX5, "ranked", "(I)Z"⟩
abbrev cX5_ahead : ByteArray := prog_19_method_37_code
def yX5_ahead : MethodName := ⟨RX5, "ahead", "()Z"⟩
abbrev cX5_among : ByteArray := prog_19_method_34_code
def yX5_among : MethodName := ⟨RX5, "among", "(Ljava/lang/String;)I"⟩
abbrev cX5_thing : ByteArray := prog_19_method_36_code
def yX5_thing : MethodName := ⟨RX5, "thing", "()Z"⟩
abbrev cX5_isDigit : ByteArray := prog_19_method_33_code
def yX5_isDigit : MethodName := ⟨RX5, "isDigit", "()Z"⟩
abbrev cX5_marks : ByteArray := prog_19_method_35_code
def yX5_marks : MethodName := ⟨RX5, "marks", "(I)V"⟩
abbrev cX5_value : ByteArray := prog_19_method_45_code
def yX5_value : MethodName := ⟨RX5, "value", "(II)I"⟩
abbrev cX5_isPiece : ByteArray := prog_19_method_44_code
def yX5_isPiece : MethodName := ⟨RX5, "isPiece", "(I)Z"⟩
abbrev cX5_refuse : ByteArray := prog_19_method_5_code
def yX5_refuse : MethodName := ⟨RX5, "refuse", "()I"⟩
abbrev cX5_worked : ByteArray := prog_19_method_43_code
def yX5_worked : MethodName := ⟨RX5, "worked", "(III)I"⟩
abbrev cX5_valueOf : ByteArray := prog_19_method_41_code
def yX5_valueOf : MethodName := ⟨RX5, "valueOf", "(IIII)I"⟩
abbrev cX5_opensIn : ByteArray := prog_19_method_40_code
def yX5_opensIn : MethodName := ⟨RX5, "opensIn", "(II)I"⟩
abbrev cX5_acted : ByteArray := prog_19_method_42_code
def yX5_acted : MethodName := ⟨RX5, "acted", "(III)I"⟩
abbrev cX5_begin : ByteArray := prog_19_method_54_code
def yX5_begin : MethodName := ⟨RX5, "begin", "(I)Z"⟩
abbrev cX5_begins : ByteArray := prog_19_method_55_code
def yX5_begins : MethodName := ⟨RX5, "begins", "(I)V"⟩
abbrev cX5_go : ByteArray := prog_19_method_56_code
def yX5_go : MethodName := ⟨RX5, "go", "(I)I"⟩
abbrev cX5_passes : ByteArray := prog_19_method_53_code
def yX5_passes : MethodName := ⟨RX5, "passes", "()V"⟩
abbrev cX5_works : ByteArray := prog_19_method_50_code
def yX5_works : MethodName := ⟨RX5, "works", "()V"⟩
abbrev cX5_readyBits : ByteArray := prog_19_method_48_code
def yX5_readyBits : MethodName := ⟨RX5, "readyBits", "()I"⟩
abbrev cX5_isReady : ByteArray := prog_19_method_47_code
def yX5_isReady : MethodName := ⟨RX5, "isReady", "(I)Z"⟩
abbrev cX5_isDone : ByteArray := prog_19_method_46_code
def yX5_isDone : MethodName := ⟨RX5, "isDone", "(I)Z"⟩
abbrev cX5_asked : ByteArray := prog_19_method_49_code
def yX5_asked : MethodName := ⟨RX5, "asked", "(I)I"⟩
abbrev cX5_closes : ByteArray := prog_19_method_52_code
def yX5_closes : MethodName := ⟨RX5, "closes", "()V"⟩
abbrev cX5_hands : ByteArray := prog_19_method_51_code
def yX5_hands : MethodName := ⟨RX5, "hands", "(III)I"⟩
abbrev cX5_of : ByteArray := prog_19_method_57_code
def yX5_of : MethodName := ⟨RX5, "of", "(II)I"⟩
abbrev cX5_hand : ByteArray := prog_19_method_58_code
def yX5_hand : MethodName := ⟨RX5, "hand", "(II)I"⟩
abbrev cX5_ends : ByteArray := prog_19_method_63_code
def yX5_ends : MethodName := ⟨RX5, "ends", "()I"⟩
abbrev cX5_putsBy : ByteArray := prog_19_method_27_code
def yX5_putsBy : MethodName := ⟨RX5, "putsBy", "([I)V"⟩
abbrev cX5_tellsEnd : ByteArray := prog_19_method_62_code
def yX5_tellsEnd : MethodName := ⟨RX5, "tellsEnd", "()I"⟩
abbrev cX5_sumOf : ByteArray := prog_19_method_61_code
def yX5_sumOf : MethodName := ⟨RX5, "sumOf", "(I)I"⟩
abbrev cX5_goesOn : ByteArray := prog_19_method_60_code
def yX5_goesOn : MethodName := ⟨RX5, "goesOn", "()I"⟩
abbrev cX5_isAllDone : ByteArray := prog_19_method_59_code
def yX5_isAllDone : MethodName := ⟨RX5, "isAllDone", "()Z"⟩
abbrev cX5_takesBack : ByteArray := prog_19_method_28_code
def yX5_takesBack : MethodName := ⟨RX5, "takesBack", "([I)V"⟩
abbrev cX5_judge : ByteArray := prog_19_method_64_code
def yX5_judge : MethodName := ⟨RX5, "judge", "()I"⟩
abbrev cX5_one : ByteArray := prog_19_method_74_code
def yX5_one : MethodName := ⟨RX5, "one", "(III)I"⟩
abbrev cX5_soonest : ByteArray := prog_19_method_71_code
def yX5_soonest : MethodName := ⟨RX5, "soonest", "(III)I"⟩
abbrev cX5_empties : ByteArray := prog_19_method_68_code
def yX5_empties : MethodName := ⟨RX5, "empties", "([I)V"⟩
abbrev cX5_placeAt : ByteArray := prog_19_method_67_code
def yX5_placeAt : MethodName := ⟨RX5, "placeAt", "(III)I"⟩
abbrev cX5_losesAll : ByteArray := prog_19_method_69_code
def yX5_losesAll : MethodName := ⟨RX5, "losesAll", "(I)V"⟩
abbrev cX5_goesFrom : ByteArray := prog_19_method_72_code
def yX5_goesFrom : MethodName := ⟨RX5, "goesFrom", "(IIIII)V"⟩
abbrev cX5_least : ByteArray := prog_19_method_70_code
def yX5_least : MethodName := ⟨RX5, "least", "([III)V"⟩
abbrev cX5_entersRoute : ByteArray := prog_19_method_73_code
def yX5_entersRoute : MethodName := ⟨RX5, "entersRoute", "(II)V"⟩
abbrev cX5_cheap : ByteArray := prog_19_method_78_code
def yX5_cheap : MethodName := ⟨RX5, "cheap", "(IIII)I"⟩
abbrev cX5_emptiesPaid : ByteArray := prog_19_method_75_code
def yX5_emptiesPaid : MethodName := ⟨RX5, "emptiesPaid", "([J)V"⟩
abbrev cX5_goesPaid : ByteArray := prog_19_method_77_code
def yX5_goesPaid : MethodName := ⟨RX5, "goesPaid", "(IIIJI)V"⟩
abbrev cX5_cheaper : ByteArray := prog_19_method_76_code
def yX5_cheaper : MethodName := ⟨RX5, "cheaper", "(IJ)V"⟩
abbrev cX5_edge : ByteArray := prog_19_method_79_code
def yX5_edge : MethodName := ⟨RX5, "edge", "(III)I"⟩
abbrev cX5_lie : ByteArray := prog_19_method_81_code
def yX5_lie : MethodName := ⟨RX5, "lie", "(II)I"⟩
abbrev cX5_lies : ByteArray := prog_19_method_80_code
def yX5_lies : MethodName := ⟨RX5, "lies", "(III)I"⟩
abbrev cX5_homes : ByteArray := prog_19_method_85_code
def yX5_homes : MethodName := ⟨RX5, "homes", "(II)I"⟩
abbrev cX5_keepsBorn : ByteArray := prog_19_method_82_code
def yX5_keepsBorn : MethodName := ⟨RX5, "keepsBorn", "()V"⟩
abbrev cX5_endsFrom : ByteArray := prog_19_method_65_code
def yX5_endsFrom : MethodName := ⟨RX5, "endsFrom", "(I)I"⟩
abbrev cX5_movesHomes : ByteArray := prog_19_method_84_code
def yX5_movesHomes : MethodName := ⟨RX5, "movesHomes", "(I)Z"⟩
abbrev cX5_givesBorn : ByteArray := prog_19_method_83_code
def yX5_givesBorn : MethodName := ⟨RX5, "givesBorn", "()V"⟩
abbrev cX5_pair : ByteArray := prog_19_method_86_code
def yX5_pair : MethodName := ⟨RX5, "pair", "(III)I"⟩
abbrev cX5_whom : ByteArray := prog_19_method_88_code
def yX5_whom : MethodName := ⟨RX5, "whom", "(II)I"⟩
abbrev cX5_endsWith : ByteArray := prog_19_method_87_code
def yX5_endsWith : MethodName := ⟨RX5, "endsWith", "(II)I"⟩
abbrev cX5_worth : ByteArray := prog_19_method_89_code
def yX5_worth : MethodName := ⟨RX5, "worth", "(I)I"⟩
abbrev cX5_wrong : ByteArray := prog_19_method_90_code
def yX5_wrong : MethodName := ⟨RX5, "wrong", "(I)I"⟩
abbrev cX5_entersFraction : ByteArray := prog_19_method_8_code
def yX5_entersFraction : MethodName := ⟨RX5, "entersFraction", "(JJ)V"⟩
abbrev cX5_common : ByteArray := prog_19_method_7_code
def yX5_common : MethodName := ⟨RX5, "common", "(JJ)J"⟩
abbrev cX5_mean : ByteArray := prog_19_method_91_code
def yX5_mean : MethodName := ⟨RX5, "mean", "(I)I"⟩
abbrev cX5_riskiest : ByteArray := prog_19_method_92_code
def yX5_riskiest : MethodName := ⟨RX5, "riskiest", "()I"⟩
abbrev cX5_site : ByteArray := prog_19_method_93_code
def yX5_site : MethodName := ⟨RX5, "site", "(IIII)I"⟩
abbrev cX5_together : ByteArray := prog_19_method_94_code
def yX5_together : MethodName := ⟨RX5, "together", "(II)I"⟩
abbrev cX5_sleeps : ByteArray := prog_19_method_95_code
def yX5_sleeps : MethodName := ⟨RX5, "sleeps", "(II)I"⟩
abbrev cX5_endsNow : ByteArray := prog_19_method_66_code
def yX5_endsNow : MethodName := ⟨RX5, "endsNow", "()I"⟩
abbrev cX5_endsOn : ByteArray := prog_19_method_96_code
def yX5_endsOn : MethodName := ⟨RX5, "endsOn", "(II)I"⟩
abbrev cX5_worst : ByteArray := prog_19_method_97_code
def yX5_worst : MethodName := ⟨RX5, "worst", "(III)I"⟩
abbrev cX5_march : ByteArray := prog_19_method_98_code
def yX5_march : MethodName := ⟨RX5, "march", "(II)I"⟩
abbrev cX5_keep : ByteArray := prog_19_method_99_code
def yX5_keep : MethodName := ⟨RX5, "keep", "(I)Z"⟩
abbrev cX5_again : ByteArray := prog_19_method_100_code
def yX5_again : MethodName := ⟨RX5, "again", "(I)Z"⟩
abbrev cX5_count : ByteArray := prog_19_method_102_code
def yX5_count : MethodName := ⟨RX5, "count", "(I)I"⟩
abbrev cX5_doneBits : ByteArray := prog_19_method_101_code
def yX5_doneBits : MethodName := ⟨RX5, "doneBits", "()I"⟩
abbrev cX5_init : ByteArray := prog_19_method_103_code
def yX5_init : MethodName := ⟨RX5, "<init>", "()V"⟩
abbrev cX5_row : ByteArray := prog_19_method_104_code
def yX5_row : MethodName := ⟨RX5, "row", "(I)J"⟩
theorem q87 : (Jvm.Cond.initialized "FollowTheSunModel") ∈ lw_all := lw_g (lw_at lw_m1 5 rfl) rfl
theorem q1232 : (Jvm.Cond.instanceMethod ({ cls := "FollowTheSunModel", name := "thrown", desc := "()I" } : Jvm.MethodName)) ∈ lw_all := lw_g (lw_at lw_m5 190 rfl) rfl
theorem q1233 : (Jvm.Cond.selects "FollowTheSunModel" ({ cls := "FollowTheSunModel", name := "thrown", desc := "()I" } : Jvm.MethodName) ({ cls := "FollowTheSunModel", name := "thrown", desc := "()I" } : Jvm.MethodName)) ∈ lw_all := lw_g (lw_at lw_m5 191 rfl) rfl
theorem q1234 : (Jvm.Cond.code ({ cls := "FollowTheSunModel", name := "thrown", desc := "()I" } : Jvm.MethodName) prog_19_method_1_code (1 : Nat) (Option.some Jvm.ClassFile.FieldType.int)) ∈ lw_all := lw_g (lw_at lw_m5 192 rfl) rfl
theorem q1236 : (Jvm.Cond.instanceMethod ({ cls := "FollowTheSunModel", name := "office", desc := "(IIII)I" } : Jvm.MethodName)) ∈ lw_all := lw_g (lw_at lw_m5 194 rfl) rfl
theorem q1237 : (Jvm.Cond.selects "FollowTheSunModel" ({ cls := "FollowTheSunModel", name := "office", desc := "(IIII)I" } : Jvm.MethodName) ({ cls := "FollowTheSunModel", name := "office", desc := "(IIII)I" } : Jvm.MethodName)) ∈ lw_all := lw_g (lw_at lw_m5 195 rfl) rfl
theorem q1238 : (Jvm.Cond.code ({ cls := "FollowTheSunModel", name := "office", desc := "(IIII)I" } : Jvm.MethodName) prog_19_method_12_code (6 : Nat) (Option.some Jvm.ClassFile.FieldType.int)) ∈ lw_all := lw_g (lw_at lw_m5 196 rfl) rfl
theorem q1239 : (Jvm.Cond.constantLong "FollowTheSunModel" (63 : Nat) (575 : Int64)) ∈ lw_all := lw_g (lw_at lw_m5 197 rfl) rfl
theorem q1240 : (Jvm.Cond.methodLink "FollowTheSunModel" (25 : Nat) ({ cls := "FollowTheSunModel", name := "in", desc := "(JJJ)Z" } : Jvm.MethodName)) ∈ lw_all := lw_g (lw_at lw_m5 198 rfl) rfl
theorem q1241 : (Jvm.Cond.static ({ cls := "FollowTheSunModel", name := "in", desc := "(JJJ)Z" } : Jvm.MethodName)) ∈ lw_all := lw_g (lw_at lw_m5 199 rfl) rfl
theorem q1242 : (Jvm.Cond.code ({ cls := "FollowTheSunModel", name := "in", desc := "(JJJ)Z" } : Jvm.MethodName) prog_19_method_2_code (6 : Nat) (Option.some Jvm.ClassFile.FieldType.boolean)) ∈ lw_all := lw_g (lw_at lw_m5 200 rfl) rfl
theorem q1243 : (Jvm.Cond.constantLong "FollowTheSunModel" (65 : Nat) (16 : Int64)) ∈ lw_all := lw_g (lw_at lw_m5 201 rfl) rfl
theorem q1244 : (Jvm.Cond.constantLong "FollowTheSunModel" (67 : Nat) (99 : Int64)) ∈ lw_all := lw_g (lw_at lw_m5 202 rfl) rfl
theorem q1245 : (Jvm.Cond.constantLong "FollowTheSunModel" (69 : Nat) (9 : Int64)) ∈ lw_all := lw_g (lw_at lw_m5 203 rfl) rfl
theorem q1246 : (Jvm.Cond.constantLong "FollowTheSunModel" (71 : Nat) (63 : Int64)) ∈ lw_all := lw_g (lw_at lw_m5 204 rfl) rfl
theorem q1247 : (Jvm.Cond.methodLink "FollowTheSunModel" (73 : Nat) ({ cls := "FollowTheSunModel", name := "opens", desc := "(IIIIII)V" } : Jvm.MethodName)) ∈ lw_all := lw_g (lw_at lw_m5 205 rfl) rfl
theorem q1248 : (Jvm.Cond.privateMethod ({ cls := "FollowTheSunModel", name := "opens", desc := "(IIIIII)V" } : Jvm.MethodName)) ∈ lw_tbl := lw_at lw_m5 206 rfl
theorem q1249 : (Jvm.Cond.instanceMethod ({ cls := "FollowTheSunModel", name := "opens", desc := "(IIIIII)V" } : Jvm.MethodName)) ∈ lw_all := lw_g (lw_at lw_m5 207 rfl) rfl
theorem q1250 : (Jvm.Cond.instantiable "FollowTheSunModel" (58 : Nat)) ∈ lw_all := lw_g (lw_at lw_m5 208 rfl) rfl
theorem q1251 : (Jvm.Cond.code ({ cls := "FollowTheSunModel", name := "opens", desc := "(IIIIII)V" } : Jvm.MethodName) prog_19_method_11_code (9 : Nat) (Option.none : Option Jvm.ClassFile.FieldType)) ∈ lw_all := lw_g (lw_at lw_m5 209 rfl) rfl
theorem q1253 : (Jvm.Cond.instanceMethod ({ cls := "FollowTheSunModel", name := "clock", desc := "(III)Z" } : Jvm.MethodName)) ∈ lw_all := lw_g (lw_at lw_m5 211 rfl) rfl
theorem q1254 : (Jvm.Cond.selects "FollowTheSunModel" ({ cls := "FollowTheSunModel", name := "clock", desc := "(III)Z" } : Jvm.MethodName) ({ cls := "FollowTheSunModel", name := "clock", desc := "(III)Z" } : Jvm.MethodName)) ∈ lw_all := lw_g (lw_at lw_m5 212 rfl) rfl
theorem q1255 : (Jvm.Cond.code ({ cls := "FollowTheSunModel", name := "clock", desc := "(III)Z" } : Jvm.MethodName) prog_19_method_13_code (4 : Nat) (Option.some Jvm.ClassFile.FieldType.boolean)) ∈ lw_all := lw_g (lw_at lw_m5 213 rfl) rfl
theorem q1256 : (Jvm.Cond.methodLink "FollowTheSunModel" (77 : Nat) ({ cls := "FollowTheSunModel", name := "isOffice", desc := "(I)Z" } : Jvm.MethodName)) ∈ lw_all := lw_g (lw_at lw_m5 214 rfl) rfl
theorem q1257 : (Jvm.Cond.privateMethod ({ cls := "FollowTheSunModel", name := "isOffice", desc := "(I)Z" } : Jvm.MethodName)) ∈ lw_tbl := lw_at lw_m5 215 rfl
theorem q1258 : (Jvm.Cond.instanceMethod ({ cls := "FollowTheSunModel", name := "isOffice", desc := "(I)Z" } : Jvm.MethodName)) ∈ lw_all := lw_g (lw_at lw_m5 216 rfl) rfl
theorem q1259 : (Jvm.Cond.code ({ cls := "FollowTheSunModel", name := "isOffice", desc := "(I)Z" } : Jvm.MethodName) prog_19_method_9_code (2 : Nat) (Option.some Jvm.ClassFile.FieldType.boolean)) ∈ lw_all := lw_g (lw_at lw_m5 217 rfl) rfl
theorem q1260 : (Jvm.Cond.methodLink "FollowTheSunModel" (81 : Nat) ({ cls := "FollowTheSunModel", name := "isHour", desc := "(I)Z" } : Jvm.MethodName)) ∈ lw_all := lw_g (lw_at lw_m5 218 rfl) rfl
theorem q1261 : (Jvm.Cond.static ({ cls := "FollowTheSunModel", name := "isHour", desc := "(I)Z" } : Jvm.MethodName)) ∈ lw_all := lw_g (lw_at lw_m5 219 rfl) rfl
theorem q1262 : (Jvm.Cond.code ({ cls := "FollowTheSunModel", name := "isHour", desc := "(I)Z" } : Jvm.MethodName) prog_19_method_10_code (1 : Nat) (Option.some Jvm.ClassFile.FieldType.boolean)) ∈ lw_all := lw_g (lw_at lw_m5 220 rfl) rfl
theorem q1263 : (Jvm.Cond.constantLong "FollowTheSunModel" (29 : Nat) (2399 : Int64)) ∈ lw_all := lw_g (lw_at lw_m5 221 rfl) rfl
theorem q1264 : (Jvm.Cond.constantLong "FollowTheSunModel" (84 : Nat) (-1 : Int64)) ∈ lw_all := lw_g (lw_at lw_m5 222 rfl) rfl
theorem q1266 : (Jvm.Cond.instanceMethod ({ cls := "FollowTheSunModel", name := "feast", desc := "(IIZ)Z" } : Jvm.MethodName)) ∈ lw_all := lw_g (lw_at lw_m5 224 rfl) rfl
theorem q1267 : (Jvm.Cond.selects "FollowTheSunModel" ({ cls := "FollowTheSunModel", name := "feast", desc := "(IIZ)Z" } : Jvm.MethodName) ({ cls := "FollowTheSunModel", name := "feast", desc := "(IIZ)Z" } : Jvm.MethodName)) ∈ lw_all := lw_g (lw_at lw_m5 225 rfl) rfl
theorem q1268 : (Jvm.Cond.code ({ cls := "FollowTheSunModel", name := "feast", desc := "(IIZ)Z" } : Jvm.MethodName) prog_19_method_15_code (4 : Nat) (Option.some Jvm.ClassFile.FieldType.boolean)) ∈ lw_all := lw_g (lw_at lw_m5 226 rfl) rfl
theorem q1269 : (Jvm.Cond.methodLink "FollowTheSunModel" (86 : Nat) ({ cls := "FollowTheSunModel", name := "isDay", desc := "(I)Z" } : Jvm.MethodName)) ∈ lw_all := lw_g (lw_at lw_m5 227 rfl) rfl
theorem q1270 : (Jvm.Cond.static ({ cls := "FollowTheSunModel", name := "isDay", desc := "(I)Z" } : Jvm.MethodName)) ∈ lw_all := lw_g (lw_at lw_m5 228 rfl) rfl
theorem q1271 : (Jvm.Cond.code ({ cls := "FollowTheSunModel", name := "isDay", desc := "(I)Z" } : Jvm.MethodName) prog_19_method_14_code (1 : Nat) (Option.some Jvm.ClassFile.FieldType.boolean)) ∈ lw_all := lw_g (lw_at lw_m5 229 rfl) rfl
theorem q1273 : (Jvm.Cond.instanceMethod ({ cls := "FollowTheSunModel", name := "know", desc := "(III)I" } : Jvm.MethodName)) ∈ lw_all := lw_g (lw_at lw_m5 231 rfl) rfl
theorem q1274 : (Jvm.Cond.selects "FollowTheSunModel" ({ cls := "FollowTheSunModel", name := "know", desc := "(III)I" } : Jvm.MethodName) ({ cls := "FollowTheSunModel", name := "know", desc := "(III)I" } : Jvm.MethodName)) ∈ lw_all := lw_g (lw_at lw_m5 232 rfl) rfl
theorem q1275 : (Jvm.Cond.code ({ cls := "FollowTheSunModel", name := "know", desc := "(III)I" } : Jvm.MethodName) prog_19_method_17_code (5 : Nat) (Option.some Jvm.ClassFile.FieldType.int)) ∈ lw_all := lw_g (lw_at lw_m5 233 rfl) rfl
theorem q1276 : (Jvm.Cond.methodLink "FollowTheSunModel" (89 : Nat) ({ cls := "FollowTheSunModel", name := "knows", desc := "(III)V" } : Jvm.MethodName)) ∈ lw_all := lw_g (lw_at lw_m5 234 rfl) rfl
theorem q1277 : (Jvm.Cond.privateMethod ({ cls := "FollowTheSunModel", name := "knows", desc := "(III)V" } : Jvm.MethodName)) ∈ lw_tbl := lw_at lw_m5 235 rfl
theorem q1278 : (Jvm.Cond.instanceMethod ({ cls := "FollowTheSunModel", name := "knows", desc := "(III)V" } : Jvm.MethodName)) ∈ lw_all := lw_g (lw_at lw_m5 236 rfl) rfl
theorem q1279 : (Jvm.Cond.code ({ cls := "FollowTheSunModel", name := "knows", desc := "(III)V" } : Jvm.MethodName) prog_19_method_16_code (4 : Nat) (Option.none : Option Jvm.ClassFile.FieldType)) ∈ lw_all := lw_g (lw_at lw_m5 237 rfl) rfl
theorem q1281 : (Jvm.Cond.instanceMethod ({ cls := "FollowTheSunModel", name := "sheet", desc := "(IIIII)I" } : Jvm.MethodName)) ∈ lw_all := lw_g (lw_at lw_m5 239 rfl) rfl
theorem q1282 : (Jvm.Cond.selects "FollowTheSunModel" ({ cls := "FollowTheSunModel", name := "sheet", desc := "(IIIII)I" } : Jvm.MethodName) ({ cls := "FollowTheSunModel", name := "sheet", desc := "(IIIII)I" } : Jvm.MethodName)) ∈ lw_all := lw_g (lw_at lw_m6 0 rfl) rfl
theorem q1283 : (Jvm.Cond.code ({ cls := "FollowTheSunModel", name := "sheet", desc := "(IIIII)I" } : Jvm.MethodName) prog_19_method_18_code (10 : Nat) (Option.some Jvm.ClassFile.FieldType.int)) ∈ lw_all := lw_g (lw_at lw_m6 1 rfl) rfl
theorem q1284 : (Jvm.Cond.constantLong "FollowTheSunModel" (93 : Nat) (3 : Int64)) ∈ lw_all := lw_g (lw_at lw_m6 2 rfl) rfl
theorem q1285 : (Jvm.Cond.methodLink "FollowTheSunModel" (95 : Nat) ({ cls := "java/lang/Math", name := "min", desc := "(II)I" } : Jvm.MethodName)) ∈ lw_all := lw_g (lw_at lw_m6 3 rfl) rfl
theorem q1286 : (Jvm.Cond.methodLink "FollowTheSunModel" (101 : Nat) ({ cls := "java/lang/Math", name := "max", desc := "(II)I" } : Jvm.MethodName)) ∈ lw_all := lw_g (lw_at lw_m6 4 rfl) rfl
theorem q1288 : (Jvm.Cond.instanceMethod ({ cls := "FollowTheSunModel", name := "set", desc := "(II)I" } : Jvm.MethodName)) ∈ lw_all := lw_g (lw_at lw_m6 6 rfl) rfl
theorem q1289 : (Jvm.Cond.selects "FollowTheSunModel" ({ cls := "FollowTheSunModel", name := "set", desc := "(II)I" } : Jvm.MethodName) ({ cls := "FollowTheSunModel", name := "set", desc := "(II)I" } : Jvm.MethodName)) ∈ lw_all := lw_g (lw_at lw_m6 7 rfl) rfl
theorem q1290 : (Jvm.Cond.code ({ cls := "FollowTheSunModel", name := "set", desc := "(II)I" } : Jvm.MethodName) prog_19_method_19_code (4 : Nat) (Option.some Jvm.ClassFile.FieldType.int)) ∈ lw_all := lw_g (lw_at lw_m6 8 rfl) rfl
theorem q1291 : (Jvm.Cond.constantLong "FollowTheSunModel" (104 : Nat) (20 : Int64)) ∈ lw_all := lw_g (lw_at lw_m6 9 rfl) rfl
theorem q1292 : (Jvm.Cond.constantLong "FollowTheSunModel" (106 : Nat) (100 : Int64)) ∈ lw_all := lw_g (lw_at lw_m6 10 rfl) rfl
theorem q1294 : (Jvm.Cond.instanceMethod ({ cls := "FollowTheSunModel", name := "open", desc := "(II)I" } : Jvm.MethodName)) ∈ lw_all := lw_g (lw_at lw_m6 12 rfl) rfl
theorem q1295 : (Jvm.Cond.selects "FollowTheSunModel" ({ cls := "FollowTheSunModel", name := "open", desc := "(II)I" } : Jvm.MethodName) ({ cls := "FollowTheSunModel", name := "open", desc := "(II)I" } : Jvm.MethodName)) ∈ lw_all := lw_g (lw_at lw_m6 13 rfl) rfl
theorem q1296 : (Jvm.Cond.code ({ cls := "FollowTheSunModel", name := "open", desc := "(II)I" } : Jvm.MethodName) prog_19_method_23_code (3 : Nat) (Option.some Jvm.ClassFile.FieldType.int)) ∈ lw_all := lw_g (lw_at lw_m6 14 rfl) rfl
theorem q1297 : (Jvm.Cond.methodLink "FollowTheSunModel" (120 : Nat) ({ cls := "FollowTheSunModel", name := "isOpen", desc := "(II)Z" } : Jvm.MethodName)) ∈ lw_all := lw_g (lw_at lw_m6 15 rfl) rfl
theorem q1298 : (Jvm.Cond.privateMethod ({ cls := "FollowTheSunModel", name := "isOpen", desc := "(II)Z" } : Jvm.MethodName)) ∈ lw_tbl := lw_at lw_m6 16 rfl
theorem q1299 : (Jvm.Cond.instanceMethod ({ cls := "FollowTheSunModel", name := "isOpen", desc := "(II)Z" } : Jvm.MethodName)) ∈ lw_all := lw_g (lw_at lw_m6 17 rfl) rfl
theorem q1300 : (Jvm.Cond.code ({ cls := "FollowTheSunModel", name := "isOpen", desc := "(II)Z" } : Jvm.MethodName) prog_19_method_20_code (6 : Nat) (Option.some Jvm.ClassFile.FieldType.boolean)) ∈ lw_all := lw_g (lw_at lw_m6 18 rfl) rfl
theorem q1301 : (Jvm.Cond.methodLink "FollowTheSunModel" (114 : Nat) ({ cls := "java/lang/Math", name := "floorMod", desc := "(II)I" } : Jvm.MethodName)) ∈ lw_all := lw_g (lw_at lw_m6 19 rfl) rfl
theorem q1302 : (Jvm.Cond.methodLink "FollowTheSunModel" (117 : Nat) ({ cls := "java/lang/Math", name := "floorDiv", desc := "(II)I" } : Jvm.MethodName)) ∈ lw_all := lw_g (lw_at lw_m6 20 rfl) rfl
theorem q1303 : (Jvm.Cond.methodLink "FollowTheSunModel" (124 : Nat) ({ cls := "FollowTheSunModel", name := "flag", desc := "(Z)I" } : Jvm.MethodName)) ∈ lw_all := lw_g (lw_at lw_m6 21 rfl) rfl
theorem q1304 : (Jvm.Cond.static ({ cls := "FollowTheSunModel", name := "flag", desc := "(Z)I" } : Jvm.MethodName)) ∈ lw_all := lw_g (lw_at lw_m6 22 rfl) rfl
theorem q1305 : (Jvm.Cond.code ({ cls := "FollowTheSunModel", name := "flag", desc := "(Z)I" } : Jvm.MethodName) prog_19_method_4_code (1 : Nat) (Option.some Jvm.ClassFile.FieldType.int)) ∈ lw_all := lw_g (lw_at lw_m6 23 rfl) rfl
theorem q1307 : (Jvm.Cond.instanceMethod ({ cls := "FollowTheSunModel", name := "overlap", desc := "(III)I" } : Jvm.MethodName)) ∈ lw_all := lw_g (lw_at lw_m6 25 rfl) rfl
theorem q1308 : (Jvm.Cond.selects "FollowTheSunModel" ({ cls := "FollowTheSunModel", name := "overlap", desc := "(III)I" } : Jvm.MethodName) ({ cls := "FollowTheSunModel", name := "overlap", desc := "(III)I" } : Jvm.MethodName)) ∈ lw_all := lw_g (lw_at lw_m6 26 rfl) rfl
theorem q1309 : (Jvm.Cond.code ({ cls := "FollowTheSunModel", name := "overlap", desc := "(III)I" } : Jvm.MethodName) prog_19_method_24_code (4 : Nat) (Option.some Jvm.ClassFile.FieldType.int)) ∈ lw_all := lw_g (lw_at lw_m6 27 rfl) rfl
theorem q1310 : (Jvm.Cond.methodLink "FollowTheSunModel" (128 : Nat) ({ cls := "FollowTheSunModel", name := "overlapOf", desc := "(III)I" } : Jvm.MethodName)) ∈ lw_all := lw_g (lw_at lw_m6 28 rfl) rfl
theorem q1311 : (Jvm.Cond.privateMethod ({ cls := "FollowTheSunModel", name := "overlapOf", desc := "(III)I" } : Jvm.MethodName)) ∈ lw_tbl := lw_at lw_m6 29 rfl
theorem q1312 : (Jvm.Cond.instanceMethod ({ cls := "FollowTheSunModel", name := "overlapOf", desc := "(III)I" } : Jvm.MethodName)) ∈ lw_all := lw_g (lw_at lw_m6 30 rfl) rfl
theorem q1313 : (Jvm.Cond.code ({ cls := "FollowTheSunModel", name := "overlapOf", desc := "(III)I" } : Jvm.MethodName) prog_19_method_21_code (6 : Nat) (Option.some Jvm.ClassFile.FieldType.int)) ∈ lw_all := lw_g (lw_at lw_m6 31 rfl) rfl
theorem q1315 : (Jvm.Cond.instanceMethod ({ cls := "FollowTheSunModel", name := "loses", desc := "(III)I" } : Jvm.MethodName)) ∈ lw_all := lw_g (lw_at lw_m6 33 rfl) rfl
theorem q1316 : (Jvm.Cond.selects "FollowTheSunModel" ({ cls := "FollowTheSunModel", name := "loses", desc := "(III)I" } : Jvm.MethodName) ({ cls := "FollowTheSunModel", name := "loses", desc := "(III)I" } : Jvm.MethodName)) ∈ lw_all := lw_g (lw_at lw_m6 34 rfl) rfl
theorem q1317 : (Jvm.Cond.code ({ cls := "FollowTheSunModel", name := "loses", desc := "(III)I" } : Jvm.MethodName) prog_19_method_25_code (4 : Nat) (Option.some Jvm.ClassFile.FieldType.int)) ∈ lw_all := lw_g (lw_at lw_m6 35 rfl) rfl
theorem q1318 : (Jvm.Cond.methodLink "FollowTheSunModel" (132 : Nat) ({ cls := "FollowTheSunModel", name := "lostOf", desc := "(III)I" } : Jvm.MethodName)) ∈ lw_all := lw_g (lw_at lw_m6 36 rfl) rfl
theorem q1319 : (Jvm.Cond.privateMethod ({ cls := "FollowTheSunModel", name := "lostOf", desc := "(III)I" } : Jvm.MethodName)) ∈ lw_tbl := lw_at lw_m6 37 rfl
theorem q1320 : (Jvm.Cond.instanceMethod ({ cls := "FollowTheSunModel", name := "lostOf", desc := "(III)I" } : Jvm.MethodName)) ∈ lw_all := lw_g (lw_at lw_m6 38 rfl) rfl
theorem q1321 : (Jvm.Cond.code ({ cls := "FollowTheSunModel", name := "lostOf", desc := "(III)I" } : Jvm.MethodName) prog_19_method_22_code (4 : Nat) (Option.some Jvm.ClassFile.FieldType.int)) ∈ lw_all := lw_g (lw_at lw_m6 39 rfl) rfl
theorem q1323 : (Jvm.Cond.instanceMethod ({ cls := "FollowTheSunModel", name := "dark", desc := "(II)I" } : Jvm.MethodName)) ∈ lw_all := lw_g (lw_at lw_m6 41 rfl) rfl
theorem q1324 : (Jvm.Cond.selects "FollowTheSunModel" ({ cls := "FollowTheSunModel", name := "dark", desc := "(II)I" } : Jvm.MethodName) ({ cls := "FollowTheSunModel", name := "dark", desc := "(II)I" } : Jvm.MethodName)) ∈ lw_all := lw_g (lw_at lw_m6 42 rfl) rfl
theorem q1325 : (Jvm.Cond.code ({ cls := "FollowTheSunModel", name := "dark", desc := "(II)I" } : Jvm.MethodName) prog_19_method_26_code (10 : Nat) (Option.some Jvm.ClassFile.FieldType.int)) ∈ lw_all := lw_g (lw_at lw_m6 43 rfl) rfl
theorem q1326 : (Jvm.Cond.constantLong "FollowTheSunModel" (135 : Nat) (5 : Int64)) ∈ lw_all := lw_g (lw_at lw_m6 44 rfl) rfl
theorem q1327 : (Jvm.Cond.methodLink "FollowTheSunModel" (137 : Nat) ({ cls := "FollowTheSunModel", name := "has", desc := "(II)Z" } : Jvm.MethodName)) ∈ lw_all := lw_g (lw_at lw_m6 45 rfl) rfl
theorem q1328 : (Jvm.Cond.static ({ cls := "FollowTheSunModel", name := "has", desc := "(II)Z" } : Jvm.MethodName)) ∈ lw_all := lw_g (lw_at lw_m6 46 rfl) rfl
theorem q1329 : (Jvm.Cond.code ({ cls := "FollowTheSunModel", name := "has", desc := "(II)Z" } : Jvm.MethodName) prog_19_method_3_code (2 : Nat) (Option.some Jvm.ClassFile.FieldType.boolean)) ∈ lw_all := lw_g (lw_at lw_m6 47 rfl) rfl
theorem q1330 : (Jvm.Cond.methodLink "FollowTheSunModel" (18 : Nat) ({ cls := "FollowTheSunModel", name := "enters", desc := "(J)V" } : Jvm.MethodName)) ∈ lw_all := lw_g (lw_at lw_m6 48 rfl) rfl
theorem q1331 : (Jvm.Cond.privateMethod ({ cls := "FollowTheSunModel", name := "enters", desc := "(J)V" } : Jvm.MethodName)) ∈ lw_tbl := lw_at lw_m6 49 rfl
theorem q1332 : (Jvm.Cond.instanceMethod ({ cls := "FollowTheSunModel", name := "enters", desc := "(J)V" } : Jvm.MethodName)) ∈ lw_all := lw_g (lw_at lw_m6 50 rfl) rfl
theorem q1333 : (Jvm.Cond.code ({ cls := "FollowTheSunModel", name := "enters", desc := "(J)V" } : Jvm.MethodName) prog_19_method_6_code (3 : Nat) (Option.none : Option Jvm.ClassFile.FieldType)) ∈ lw_all := lw_g (lw_at lw_m6 51 rfl) rfl
theorem q1335 : (Jvm.Cond.instanceMethod ({ cls := "FollowTheSunModel", name := "piece", desc := "(IIIII)I" } : Jvm.MethodName)) ∈ lw_all := lw_g (lw_at lw_m6 53 rfl) rfl
theorem q1336 : (Jvm.Cond.selects "FollowTheSunModel" ({ cls := "FollowTheSunModel", name := "piece", desc := "(IIIII)I" } : Jvm.MethodName) ({ cls := "FollowTheSunModel", name := "piece", desc := "(IIIII)I" } : Jvm.MethodName)) ∈ lw_all := lw_g (lw_at lw_m6 54 rfl) rfl
theorem q1337 : (Jvm.Cond.code ({ cls := "FollowTheSunModel", name := "piece", desc := "(IIIII)I" } : Jvm.MethodName) prog_19_method_30_code (7 : Nat) (Option.some Jvm.ClassFile.FieldType.int)) ∈ lw_all := lw_g (lw_at lw_m6 55 rfl) rfl
theorem q1338 : (Jvm.Cond.constantLong "FollowTheSunModel" (149 : Nat) (60 : Int64)) ∈ lw_all := lw_g (lw_at lw_m6 56 rfl) rfl
theorem q1339 : (Jvm.Cond.methodLink "FollowTheSunModel" (166 : Nat) ({ cls := "FollowTheSunModel", name := "lays", desc := "(I)V" } : Jvm.MethodName)) ∈ lw_all := lw_g (lw_at lw_m6 57 rfl) rfl
theorem q1340 : (Jvm.Cond.privateMethod ({ cls := "FollowTheSunModel", name := "lays", desc := "(I)V" } : Jvm.MethodName)) ∈ lw_tbl := lw_at lw_m6 58 rfl
theorem q1341 : (Jvm.Cond.instanceMethod ({ cls := "FollowTheSunModel", name := "lays", desc := "(I)V" } : Jvm.MethodName)) ∈ lw_all := lw_g (lw_at lw_m6 59 rfl) rfl
theorem q1342 : (Jvm.Cond.code ({ cls := "FollowTheSunModel", name := "lays", desc := "(I)V" } : Jvm.MethodName) prog_19_method_29_code (2 : Nat) (Option.none : Option Jvm.ClassFile.FieldType)) ∈ lw_all := lw_g (lw_at lw_m6 60 rfl) rfl
theorem q1344 : (Jvm.Cond.instanceMethod ({ cls := "FollowTheSunModel", name := "sign", desc := "(I)I" } : Jvm.MethodName)) ∈ lw_all := lw_g (lw_at lw_m6 62 rfl) rfl
theorem q1345 : (Jvm.Cond.selects "FollowTheSunModel" ({ cls := "FollowTheSunModel", name := "sign", desc := "(I)I" } : Jvm.MethodName) ({ cls := "FollowTheSunModel", name := "sign", desc := "(I)I" } : Jvm.MethodName)) ∈ lw_all := lw_g (lw_at lw_m6 63 rfl) rfl
theorem q1346 : (Jvm.Cond.code ({ cls := "FollowTheSunModel", name := "sign", desc := "(I)I" } : Jvm.MethodName) prog_19_method_31_code (3 : Nat) (Option.some Jvm.ClassFile.FieldType.int)) ∈ lw_all := lw_g (lw_at lw_m6 64 rfl) rfl
theorem q1348 : (Jvm.Cond.instanceMethod ({ cls := "FollowTheSunModel", name := "end", desc := "(I)Z" } : Jvm.MethodName)) ∈ lw_all := lw_g (lw_at lw_m6 66 rfl) rfl
theorem q1349 : (Jvm.Cond.selects "FollowTheSunModel" ({ cls := "FollowTheSunModel", name := "end", desc := "(I)Z" } : Jvm.MethodName) ({ cls := "FollowTheSunModel", name := "end", desc := "(I)Z" } : Jvm.MethodName)) ∈ lw_all := lw_g (lw_at lw_m6 67 rfl) rfl
theorem q1350 : (Jvm.Cond.code ({ cls := "FollowTheSunModel", name := "end", desc := "(I)Z" } : Jvm.MethodName) prog_19_method_32_code (2 : Nat) (Option.some Jvm.ClassFile.FieldType.boolean)) ∈ lw_all := lw_g (lw_at lw_m6 68 rfl) rfl
theorem q1352 : (Jvm.Cond.instanceMethod ({ cls := "FollowTheSunModel", name := "rule", desc := "()I" } : Jvm.MethodName)) ∈ lw_all := lw_g (lw_at lw_m6 70 rfl) rfl
theorem q1353 : (Jvm.Cond.selects "FollowTheSunModel" ({ cls := "FollowTheSunModel", name := "rule", desc := "()I" } : Jvm.MethodName) ({ cls := "FollowTheSunModel", name := "rule", desc := "()I" } : Jvm.MethodName)) ∈ lw_all := lw_g (lw_at lw_m6 71 rfl) rfl
theorem q1354 : (Jvm.Cond.code ({ cls := "FollowTheSunModel", name := "rule", desc := "()I" } : Jvm.MethodName) prog_19_method_39_code (5 : Nat) (Option.some Jvm.ClassFile.FieldType.int)) ∈ lw_all := lw_g (lw_at lw_m6 72 rfl) rfl
theorem q1355 : (Jvm.Cond.methodLink "FollowTheSunModel" (220 : Nat) ({ cls := "FollowTheSunModel", name := "ranked", desc := "(I)Z" } : Jvm.MethodName)) ∈ lw_all := lw_g (lw_at lw_m6 73 rfl) rfl
theorem q1356 : (Jvm.Cond.privateMethod ({ cls := "FollowTheSunModel", name := "ranked", desc := "(I)Z" } : Jvm.MethodName)) ∈ lw_tbl := lw_at lw_m6 74 rfl
theorem q1357 : (Jvm.Cond.instanceMethod ({ cls := "FollowTheSunModel", name := "ranked", desc := "(I)Z" } : Jvm.MethodName)) ∈ lw_all := lw_g (lw_at lw_m6 75 rfl) rfl
theorem q1358 : (Jvm.Cond.code ({ cls := "FollowTheSunModel", name := "ranked", desc := "(I)Z" } : Jvm.MethodName) prog_19_method_38_code (6 : Nat) (Option.some Jvm.ClassFile.FieldType.boolean)) ∈ lw_all := lw_g (lw_at lw_m6 76 rfl) rfl
theorem q1359 : (Jvm.Cond.methodLink "FollowTheSunModel" (230 : Nat) ({ cls := "FollowTheSunModel", name := "ahead", desc := "()Z" } : Jvm.MethodName)) ∈ lw_all := lw_g (lw_at lw_m6 77 rfl) rfl
theorem q1360 : (Jvm.Cond.privateMethod ({ cls := "FollowTheSunModel", name := "ahead", desc := "()Z" } : Jvm.MethodName)) ∈ lw_tbl := lw_at lw_m6 78 rfl
theorem q1361 : (Jvm.Cond.instanceMethod ({ cls := "FollowTheSunModel", name := "ahead", desc := "()Z" } : Jvm.MethodName)) ∈ lw_all := lw_g (lw_at lw_m6 79 rfl) rfl
theorem q1362 : (Jvm.Cond.code ({ cls := "FollowTheSunModel", name := "ahead", desc := "()Z" } : Jvm.MethodName) prog_19_method_37_code (3 : Nat) (Option.some Jvm.ClassFile.FieldType.boolean)) ∈ lw_all := lw_g (lw_at lw_m6 80 rfl) rfl
theorem q1363 : (Jvm.Cond.stringRef "FollowTheSunModel" (225 : Nat) "!-") ∈ lw_tbl := lw_at lw_m6 81 rfl
theorem q1364 : (Jvm.Cond.methodLink "FollowTheSunModel" (211 : Nat) ({ cls := "FollowTheSunModel", name := "among", desc := "(Ljava/lang/String;)I" } : Jvm.MethodName)) ∈ lw_all := lw_g (lw_at lw_m6 82 rfl) rfl
theorem q1365 : (Jvm.Cond.privateMethod ({ cls := "FollowTheSunModel", name := "among", desc := "(Ljava/lang/String;)I" } : Jvm.MethodName)) ∈ lw_tbl := lw_at lw_m6 83 rfl
theorem q1366 : (Jvm.Cond.instanceMethod ({ cls := "FollowTheSunModel", name := "among", desc := "(Ljava/lang/String;)I" } : Jvm.MethodName)) ∈ lw_all := lw_g (lw_at lw_m6 84 rfl) rfl
theorem q1367 : (Jvm.Cond.code ({ cls := "FollowTheSunModel", name := "among", desc := "(Ljava/lang/String;)I" } : Jvm.MethodName) prog_19_method_34_code (3 : Nat) (Option.some Jvm.ClassFile.FieldType.int)) ∈ lw_all := lw_g (lw_at lw_m6 85 rfl) rfl
theorem q1368 : (Jvm.Cond.methodLink "FollowTheSunModel" (186 : Nat) ({ cls := "java/lang/String", name := "length", desc := "()I" } : Jvm.MethodName)) ∈ lw_all := lw_g (lw_at lw_m6 86 rfl) rfl
theorem q1378 : (Jvm.Cond.methodLink "FollowTheSunModel" (192 : Nat) ({ cls := "java/lang/String", name := "charAt", desc := "(I)C" } : Jvm.MethodName)) ∈ lw_all := lw_g (lw_at lw_m6 96 rfl) rfl
theorem q1416 : (Jvm.Cond.methodLink "FollowTheSunModel" (227 : Nat) ({ cls := "FollowTheSunModel", name := "thing", desc := "()Z" } : Jvm.MethodName)) ∈ lw_all := lw_g (lw_at lw_m6 134 rfl) rfl
theorem q1417 : (Jvm.Cond.privateMethod ({ cls := "FollowTheSunModel", name := "thing", desc := "()Z" } : Jvm.MethodName)) ∈ lw_tbl := lw_at lw_m6 135 rfl
theorem q1418 : (Jvm.Cond.instanceMethod ({ cls := "FollowTheSunModel", name := "thing", desc := "()Z" } : Jvm.MethodName)) ∈ lw_all := lw_g (lw_at lw_m6 136 rfl) rfl
theorem q1419 : (Jvm.Cond.code ({ cls := "FollowTheSunModel", name := "thing", desc := "()Z" } : Jvm.MethodName) prog_19_method_36_code (3 : Nat) (Option.some Jvm.ClassFile.FieldType.boolean)) ∈ lw_all := lw_g (lw_at lw_m6 137 rfl) rfl
theorem q1420 : (Jvm.Cond.methodLink "FollowTheSunModel" (202 : Nat) ({ cls := "FollowTheSunModel", name := "isDigit", desc := "()Z" } : Jvm.MethodName)) ∈ lw_all := lw_g (lw_at lw_m6 138 rfl) rfl
theorem q1421 : (Jvm.Cond.privateMethod ({ cls := "FollowTheSunModel", name := "isDigit", desc := "()Z" } : Jvm.MethodName)) ∈ lw_tbl := lw_at lw_m6 139 rfl
theorem q1422 : (Jvm.Cond.instanceMethod ({ cls := "FollowTheSunModel", name := "isDigit", desc := "()Z" } : Jvm.MethodName)) ∈ lw_all := lw_g (lw_at lw_m6 140 rfl) rfl
theorem q1423 : (Jvm.Cond.code ({ cls := "FollowTheSunModel", name := "isDigit", desc := "()Z" } : Jvm.MethodName) prog_19_method_33_code (1 : Nat) (Option.some Jvm.ClassFile.FieldType.boolean)) ∈ lw_all := lw_g (lw_at lw_m6 141 rfl) rfl
theorem q1424 : (Jvm.Cond.constantLong "FollowTheSunModel" (182 : Nat) (48 : Int64)) ∈ lw_all := lw_g (lw_at lw_m6 142 rfl) rfl
theorem q1425 : (Jvm.Cond.constantLong "FollowTheSunModel" (184 : Nat) (57 : Int64)) ∈ lw_all := lw_g (lw_at lw_m6 143 rfl) rfl
theorem q1426 : (Jvm.Cond.methodLink "FollowTheSunModel" (206 : Nat) ({ cls := "FollowTheSunModel", name := "marks", desc := "(I)V" } : Jvm.MethodName)) ∈ lw_all := lw_g (lw_at lw_m6 144 rfl) rfl
theorem q1427 : (Jvm.Cond.privateMethod ({ cls := "FollowTheSunModel", name := "marks", desc := "(I)V" } : Jvm.MethodName)) ∈ lw_tbl := lw_at lw_m6 145 rfl
theorem q1428 : (Jvm.Cond.instanceMethod ({ cls := "FollowTheSunModel", name := "marks", desc := "(I)V" } : Jvm.MethodName)) ∈ lw_all := lw_g (lw_at lw_m6 146 rfl) rfl
theorem q1429 : (Jvm.Cond.code ({ cls := "FollowTheSunModel", name := "marks", desc := "(I)V" } : Jvm.MethodName) prog_19_method_35_code (2 : Nat) (Option.none : Option Jvm.ClassFile.FieldType)) ∈ lw_all := lw_g (lw_at lw_m6 147 rfl) rfl
theorem q1430 : (Jvm.Cond.stringRef "FollowTheSunModel" (209 : Nat) "klowrcsbqpfn") ∈ lw_tbl := lw_at lw_m6 148 rfl
theorem q1431 : (Jvm.Cond.stringRef "FollowTheSunModel" (215 : Nat) "(") ∈ lw_tbl := lw_at lw_m6 149 rfl
theorem q1432 : (Jvm.Cond.stringRef "FollowTheSunModel" (223 : Nat) ")") ∈ lw_tbl := lw_at lw_m6 150 rfl
theorem q1433 : (Jvm.Cond.stringRef "FollowTheSunModel" (233 : Nat) "|") ∈ lw_tbl := lw_at lw_m6 151 rfl
theorem q1434 : (Jvm.Cond.stringRef "FollowTheSunModel" (235 : Nat) "&") ∈ lw_tbl := lw_at lw_m6 152 rfl
theorem q1435 : (Jvm.Cond.stringRef "FollowTheSunModel" (237 : Nat) "<>=") ∈ lw_tbl := lw_at lw_m6 153 rfl
theorem q1436 : (Jvm.Cond.stringRef "FollowTheSunModel" (239 : Nat) "+-") ∈ lw_tbl := lw_at lw_m6 154 rfl
theorem q1437 : (Jvm.Cond.stringRef "FollowTheSunModel" (241 : Nat) "*") ∈ lw_tbl := lw_at lw_m6 155 rfl
theorem q1439 : (Jvm.Cond.instanceMethod ({ cls := "FollowTheSunModel", name := "value", desc := "(II)I" } : Jvm.MethodName)) ∈ lw_all := lw_g (lw_at lw_m6 157 rfl) rfl
theorem q1440 : (Jvm.Cond.selects "FollowTheSunModel" ({ cls := "FollowTheSunModel", name := "value", desc := "(II)I" } : Jvm.MethodName) ({ cls := "FollowTheSunModel", name := "value", desc := "(II)I" } : Jvm.MethodName)) ∈ lw_all := lw_g (lw_at lw_m6 158 rfl) rfl
theorem q1441 : (Jvm.Cond.code ({ cls := "FollowTheSunModel", name := "value", desc := "(II)I" } : Jvm.MethodName) prog_19_method_45_code (3 : Nat) (Option.some Jvm.ClassFile.FieldType.int)) ∈ lw_all := lw_g (lw_at lw_m6 159 rfl) rfl
theorem q1442 : (Jvm.Cond.methodLink "FollowTheSunModel" (256 : Nat) ({ cls := "FollowTheSunModel", name := "isPiece", desc := "(I)Z" } : Jvm.MethodName)) ∈ lw_all := lw_g (lw_at lw_m6 160 rfl) rfl
theorem q1443 : (Jvm.Cond.privateMethod ({ cls := "FollowTheSunModel", name := "isPiece", desc := "(I)Z" } : Jvm.MethodName)) ∈ lw_tbl := lw_at lw_m6 161 rfl
theorem q1444 : (Jvm.Cond.instanceMethod ({ cls := "FollowTheSunModel", name := "isPiece", desc := "(I)Z" } : Jvm.MethodName)) ∈ lw_all := lw_g (lw_at lw_m6 162 rfl) rfl
theorem q1445 : (Jvm.Cond.code ({ cls := "FollowTheSunModel", name := "isPiece", desc := "(I)Z" } : Jvm.MethodName) prog_19_method_44_code (2 : Nat) (Option.some Jvm.ClassFile.FieldType.boolean)) ∈ lw_all := lw_g (lw_at lw_m6 163 rfl) rfl
theorem q1446 : (Jvm.Cond.methodLink "FollowTheSunModel" (259 : Nat) ({ cls := "FollowTheSunModel", name := "refuse", desc := "()I" } : Jvm.MethodName)) ∈ lw_all := lw_g (lw_at lw_m6 164 rfl) rfl
theorem q1447 : (Jvm.Cond.privateMethod ({ cls := "FollowTheSunModel", name := "refuse", desc := "()I" } : Jvm.MethodName)) ∈ lw_tbl := lw_at lw_m6 165 rfl
theorem q1448 : (Jvm.Cond.instanceMethod ({ cls := "FollowTheSunModel", name := "refuse", desc := "()I" } : Jvm.MethodName)) ∈ lw_all := lw_g (lw_at lw_m6 166 rfl) rfl
theorem q1449 : (Jvm.Cond.code ({ cls := "FollowTheSunModel", name := "refuse", desc := "()I" } : Jvm.MethodName) prog_19_method_5_code (1 : Nat) (Option.some Jvm.ClassFile.FieldType.int)) ∈ lw_all := lw_g (lw_at lw_m6 167 rfl) rfl
theorem q1450 : (Jvm.Cond.methodLink "FollowTheSunModel" (262 : Nat) ({ cls := "FollowTheSunModel", name := "worked", desc := "(III)I" } : Jvm.MethodName)) ∈ lw_all := lw_g (lw_at lw_m6 168 rfl) rfl
theorem q1451 : (Jvm.Cond.privateMethod ({ cls := "FollowTheSunModel", name := "worked", desc := "(III)I" } : Jvm.MethodName)) ∈ lw_tbl := lw_at lw_m6 169 rfl
theorem q1452 : (Jvm.Cond.instanceMethod ({ cls := "FollowTheSunModel", name := "worked", desc := "(III)I" } : Jvm.MethodName)) ∈ lw_all := lw_g (lw_at lw_m6 170 rfl) rfl
theorem q1453 : (Jvm.Cond.code ({ cls := "FollowTheSunModel", name := "worked", desc := "(III)I" } : Jvm.MethodName) prog_19_method_43_code (7 : Nat) (Option.some Jvm.ClassFile.FieldType.int)) ∈ lw_all := lw_g (lw_at lw_m6 171 rfl) rfl
theorem q1454 : (Jvm.Cond.methodLink "FollowTheSunModel" (249 : Nat) ({ cls := "FollowTheSunModel", name := "valueOf", desc := "(IIII)I" } : Jvm.MethodName)) ∈ lw_all := lw_g (lw_at lw_m6 172 rfl) rfl
theorem q1455 : (Jvm.Cond.privateMethod ({ cls := "FollowTheSunModel", name := "valueOf", desc := "(IIII)I" } : Jvm.MethodName)) ∈ lw_tbl := lw_at lw_m6 173 rfl
theorem q1456 : (Jvm.Cond.instanceMethod ({ cls := "FollowTheSunModel", name := "valueOf", desc := "(IIII)I" } : Jvm.MethodName)) ∈ lw_all := lw_g (lw_at lw_m6 174 rfl) rfl
theorem q1457 : (Jvm.Cond.code ({ cls := "FollowTheSunModel", name := "valueOf", desc := "(IIII)I" } : Jvm.MethodName) prog_19_method_41_code (6 : Nat) (Option.some Jvm.ClassFile.FieldType.int)) ∈ lw_all := lw_g (lw_at lw_m6 175 rfl) rfl
theorem q1458 : (Jvm.Cond.methodLink "FollowTheSunModel" (243 : Nat) ({ cls := "FollowTheSunModel", name := "opensIn", desc := "(II)I" } : Jvm.MethodName)) ∈ lw_all := lw_g (lw_at lw_m6 176 rfl) rfl
theorem q1459 : (Jvm.Cond.privateMethod ({ cls := "FollowTheSunModel", name := "opensIn", desc := "(II)I" } : Jvm.MethodName)) ∈ lw_tbl := lw_at lw_m6 177 rfl
theorem q1460 : (Jvm.Cond.instanceMethod ({ cls := "FollowTheSunModel", name := "opensIn", desc := "(II)I" } : Jvm.MethodName)) ∈ lw_all := lw_g (lw_at lw_m6 178 rfl) rfl
theorem q1461 : (Jvm.Cond.code ({ cls := "FollowTheSunModel", name := "opensIn", desc := "(II)I" } : Jvm.MethodName) prog_19_method_40_code (4 : Nat) (Option.some Jvm.ClassFile.FieldType.int)) ∈ lw_all := lw_g (lw_at lw_m6 179 rfl) rfl
theorem q1462 : (Jvm.Cond.methodLink "FollowTheSunModel" (253 : Nat) ({ cls := "FollowTheSunModel", name := "acted", desc := "(III)I" } : Jvm.MethodName)) ∈ lw_all := lw_g (lw_at lw_m6 180 rfl) rfl
theorem q1463 : (Jvm.Cond.static ({ cls := "FollowTheSunModel", name := "acted", desc := "(III)I" } : Jvm.MethodName)) ∈ lw_all := lw_g (lw_at lw_m6 181 rfl) rfl
theorem q1464 : (Jvm.Cond.code ({ cls := "FollowTheSunModel", name := "acted", desc := "(III)I" } : Jvm.MethodName) prog_19_method_42_code (3 : Nat) (Option.some Jvm.ClassFile.FieldType.int)) ∈ lw_all := lw_g (lw_at lw_m6 182 rfl) rfl
theorem q1466 : (Jvm.Cond.instanceMethod ({ cls := "FollowTheSunModel", name := "begin", desc := "(I)Z" } : Jvm.MethodName)) ∈ lw_all := lw_g (lw_at lw_m6 184 rfl) rfl
theorem q1467 : (Jvm.Cond.selects "FollowTheSunModel" ({ cls := "FollowTheSunModel", name := "begin", desc := "(I)Z" } : Jvm.MethodName) ({ cls := "FollowTheSunModel", name := "begin", desc := "(I)Z" } : Jvm.MethodName)) ∈ lw_all := lw_g (lw_at lw_m6 185 rfl) rfl
theorem q1468 : (Jvm.Cond.code ({ cls := "FollowTheSunModel", name := "begin", desc := "(I)Z" } : Jvm.MethodName) prog_19_method_54_code (2 : Nat) (Option.some Jvm.ClassFile.FieldType.boolean)) ∈ lw_all := lw_g (lw_at lw_m6 186 rfl) rfl
theorem q1469 : (Jvm.Cond.methodLink "FollowTheSunModel" (303 : Nat) ({ cls := "FollowTheSunModel", name := "begins", desc := "(I)V" } : Jvm.MethodName)) ∈ lw_all := lw_g (lw_at lw_m6 187 rfl) rfl
theorem q1470 : (Jvm.Cond.privateMethod ({ cls := "FollowTheSunModel", name := "begins", desc := "(I)V" } : Jvm.MethodName)) ∈ lw_tbl := lw_at lw_m6 188 rfl
theorem q1471 : (Jvm.Cond.instanceMethod ({ cls := "FollowTheSunModel", name := "begins", desc := "(I)V" } : Jvm.MethodName)) ∈ lw_all := lw_g (lw_at lw_m6 189 rfl) rfl
theorem q1472 : (Jvm.Cond.code ({ cls := "FollowTheSunModel", name := "begins", desc := "(I)V" } : Jvm.MethodName) prog_19_method_55_code (3 : Nat) (Option.none : Option Jvm.ClassFile.FieldType)) ∈ lw_all := lw_g (lw_at lw_m6 190 rfl) rfl
theorem q1474 : (Jvm.Cond.instanceMethod ({ cls := "FollowTheSunModel", name := "go", desc := "(I)I" } : Jvm.MethodName)) ∈ lw_all := lw_g (lw_at lw_m6 192 rfl) rfl
theorem q1475 : (Jvm.Cond.selects "FollowTheSunModel" ({ cls := "FollowTheSunModel", name := "go", desc := "(I)I" } : Jvm.MethodName) ({ cls := "FollowTheSunModel", name := "go", desc := "(I)I" } : Jvm.MethodName)) ∈ lw_all := lw_g (lw_at lw_m6 193 rfl) rfl
theorem q1476 : (Jvm.Cond.code ({ cls := "FollowTheSunModel", name := "go", desc := "(I)I" } : Jvm.MethodName) prog_19_method_56_code (3 : Nat) (Option.some Jvm.ClassFile.FieldType.int)) ∈ lw_all := lw_g (lw_at lw_m6 194 rfl) rfl
theorem q1477 : (Jvm.Cond.constantLong "FollowTheSunModel" (306 : Nat) (500 : Int64)) ∈ lw_all := lw_g (lw_at lw_m6 195 rfl) rfl
theorem q1478 : (Jvm.Cond.methodLink "FollowTheSunModel" (308 : Nat) ({ cls := "FollowTheSunModel", name := "passes", desc := "()V" } : Jvm.MethodName)) ∈ lw_all := lw_g (lw_at lw_m6 196 rfl) rfl
theorem q1479 : (Jvm.Cond.privateMethod ({ cls := "FollowTheSunModel", name := "passes", desc := "()V" } : Jvm.MethodName)) ∈ lw_tbl := lw_at lw_m6 197 rfl
theorem q1480 : (Jvm.Cond.instanceMethod ({ cls := "FollowTheSunModel", name := "passes", desc := "()V" } : Jvm.MethodName)) ∈ lw_all := lw_g (lw_at lw_m6 198 rfl) rfl
theorem q1481 : (Jvm.Cond.code ({ cls := "FollowTheSunModel", name := "passes", desc := "()V" } : Jvm.MethodName) prog_19_method_53_code (1 : Nat) (Option.none : Option Jvm.ClassFile.FieldType)) ∈ lw_all := lw_g (lw_at lw_m6 199 rfl) rfl
theorem q1482 : (Jvm.Cond.methodLink "FollowTheSunModel" (296 : Nat) ({ cls := "FollowTheSunModel", name := "works", desc := "()V" } : Jvm.MethodName)) ∈ lw_all := lw_g (lw_at lw_m6 200 rfl) rfl
theorem q1483 : (Jvm.Cond.privateMethod ({ cls := "FollowTheSunModel", name := "works", desc := "()V" } : Jvm.MethodName)) ∈ lw_tbl := lw_at lw_m6 201 rfl
theorem q1484 : (Jvm.Cond.instanceMethod ({ cls := "FollowTheSunModel", name := "works", desc := "()V" } : Jvm.MethodName)) ∈ lw_all := lw_g (lw_at lw_m6 202 rfl) rfl
theorem q1485 : (Jvm.Cond.code ({ cls := "FollowTheSunModel", name := "works", desc := "()V" } : Jvm.MethodName) prog_19_method_50_code (4 : Nat) (Option.none : Option Jvm.ClassFile.FieldType)) ∈ lw_all := lw_g (lw_at lw_m6 203 rfl) rfl
theorem q1486 : (Jvm.Cond.methodLink "FollowTheSunModel" (275 : Nat) ({ cls := "FollowTheSunModel", name := "readyBits", desc := "()I" } : Jvm.MethodName)) ∈ lw_all := lw_g (lw_at lw_m6 204 rfl) rfl
theorem q1487 : (Jvm.Cond.privateMethod ({ cls := "FollowTheSunModel", name := "readyBits", desc := "()I" } : Jvm.MethodName)) ∈ lw_tbl := lw_at lw_m6 205 rfl
theorem q1488 : (Jvm.Cond.instanceMethod ({ cls := "FollowTheSunModel", name := "readyBits", desc := "()I" } : Jvm.MethodName)) ∈ lw_all := lw_g (lw_at lw_m6 206 rfl) rfl
theorem q1489 : (Jvm.Cond.code ({ cls := "FollowTheSunModel", name := "readyBits", desc := "()I" } : Jvm.MethodName) prog_19_method_48_code (3 : Nat) (Option.some Jvm.ClassFile.FieldType.int)) ∈ lw_all := lw_g (lw_at lw_m6 207 rfl) rfl
theorem q1490 : (Jvm.Cond.methodLink "FollowTheSunModel" (268 : Nat) ({ cls := "FollowTheSunModel", name := "isReady", desc := "(I)Z" } : Jvm.MethodName)) ∈ lw_all := lw_g (lw_at lw_m6 208 rfl) rfl
theorem q1491 : (Jvm.Cond.privateMethod ({ cls := "FollowTheSunModel", name := "isReady", desc := "(I)Z" } : Jvm.MethodName)) ∈ lw_tbl := lw_at lw_m6 209 rfl
theorem q1492 : (Jvm.Cond.instanceMethod ({ cls := "FollowTheSunModel", name := "isReady", desc := "(I)Z" } : Jvm.MethodName)) ∈ lw_all := lw_g (lw_at lw_m6 210 rfl) rfl
theorem q1493 : (Jvm.Cond.code ({ cls := "FollowTheSunModel", name := "isReady", desc := "(I)Z" } : Jvm.MethodName) prog_19_method_47_code (4 : Nat) (Option.some Jvm.ClassFile.FieldType.boolean)) ∈ lw_all := lw_g (lw_at lw_m6 211 rfl) rfl
theorem q1494 : (Jvm.Cond.methodLink "FollowTheSunModel" (265 : Nat) ({ cls := "FollowTheSunModel", name := "isDone", desc := "(I)Z" } : Jvm.MethodName)) ∈ lw_all := lw_g (lw_at lw_m6 212 rfl) rfl
theorem q1495 : (Jvm.Cond.privateMethod ({ cls := "FollowTheSunModel", name := "isDone", desc := "(I)Z" } : Jvm.MethodName)) ∈ lw_tbl := lw_at lw_m6 213 rfl
theorem q1496 : (Jvm.Cond.instanceMethod ({ cls := "FollowTheSunModel", name := "isDone", desc := "(I)Z" } : Jvm.MethodName)) ∈ lw_all := lw_g (lw_at lw_m6 214 rfl) rfl
theorem q1497 : (Jvm.Cond.code ({ cls := "FollowTheSunModel", name := "isDone", desc := "(I)Z" } : Jvm.MethodName) prog_19_method_46_code (2 : Nat) (Option.some Jvm.ClassFile.FieldType.boolean)) ∈ lw_all := lw_g (lw_at lw_m6 215 rfl) rfl
theorem q1498 : (Jvm.Cond.methodLink "FollowTheSunModel" (290 : Nat) ({ cls := "FollowTheSunModel", name := "asked", desc := "(I)I" } : Jvm.MethodName)) ∈ lw_all := lw_g (lw_at lw_m6 216 rfl) rfl
theorem q1499 : (Jvm.Cond.privateMethod ({ cls := "FollowTheSunModel", name := "asked", desc := "(I)I" } : Jvm.MethodName)) ∈ lw_tbl := lw_at lw_m6 217 rfl
theorem q1500 : (Jvm.Cond.instanceMethod ({ cls := "FollowTheSunModel", name := "asked", desc := "(I)I" } : Jvm.MethodName)) ∈ lw_all := lw_g (lw_at lw_m6 218 rfl) rfl
theorem q1501 : (Jvm.Cond.code ({ cls := "FollowTheSunModel", name := "asked", desc := "(I)I" } : Jvm.MethodName) prog_19_method_49_code (2 : Nat) (Option.some Jvm.ClassFile.FieldType.int)) ∈ lw_all := lw_g (lw_at lw_m6 219 rfl) rfl
theorem q1502 : (Jvm.Cond.methodLink "FollowTheSunModel" (300 : Nat) ({ cls := "FollowTheSunModel", name := "closes", desc := "()V" } : Jvm.MethodName)) ∈ lw_all := lw_g (lw_at lw_m6 220 rfl) rfl
theorem q1503 : (Jvm.Cond.privateMethod ({ cls := "FollowTheSunModel", name := "closes", desc := "()V" } : Jvm.MethodName)) ∈ lw_tbl := lw_at lw_m6 221 rfl
theorem q1504 : (Jvm.Cond.instanceMethod ({ cls := "FollowTheSunModel", name := "closes", desc := "()V" } : Jvm.MethodName)) ∈ lw_all := lw_g (lw_at lw_m6 222 rfl) rfl
theorem q1505 : (Jvm.Cond.code ({ cls := "FollowTheSunModel", name := "closes", desc := "()V" } : Jvm.MethodName) prog_19_method_52_code (8 : Nat) (Option.none : Option Jvm.ClassFile.FieldType)) ∈ lw_all := lw_g (lw_at lw_m6 223 rfl) rfl
theorem q1506 : (Jvm.Cond.methodLink "FollowTheSunModel" (294 : Nat) ({ cls := "FollowTheSunModel", name := "hands", desc := "(III)I" } : Jvm.MethodName)) ∈ lw_all := lw_g (lw_at lw_m6 224 rfl) rfl
theorem q1507 : (Jvm.Cond.privateMethod ({ cls := "FollowTheSunModel", name := "hands", desc := "(III)I" } : Jvm.MethodName)) ∈ lw_tbl := lw_at lw_m6 225 rfl
theorem q1508 : (Jvm.Cond.instanceMethod ({ cls := "FollowTheSunModel", name := "hands", desc := "(III)I" } : Jvm.MethodName)) ∈ lw_all := lw_g (lw_at lw_m6 226 rfl) rfl
theorem q1509 : (Jvm.Cond.code ({ cls := "FollowTheSunModel", name := "hands", desc := "(III)I" } : Jvm.MethodName) prog_19_method_51_code (6 : Nat) (Option.some Jvm.ClassFile.FieldType.int)) ∈ lw_all := lw_g (lw_at lw_m6 227 rfl) rfl
theorem q1511 : (Jvm.Cond.instanceMethod ({ cls := "FollowTheSunModel", name := "of", desc := "(II)I" } : Jvm.MethodName)) ∈ lw_all := lw_g (lw_at lw_m6 229 rfl) rfl
theorem q1512 : (Jvm.Cond.selects "FollowTheSunModel" ({ cls := "FollowTheSunModel", name := "of", desc := "(II)I" } : Jvm.MethodName) ({ cls := "FollowTheSunModel", name := "of", desc := "(II)I" } : Jvm.MethodName)) ∈ lw_all := lw_g (lw_at lw_m6 230 rfl) rfl
theorem q1513 : (Jvm.Cond.code ({ cls := "FollowTheSunModel", name := "of", desc := "(II)I" } : Jvm.MethodName) prog_19_method_57_code (3 : Nat) (Option.some Jvm.ClassFile.FieldType.int)) ∈ lw_all := lw_g (lw_at lw_m6 231 rfl) rfl
theorem q1514 : (Jvm.Cond.constantLong "FollowTheSunModel" (311 : Nat) (8 : Int64)) ∈ lw_all := lw_g (lw_at lw_m6 232 rfl) rfl
theorem q1516 : (Jvm.Cond.instanceMethod ({ cls := "FollowTheSunModel", name := "hand", desc := "(II)I" } : Jvm.MethodName)) ∈ lw_all := lw_g (lw_at lw_m6 234 rfl) rfl
theorem q1517 : (Jvm.Cond.selects "FollowTheSunModel" ({ cls := "FollowTheSunModel", name := "hand", desc := "(II)I" } : Jvm.MethodName) ({ cls := "FollowTheSunModel", name := "hand", desc := "(II)I" } : Jvm.MethodName)) ∈ lw_all := lw_g (lw_at lw_m6 235 rfl) rfl
theorem q1518 : (Jvm.Cond.code ({ cls := "FollowTheSunModel", name := "hand", desc := "(II)I" } : Jvm.MethodName) prog_19_method_58_code (3 : Nat) (Option.some Jvm.ClassFile.FieldType.int)) ∈ lw_all := lw_g (lw_at lw_m6 236 rfl) rfl
theorem q1520 : (Jvm.Cond.instanceMethod ({ cls := "FollowTheSunModel", name := "ends", desc := "()I" } : Jvm.MethodName)) ∈ lw_all := lw_g (lw_at lw_m6 238 rfl) rfl
theorem q1521 : (Jvm.Cond.selects "FollowTheSunModel" ({ cls := "FollowTheSunModel", name := "ends", desc := "()I" } : Jvm.MethodName) ({ cls := "FollowTheSunModel", name := "ends", desc := "()I" } : Jvm.MethodName)) ∈ lw_all := lw_g (lw_at lw_m6 239 rfl) rfl
theorem q1522 : (Jvm.Cond.code ({ cls := "FollowTheSunModel", name := "ends", desc := "()I" } : Jvm.MethodName) prog_19_method_63_code (2 : Nat) (Option.some Jvm.ClassFile.FieldType.int)) ∈ lw_all := lw_g (lw_at lw_m7 0 rfl) rfl
theorem q1523 : (Jvm.Cond.methodLink "FollowTheSunModel" (325 : Nat) ({ cls := "FollowTheSunModel", name := "putsBy", desc := "([I)V" } : Jvm.MethodName)) ∈ lw_all := lw_g (lw_at lw_m7 1 rfl) rfl
theorem q1524 : (Jvm.Cond.privateMethod ({ cls := "FollowTheSunModel", name := "putsBy", desc := "([I)V" } : Jvm.MethodName)) ∈ lw_tbl := lw_at lw_m7 2 rfl
theorem q1525 : (Jvm.Cond.instanceMethod ({ cls := "FollowTheSunModel", name := "putsBy", desc := "([I)V" } : Jvm.MethodName)) ∈ lw_all := lw_g (lw_at lw_m7 3 rfl) rfl
theorem q1526 : (Jvm.Cond.code ({ cls := "FollowTheSunModel", name := "putsBy", desc := "([I)V" } : Jvm.MethodName) prog_19_method_27_code (3 : Nat) (Option.none : Option Jvm.ClassFile.FieldType)) ∈ lw_all := lw_g (lw_at lw_m7 4 rfl) rfl
theorem q1527 : (Jvm.Cond.methodLink "FollowTheSunModel" (329 : Nat) ({ cls := "FollowTheSunModel", name := "tellsEnd", desc := "()I" } : Jvm.MethodName)) ∈ lw_all := lw_g (lw_at lw_m7 5 rfl) rfl
theorem q1528 : (Jvm.Cond.privateMethod ({ cls := "FollowTheSunModel", name := "tellsEnd", desc := "()I" } : Jvm.MethodName)) ∈ lw_tbl := lw_at lw_m7 6 rfl
theorem q1529 : (Jvm.Cond.instanceMethod ({ cls := "FollowTheSunModel", name := "tellsEnd", desc := "()I" } : Jvm.MethodName)) ∈ lw_all := lw_g (lw_at lw_m7 7 rfl) rfl
theorem q1530 : (Jvm.Cond.code ({ cls := "FollowTheSunModel", name := "tellsEnd", desc := "()I" } : Jvm.MethodName) prog_19_method_62_code (6 : Nat) (Option.some Jvm.ClassFile.FieldType.int)) ∈ lw_all := lw_g (lw_at lw_m7 8 rfl) rfl
theorem q1531 : (Jvm.Cond.methodLink "FollowTheSunModel" (316 : Nat) ({ cls := "FollowTheSunModel", name := "sumOf", desc := "(I)I" } : Jvm.MethodName)) ∈ lw_all := lw_g (lw_at lw_m7 9 rfl) rfl
theorem q1532 : (Jvm.Cond.privateMethod ({ cls := "FollowTheSunModel", name := "sumOf", desc := "(I)I" } : Jvm.MethodName)) ∈ lw_tbl := lw_at lw_m7 10 rfl
theorem q1533 : (Jvm.Cond.instanceMethod ({ cls := "FollowTheSunModel", name := "sumOf", desc := "(I)I" } : Jvm.MethodName)) ∈ lw_all := lw_g (lw_at lw_m7 11 rfl) rfl
theorem q1534 : (Jvm.Cond.code ({ cls := "FollowTheSunModel", name := "sumOf", desc := "(I)I" } : Jvm.MethodName) prog_19_method_61_code (4 : Nat) (Option.some Jvm.ClassFile.FieldType.int)) ∈ lw_all := lw_g (lw_at lw_m7 12 rfl) rfl
theorem q1535 : (Jvm.Cond.methodLink "FollowTheSunModel" (319 : Nat) ({ cls := "FollowTheSunModel", name := "goesOn", desc := "()I" } : Jvm.MethodName)) ∈ lw_all := lw_g (lw_at lw_m7 13 rfl) rfl
theorem q1536 : (Jvm.Cond.privateMethod ({ cls := "FollowTheSunModel", name := "goesOn", desc := "()I" } : Jvm.MethodName)) ∈ lw_tbl := lw_at lw_m7 14 rfl
theorem q1537 : (Jvm.Cond.instanceMethod ({ cls := "FollowTheSunModel", name := "goesOn", desc := "()I" } : Jvm.MethodName)) ∈ lw_all := lw_g (lw_at lw_m7 15 rfl) rfl
theorem q1538 : (Jvm.Cond.code ({ cls := "FollowTheSunModel", name := "goesOn", desc := "()I" } : Jvm.MethodName) prog_19_method_60_code (2 : Nat) (Option.some Jvm.ClassFile.FieldType.int)) ∈ lw_all := lw_g (lw_at lw_m7 16 rfl) rfl
theorem q1539 : (Jvm.Cond.methodLink "FollowTheSunModel" (313 : Nat) ({ cls := "FollowTheSunModel", name := "isAllDone", desc := "()Z" } : Jvm.MethodName)) ∈ lw_all := lw_g (lw_at lw_m7 17 rfl) rfl
theorem q1540 : (Jvm.Cond.privateMethod ({ cls := "FollowTheSunModel", name := "isAllDone", desc := "()Z" } : Jvm.MethodName)) ∈ lw_tbl := lw_at lw_m7 18 rfl
theorem q1541 : (Jvm.Cond.instanceMethod ({ cls := "FollowTheSunModel", name := "isAllDone", desc := "()Z" } : Jvm.MethodName)) ∈ lw_all := lw_g (lw_at lw_m7 19 rfl) rfl
theorem q1542 : (Jvm.Cond.code ({ cls := "FollowTheSunModel", name := "isAllDone", desc := "()Z" } : Jvm.MethodName) prog_19_method_59_code (3 : Nat) (Option.some Jvm.ClassFile.FieldType.boolean)) ∈ lw_all := lw_g (lw_at lw_m7 20 rfl) rfl
theorem q1543 : (Jvm.Cond.methodLink "FollowTheSunModel" (332 : Nat) ({ cls := "FollowTheSunModel", name := "takesBack", desc := "([I)V" } : Jvm.MethodName)) ∈ lw_all := lw_g (lw_at lw_m7 21 rfl) rfl
theorem q1544 : (Jvm.Cond.privateMethod ({ cls := "FollowTheSunModel", name := "takesBack", desc := "([I)V" } : Jvm.MethodName)) ∈ lw_tbl := lw_at lw_m7 22 rfl
theorem q1545 : (Jvm.Cond.instanceMethod ({ cls := "FollowTheSunModel", name := "takesBack", desc := "([I)V" } : Jvm.MethodName)) ∈ lw_all := lw_g (lw_at lw_m7 23 rfl) rfl
theorem q1546 : (Jvm.Cond.code ({ cls := "FollowTheSunModel", name := "takesBack", desc := "([I)V" } : Jvm.MethodName) prog_19_method_28_code (3 : Nat) (Option.none : Option Jvm.ClassFile.FieldType)) ∈ lw_all := lw_g (lw_at lw_m7 24 rfl) rfl
theorem q1548 : (Jvm.Cond.instanceMethod ({ cls := "FollowTheSunModel", name := "judge", desc := "()I" } : Jvm.MethodName)) ∈ lw_all := lw_g (lw_at lw_m7 26 rfl) rfl
theorem q1549 : (Jvm.Cond.selects "FollowTheSunModel" ({ cls := "FollowTheSunModel", name := "judge", desc := "()I" } : Jvm.MethodName) ({ cls := "FollowTheSunModel", name := "judge", desc := "()I" } : Jvm.MethodName)) ∈ lw_all := lw_g (lw_at lw_m7 27 rfl) rfl
theorem q1550 : (Jvm.Cond.code ({ cls := "FollowTheSunModel", name := "judge", desc := "()I" } : Jvm.MethodName) prog_19_method_64_code (5 : Nat) (Option.some Jvm.ClassFile.FieldType.int)) ∈ lw_all := lw_g (lw_at lw_m7 28 rfl) rfl
theorem q1552 : (Jvm.Cond.instanceMethod ({ cls := "FollowTheSunModel", name := "one", desc := "(III)I" } : Jvm.MethodName)) ∈ lw_all := lw_g (lw_at lw_m7 30 rfl) rfl
theorem q1553 : (Jvm.Cond.selects "FollowTheSunModel" ({ cls := "FollowTheSunModel", name := "one", desc := "(III)I" } : Jvm.MethodName) ({ cls := "FollowTheSunModel", name := "one", desc := "(III)I" } : Jvm.MethodName)) ∈ lw_all := lw_g (lw_at lw_m7 31 rfl) rfl
theorem q1554 : (Jvm.Cond.code ({ cls := "FollowTheSunModel", name := "one", desc := "(III)I" } : Jvm.MethodName) prog_19_method_74_code (5 : Nat) (Option.some Jvm.ClassFile.FieldType.int)) ∈ lw_all := lw_g (lw_at lw_m7 32 rfl) rfl
theorem q1555 : (Jvm.Cond.methodLink "FollowTheSunModel" (367 : Nat) ({ cls := "FollowTheSunModel", name := "soonest", desc := "(III)I" } : Jvm.MethodName)) ∈ lw_all := lw_g (lw_at lw_m7 33 rfl) rfl
theorem q1556 : (Jvm.Cond.privateMethod ({ cls := "FollowTheSunModel", name := "soonest", desc := "(III)I" } : Jvm.MethodName)) ∈ lw_tbl := lw_at lw_m7 34 rfl
theorem q1557 : (Jvm.Cond.instanceMethod ({ cls := "FollowTheSunModel", name := "soonest", desc := "(III)I" } : Jvm.MethodName)) ∈ lw_all := lw_g (lw_at lw_m7 35 rfl) rfl
theorem q1558 : (Jvm.Cond.code ({ cls := "FollowTheSunModel", name := "soonest", desc := "(III)I" } : Jvm.MethodName) prog_19_method_71_code (10 : Nat) (Option.some Jvm.ClassFile.FieldType.int)) ∈ lw_all := lw_g (lw_at lw_m7 36 rfl) rfl
theorem q1559 : (Jvm.Cond.methodLink "FollowTheSunModel" (341 : Nat) ({ cls := "FollowTheSunModel", name := "empties", desc := "([I)V" } : Jvm.MethodName)) ∈ lw_all := lw_g (lw_at lw_m7 37 rfl) rfl
theorem q1560 : (Jvm.Cond.privateMethod ({ cls := "FollowTheSunModel", name := "empties", desc := "([I)V" } : Jvm.MethodName)) ∈ lw_tbl := lw_at lw_m7 38 rfl
theorem q1561 : (Jvm.Cond.instanceMethod ({ cls := "FollowTheSunModel", name := "empties", desc := "([I)V" } : Jvm.MethodName)) ∈ lw_all := lw_g (lw_at lw_m7 39 rfl) rfl
theorem q1562 : (Jvm.Cond.code ({ cls := "FollowTheSunModel", name := "empties", desc := "([I)V" } : Jvm.MethodName) prog_19_method_68_code (3 : Nat) (Option.none : Option Jvm.ClassFile.FieldType)) ∈ lw_all := lw_g (lw_at lw_m7 40 rfl) rfl
theorem q1563 : (Jvm.Cond.methodLink "FollowTheSunModel" (344 : Nat) ({ cls := "FollowTheSunModel", name := "placeAt", desc := "(III)I" } : Jvm.MethodName)) ∈ lw_all := lw_g (lw_at lw_m7 41 rfl) rfl
theorem q1564 : (Jvm.Cond.static ({ cls := "FollowTheSunModel", name := "placeAt", desc := "(III)I" } : Jvm.MethodName)) ∈ lw_all := lw_g (lw_at lw_m7 42 rfl) rfl
theorem q1565 : (Jvm.Cond.code ({ cls := "FollowTheSunModel", name := "placeAt", desc := "(III)I" } : Jvm.MethodName) prog_19_method_67_code (3 : Nat) (Option.some Jvm.ClassFile.FieldType.int)) ∈ lw_all := lw_g (lw_at lw_m7 43 rfl) rfl
theorem q1566 : (Jvm.Cond.methodLink "FollowTheSunModel" (353 : Nat) ({ cls := "FollowTheSunModel", name := "losesAll", desc := "(I)V" } : Jvm.MethodName)) ∈ lw_all := lw_g (lw_at lw_m7 44 rfl) rfl
theorem q1567 : (Jvm.Cond.privateMethod ({ cls := "FollowTheSunModel", name := "losesAll", desc := "(I)V" } : Jvm.MethodName)) ∈ lw_tbl := lw_at lw_m7 45 rfl
theorem q1568 : (Jvm.Cond.instanceMethod ({ cls := "FollowTheSunModel", name := "losesAll", desc := "(I)V" } : Jvm.MethodName)) ∈ lw_all := lw_g (lw_at lw_m7 46 rfl) rfl
theorem q1569 : (Jvm.Cond.code ({ cls := "FollowTheSunModel", name := "losesAll", desc := "(I)V" } : Jvm.MethodName) prog_19_method_69_code (4 : Nat) (Option.none : Option Jvm.ClassFile.FieldType)) ∈ lw_all := lw_g (lw_at lw_m7 47 rfl) rfl
theorem q1570 : (Jvm.Cond.methodLink "FollowTheSunModel" (356 : Nat) ({ cls := "FollowTheSunModel", name := "goesFrom", desc := "(IIIII)V" } : Jvm.MethodName)) ∈ lw_all := lw_g (lw_at lw_m7 48 rfl) rfl
theorem q1571 : (Jvm.Cond.privateMethod ({ cls := "FollowTheSunModel", name := "goesFrom", desc := "(IIIII)V" } : Jvm.MethodName)) ∈ lw_tbl := lw_at lw_m7 49 rfl
theorem q1572 : (Jvm.Cond.instanceMethod ({ cls := "FollowTheSunModel", name := "goesFrom", desc := "(IIIII)V" } : Jvm.MethodName)) ∈ lw_all := lw_g (lw_at lw_m7 50 rfl) rfl
theorem q1573 : (Jvm.Cond.code ({ cls := "FollowTheSunModel", name := "goesFrom", desc := "(IIIII)V" } : Jvm.MethodName) prog_19_method_72_code (7 : Nat) (Option.none : Option Jvm.ClassFile.FieldType)) ∈ lw_all := lw_g (lw_at lw_m7 51 rfl) rfl
theorem q1574 : (Jvm.Cond.methodLink "FollowTheSunModel" (363 : Nat) ({ cls := "FollowTheSunModel", name := "least", desc := "([III)V" } : Jvm.MethodName)) ∈ lw_all := lw_g (lw_at lw_m7 52 rfl) rfl
theorem q1575 : (Jvm.Cond.static ({ cls := "FollowTheSunModel", name := "least", desc := "([III)V" } : Jvm.MethodName)) ∈ lw_all := lw_g (lw_at lw_m7 53 rfl) rfl
theorem q1576 : (Jvm.Cond.code ({ cls := "FollowTheSunModel", name := "least", desc := "([III)V" } : Jvm.MethodName) prog_19_method_70_code (3 : Nat) (Option.none : Option Jvm.ClassFile.FieldType)) ∈ lw_all := lw_g (lw_at lw_m7 54 rfl) rfl
theorem q1577 : (Jvm.Cond.methodLink "FollowTheSunModel" (370 : Nat) ({ cls := "FollowTheSunModel", name := "entersRoute", desc := "(II)V" } : Jvm.MethodName)) ∈ lw_all := lw_g (lw_at lw_m7 55 rfl) rfl
theorem q1578 : (Jvm.Cond.privateMethod ({ cls := "FollowTheSunModel", name := "entersRoute", desc := "(II)V" } : Jvm.MethodName)) ∈ lw_tbl := lw_at lw_m7 56 rfl
theorem q1579 : (Jvm.Cond.instanceMethod ({ cls := "FollowTheSunModel", name := "entersRoute", desc := "(II)V" } : Jvm.MethodName)) ∈ lw_all := lw_g (lw_at lw_m7 57 rfl) rfl
theorem q1580 : (Jvm.Cond.code ({ cls := "FollowTheSunModel", name := "entersRoute", desc := "(II)V" } : Jvm.MethodName) prog_19_method_73_code (4 : Nat) (Option.none : Option Jvm.ClassFile.FieldType)) ∈ lw_all := lw_g (lw_at lw_m7 58 rfl) rfl
theorem q1582 : (Jvm.Cond.instanceMethod ({ cls := "FollowTheSunModel", name := "cheap", desc := "(IIII)I" } : Jvm.MethodName)) ∈ lw_all := lw_g (lw_at lw_m7 60 rfl) rfl
theorem q1583 : (Jvm.Cond.selects "FollowTheSunModel" ({ cls := "FollowTheSunModel", name := "cheap", desc := "(IIII)I" } : Jvm.MethodName) ({ cls := "FollowTheSunModel", name := "cheap", desc := "(IIII)I" } : Jvm.MethodName)) ∈ lw_all := lw_g (lw_at lw_m7 61 rfl) rfl
theorem q1584 : (Jvm.Cond.code ({ cls := "FollowTheSunModel", name := "cheap", desc := "(IIII)I" } : Jvm.MethodName) prog_19_method_78_code (12 : Nat) (Option.some Jvm.ClassFile.FieldType.int)) ∈ lw_all := lw_g (lw_at lw_m7 62 rfl) rfl
theorem q1585 : (Jvm.Cond.constantLong "FollowTheSunModel" (392 : Nat) (2 : Int64)) ∈ lw_all := lw_g (lw_at lw_m7 63 rfl) rfl
theorem q1586 : (Jvm.Cond.methodLink "FollowTheSunModel" (397 : Nat) ({ cls := "FollowTheSunModel", name := "emptiesPaid", desc := "([J)V" } : Jvm.MethodName)) ∈ lw_all := lw_g (lw_at lw_m7 64 rfl) rfl
theorem q1587 : (Jvm.Cond.privateMethod ({ cls := "FollowTheSunModel", name := "emptiesPaid", desc := "([J)V" } : Jvm.MethodName)) ∈ lw_tbl := lw_at lw_m7 65 rfl
theorem q1588 : (Jvm.Cond.instanceMethod ({ cls := "FollowTheSunModel", name := "emptiesPaid", desc := "([J)V" } : Jvm.MethodName)) ∈ lw_all := lw_g (lw_at lw_m7 66 rfl) rfl
theorem q1589 : (Jvm.Cond.code ({ cls := "FollowTheSunModel", name := "emptiesPaid", desc := "([J)V" } : Jvm.MethodName) prog_19_method_75_code (3 : Nat) (Option.none : Option Jvm.ClassFile.FieldType)) ∈ lw_all := lw_g (lw_at lw_m7 67 rfl) rfl
theorem q1590 : (Jvm.Cond.methodLink "FollowTheSunModel" (401 : Nat) ({ cls := "FollowTheSunModel", name := "goesPaid", desc := "(IIIJI)V" } : Jvm.MethodName)) ∈ lw_all := lw_g (lw_at lw_m7 68 rfl) rfl
theorem q1591 : (Jvm.Cond.privateMethod ({ cls := "FollowTheSunModel", name := "goesPaid", desc := "(IIIJI)V" } : Jvm.MethodName)) ∈ lw_tbl := lw_at lw_m7 69 rfl
theorem q1592 : (Jvm.Cond.instanceMethod ({ cls := "FollowTheSunModel", name := "goesPaid", desc := "(IIIJI)V" } : Jvm.MethodName)) ∈ lw_all := lw_g (lw_at lw_m7 70 rfl) rfl
theorem q1593 : (Jvm.Cond.code ({ cls := "FollowTheSunModel", name := "goesPaid", desc := "(IIIJI)V" } : Jvm.MethodName) prog_19_method_77_code (10 : Nat) (Option.none : Option Jvm.ClassFile.FieldType)) ∈ lw_all := lw_g (lw_at lw_m7 71 rfl) rfl
theorem q1594 : (Jvm.Cond.constantLong "FollowTheSunModel" (382 : Nat) (512 : Int64)) ∈ lw_all := lw_g (lw_at lw_m7 72 rfl) rfl
theorem q1595 : (Jvm.Cond.methodLink "FollowTheSunModel" (388 : Nat) ({ cls := "FollowTheSunModel", name := "cheaper", desc := "(IJ)V" } : Jvm.MethodName)) ∈ lw_all := lw_g (lw_at lw_m7 73 rfl) rfl
theorem q1596 : (Jvm.Cond.privateMethod ({ cls := "FollowTheSunModel", name := "cheaper", desc := "(IJ)V" } : Jvm.MethodName)) ∈ lw_tbl := lw_at lw_m7 74 rfl
theorem q1597 : (Jvm.Cond.instanceMethod ({ cls := "FollowTheSunModel", name := "cheaper", desc := "(IJ)V" } : Jvm.MethodName)) ∈ lw_all := lw_g (lw_at lw_m7 75 rfl) rfl
theorem q1598 : (Jvm.Cond.code ({ cls := "FollowTheSunModel", name := "cheaper", desc := "(IJ)V" } : Jvm.MethodName) prog_19_method_76_code (4 : Nat) (Option.none : Option Jvm.ClassFile.FieldType)) ∈ lw_all := lw_g (lw_at lw_m7 76 rfl) rfl
theorem q1599 : (Jvm.Cond.methodLink "FollowTheSunModel" (377 : Nat) ({ cls := "java/lang/Math", name := "min", desc := "(JJ)J" } : Jvm.MethodName)) ∈ lw_all := lw_g (lw_at lw_m7 77 rfl) rfl
theorem q1603 : (Jvm.Cond.instanceMethod ({ cls := "FollowTheSunModel", name := "edge", desc := "(III)I" } : Jvm.MethodName)) ∈ lw_all := lw_g (lw_at lw_m7 81 rfl) rfl
theorem q1604 : (Jvm.Cond.selects "FollowTheSunModel" ({ cls := "FollowTheSunModel", name := "edge", desc := "(III)I" } : Jvm.MethodName) ({ cls := "FollowTheSunModel", name := "edge", desc := "(III)I" } : Jvm.MethodName)) ∈ lw_all := lw_g (lw_at lw_m7 82 rfl) rfl
theorem q1605 : (Jvm.Cond.code ({ cls := "FollowTheSunModel", name := "edge", desc := "(III)I" } : Jvm.MethodName) prog_19_method_79_code (9 : Nat) (Option.some Jvm.ClassFile.FieldType.int)) ∈ lw_all := lw_g (lw_at lw_m7 83 rfl) rfl
theorem q1607 : (Jvm.Cond.instanceMethod ({ cls := "FollowTheSunModel", name := "lie", desc := "(II)I" } : Jvm.MethodName)) ∈ lw_all := lw_g (lw_at lw_m7 85 rfl) rfl
theorem q1608 : (Jvm.Cond.selects "FollowTheSunModel" ({ cls := "FollowTheSunModel", name := "lie", desc := "(II)I" } : Jvm.MethodName) ({ cls := "FollowTheSunModel", name := "lie", desc := "(II)I" } : Jvm.MethodName)) ∈ lw_all := lw_g (lw_at lw_m7 86 rfl) rfl
theorem q1609 : (Jvm.Cond.code ({ cls := "FollowTheSunModel", name := "lie", desc := "(II)I" } : Jvm.MethodName) prog_19_method_81_code (8 : Nat) (Option.some Jvm.ClassFile.FieldType.int)) ∈ lw_all := lw_g (lw_at lw_m7 87 rfl) rfl
theorem q1610 : (Jvm.Cond.methodLink "FollowTheSunModel" (408 : Nat) ({ cls := "FollowTheSunModel", name := "lies", desc := "(III)I" } : Jvm.MethodName)) ∈ lw_all := lw_g (lw_at lw_m7 88 rfl) rfl
theorem q1611 : (Jvm.Cond.privateMethod ({ cls := "FollowTheSunModel", name := "lies", desc := "(III)I" } : Jvm.MethodName)) ∈ lw_tbl := lw_at lw_m7 89 rfl
theorem q1612 : (Jvm.Cond.instanceMethod ({ cls := "FollowTheSunModel", name := "lies", desc := "(III)I" } : Jvm.MethodName)) ∈ lw_all := lw_g (lw_at lw_m7 90 rfl) rfl
theorem q1613 : (Jvm.Cond.code ({ cls := "FollowTheSunModel", name := "lies", desc := "(III)I" } : Jvm.MethodName) prog_19_method_80_code (8 : Nat) (Option.some Jvm.ClassFile.FieldType.int)) ∈ lw_all := lw_g (lw_at lw_m7 91 rfl) rfl
theorem q1615 : (Jvm.Cond.instanceMethod ({ cls := "FollowTheSunModel", name := "homes", desc := "(II)I" } : Jvm.MethodName)) ∈ lw_all := lw_g (lw_at lw_m7 93 rfl) rfl
theorem q1616 : (Jvm.Cond.selects "FollowTheSunModel" ({ cls := "FollowTheSunModel", name := "homes", desc := "(II)I" } : Jvm.MethodName) ({ cls := "FollowTheSunModel", name := "homes", desc := "(II)I" } : Jvm.MethodName)) ∈ lw_all := lw_g (lw_at lw_m7 94 rfl) rfl
theorem q1617 : (Jvm.Cond.code ({ cls := "FollowTheSunModel", name := "homes", desc := "(II)I" } : Jvm.MethodName) prog_19_method_85_code (8 : Nat) (Option.some Jvm.ClassFile.FieldType.int)) ∈ lw_all := lw_g (lw_at lw_m7 95 rfl) rfl
theorem q1618 : (Jvm.Cond.methodLink "FollowTheSunModel" (414 : Nat) ({ cls := "java/lang/Integer", name := "bitCount", desc := "(I)I" } : Jvm.MethodName)) ∈ lw_all := lw_g (lw_at lw_m7 96 rfl) rfl
theorem q1619 : (Jvm.Cond.methodLink "FollowTheSunModel" (419 : Nat) ({ cls := "FollowTheSunModel", name := "keepsBorn", desc := "()V" } : Jvm.MethodName)) ∈ lw_all := lw_g (lw_at lw_m7 97 rfl) rfl
theorem q1620 : (Jvm.Cond.privateMethod ({ cls := "FollowTheSunModel", name := "keepsBorn", desc := "()V" } : Jvm.MethodName)) ∈ lw_tbl := lw_at lw_m7 98 rfl
theorem q1621 : (Jvm.Cond.instanceMethod ({ cls := "FollowTheSunModel", name := "keepsBorn", desc := "()V" } : Jvm.MethodName)) ∈ lw_all := lw_g (lw_at lw_m7 99 rfl) rfl
theorem q1622 : (Jvm.Cond.code ({ cls := "FollowTheSunModel", name := "keepsBorn", desc := "()V" } : Jvm.MethodName) prog_19_method_82_code (2 : Nat) (Option.none : Option Jvm.ClassFile.FieldType)) ∈ lw_all := lw_g (lw_at lw_m7 100 rfl) rfl
theorem q1623 : (Jvm.Cond.methodLink "FollowTheSunModel" (422 : Nat) ({ cls := "FollowTheSunModel", name := "endsFrom", desc := "(I)I" } : Jvm.MethodName)) ∈ lw_all := lw_g (lw_at lw_m7 101 rfl) rfl
theorem q1624 : (Jvm.Cond.privateMethod ({ cls := "FollowTheSunModel", name := "endsFrom", desc := "(I)I" } : Jvm.MethodName)) ∈ lw_tbl := lw_at lw_m7 102 rfl
theorem q1625 : (Jvm.Cond.instanceMethod ({ cls := "FollowTheSunModel", name := "endsFrom", desc := "(I)I" } : Jvm.MethodName)) ∈ lw_all := lw_g (lw_at lw_m7 103 rfl) rfl
theorem q1626 : (Jvm.Cond.code ({ cls := "FollowTheSunModel", name := "endsFrom", desc := "(I)I" } : Jvm.MethodName) prog_19_method_65_code (3 : Nat) (Option.some Jvm.ClassFile.FieldType.int)) ∈ lw_all := lw_g (lw_at lw_m7 104 rfl) rfl
theorem q1627 : (Jvm.Cond.methodLink "FollowTheSunModel" (428 : Nat) ({ cls := "FollowTheSunModel", name := "movesHomes", desc := "(I)Z" } : Jvm.MethodName)) ∈ lw_all := lw_g (lw_at lw_m7 105 rfl) rfl
theorem q1628 : (Jvm.Cond.privateMethod ({ cls := "FollowTheSunModel", name := "movesHomes", desc := "(I)Z" } : Jvm.MethodName)) ∈ lw_tbl := lw_at lw_m7 106 rfl
theorem q1629 : (Jvm.Cond.instanceMethod ({ cls := "FollowTheSunModel", name := "movesHomes", desc := "(I)Z" } : Jvm.MethodName)) ∈ lw_all := lw_g (lw_at lw_m7 107 rfl) rfl
theorem q1630 : (Jvm.Cond.code ({ cls := "FollowTheSunModel", name := "movesHomes", desc := "(I)Z" } : Jvm.MethodName) prog_19_method_84_code (3 : Nat) (Option.some Jvm.ClassFile.FieldType.boolean)) ∈ lw_all := lw_g (lw_at lw_m7 108 rfl) rfl
theorem q1631 : (Jvm.Cond.methodLink "FollowTheSunModel" (431 : Nat) ({ cls := "FollowTheSunModel", name := "givesBorn", desc := "()V" } : Jvm.MethodName)) ∈ lw_all := lw_g (lw_at lw_m7 109 rfl) rfl
theorem q1632 : (Jvm.Cond.privateMethod ({ cls := "FollowTheSunModel", name := "givesBorn", desc := "()V" } : Jvm.MethodName)) ∈ lw_tbl := lw_at lw_m7 110 rfl
theorem q1633 : (Jvm.Cond.instanceMethod ({ cls := "FollowTheSunModel", name := "givesBorn", desc := "()V" } : Jvm.MethodName)) ∈ lw_all := lw_g (lw_at lw_m7 111 rfl) rfl
theorem q1634 : (Jvm.Cond.code ({ cls := "FollowTheSunModel", name := "givesBorn", desc := "()V" } : Jvm.MethodName) prog_19_method_83_code (2 : Nat) (Option.none : Option Jvm.ClassFile.FieldType)) ∈ lw_all := lw_g (lw_at lw_m7 112 rfl) rfl
theorem q1636 : (Jvm.Cond.instanceMethod ({ cls := "FollowTheSunModel", name := "pair", desc := "(III)I" } : Jvm.MethodName)) ∈ lw_all := lw_g (lw_at lw_m7 114 rfl) rfl
theorem q1637 : (Jvm.Cond.selects "FollowTheSunModel" ({ cls := "FollowTheSunModel", name := "pair", desc := "(III)I" } : Jvm.MethodName) ({ cls := "FollowTheSunModel", name := "pair", desc := "(III)I" } : Jvm.MethodName)) ∈ lw_all := lw_g (lw_at lw_m7 115 rfl) rfl
theorem q1638 : (Jvm.Cond.code ({ cls := "FollowTheSunModel", name := "pair", desc := "(III)I" } : Jvm.MethodName) prog_19_method_86_code (5 : Nat) (Option.some Jvm.ClassFile.FieldType.int)) ∈ lw_all := lw_g (lw_at lw_m7 116 rfl) rfl
theorem q1640 : (Jvm.Cond.instanceMethod ({ cls := "FollowTheSunModel", name := "whom", desc := "(II)I" } : Jvm.MethodName)) ∈ lw_all := lw_g (lw_at lw_m7 118 rfl) rfl
theorem q1641 : (Jvm.Cond.selects "FollowTheSunModel" ({ cls := "FollowTheSunModel", name := "whom", desc := "(II)I" } : Jvm.MethodName) ({ cls := "FollowTheSunModel", name := "whom", desc := "(II)I" } : Jvm.MethodName)) ∈ lw_all := lw_g (lw_at lw_m7 119 rfl) rfl
theorem q1642 : (Jvm.Cond.code ({ cls := "FollowTheSunModel", name := "whom", desc := "(II)I" } : Jvm.MethodName) prog_19_method_88_code (9 : Nat) (Option.some Jvm.ClassFile.FieldType.int)) ∈ lw_all := lw_g (lw_at lw_m7 120 rfl) rfl
theorem q1643 : (Jvm.Cond.constantLong "FollowTheSunModel" (449 : Nat) (999 : Int64)) ∈ lw_all := lw_g (lw_at lw_m7 121 rfl) rfl
theorem q1644 : (Jvm.Cond.methodLink "FollowTheSunModel" (451 : Nat) ({ cls := "FollowTheSunModel", name := "endsWith", desc := "(II)I" } : Jvm.MethodName)) ∈ lw_all := lw_g (lw_at lw_m7 122 rfl) rfl
theorem q1645 : (Jvm.Cond.privateMethod ({ cls := "FollowTheSunModel", name := "endsWith", desc := "(II)I" } : Jvm.MethodName)) ∈ lw_tbl := lw_at lw_m7 123 rfl
theorem q1646 : (Jvm.Cond.instanceMethod ({ cls := "FollowTheSunModel", name := "endsWith", desc := "(II)I" } : Jvm.MethodName)) ∈ lw_all := lw_g (lw_at lw_m7 124 rfl) rfl
theorem q1647 : (Jvm.Cond.code ({ cls := "FollowTheSunModel", name := "endsWith", desc := "(II)I" } : Jvm.MethodName) prog_19_method_87_code (5 : Nat) (Option.some Jvm.ClassFile.FieldType.int)) ∈ lw_all := lw_g (lw_at lw_m7 125 rfl) rfl
theorem q1649 : (Jvm.Cond.instanceMethod ({ cls := "FollowTheSunModel", name := "worth", desc := "(I)I" } : Jvm.MethodName)) ∈ lw_all := lw_g (lw_at lw_m7 127 rfl) rfl
theorem q1650 : (Jvm.Cond.selects "FollowTheSunModel" ({ cls := "FollowTheSunModel", name := "worth", desc := "(I)I" } : Jvm.MethodName) ({ cls := "FollowTheSunModel", name := "worth", desc := "(I)I" } : Jvm.MethodName)) ∈ lw_all := lw_g (lw_at lw_m7 128 rfl) rfl
theorem q1651 : (Jvm.Cond.code ({ cls := "FollowTheSunModel", name := "worth", desc := "(I)I" } : Jvm.MethodName) prog_19_method_89_code (10 : Nat) (Option.some Jvm.ClassFile.FieldType.int)) ∈ lw_all := lw_g (lw_at lw_m7 129 rfl) rfl
theorem q1652 : (Jvm.Cond.constantLong "FollowTheSunModel" (454 : Nat) (-9999 : Int64)) ∈ lw_all := lw_g (lw_at lw_m7 130 rfl) rfl
theorem q1654 : (Jvm.Cond.instanceMethod ({ cls := "FollowTheSunModel", name := "wrong", desc := "(I)I" } : Jvm.MethodName)) ∈ lw_all := lw_g (lw_at lw_m7 132 rfl) rfl
theorem q1655 : (Jvm.Cond.selects "FollowTheSunModel" ({ cls := "FollowTheSunModel", name := "wrong", desc := "(I)I" } : Jvm.MethodName) ({ cls := "FollowTheSunModel", name := "wrong", desc := "(I)I" } : Jvm.MethodName)) ∈ lw_all := lw_g (lw_at lw_m7 133 rfl) rfl
theorem q1656 : (Jvm.Cond.code ({ cls := "FollowTheSunModel", name := "wrong", desc := "(I)I" } : Jvm.MethodName) prog_19_method_90_code (8 : Nat) (Option.some Jvm.ClassFile.FieldType.int)) ∈ lw_all := lw_g (lw_at lw_m7 134 rfl) rfl
theorem q1657 : (Jvm.Cond.methodLink "FollowTheSunModel" (459 : Nat) ({ cls := "FollowTheSunModel", name := "entersFraction", desc := "(JJ)V" } : Jvm.MethodName)) ∈ lw_all := lw_g (lw_at lw_m7 135 rfl) rfl
theorem q1658 : (Jvm.Cond.privateMethod ({ cls := "FollowTheSunModel", name := "entersFraction", desc := "(JJ)V" } : Jvm.MethodName)) ∈ lw_tbl := lw_at lw_m7 136 rfl
theorem q1659 : (Jvm.Cond.instanceMethod ({ cls := "FollowTheSunModel", name := "entersFraction", desc := "(JJ)V" } : Jvm.MethodName)) ∈ lw_all := lw_g (lw_at lw_m7 137 rfl) rfl
theorem q1660 : (Jvm.Cond.code ({ cls := "FollowTheSunModel", name := "entersFraction", desc := "(JJ)V" } : Jvm.MethodName) prog_19_method_8_code (7 : Nat) (Option.none : Option Jvm.ClassFile.FieldType)) ∈ lw_all := lw_g (lw_at lw_m7 138 rfl) rfl
theorem q1661 : (Jvm.Cond.methodLink "FollowTheSunModel" (14 : Nat) ({ cls := "FollowTheSunModel", name := "common", desc := "(JJ)J" } : Jvm.MethodName)) ∈ lw_all := lw_g (lw_at lw_m7 139 rfl) rfl
theorem q1662 : (Jvm.Cond.static ({ cls := "FollowTheSunModel", name := "common", desc := "(JJ)J" } : Jvm.MethodName)) ∈ lw_all := lw_g (lw_at lw_m7 140 rfl) rfl
theorem q1663 : (Jvm.Cond.code ({ cls := "FollowTheSunModel", name := "common", desc := "(JJ)J" } : Jvm.MethodName) prog_19_method_7_code (10 : Nat) (Option.some Jvm.ClassFile.FieldType.long)) ∈ lw_all := lw_g (lw_at lw_m7 141 rfl) rfl
theorem q1665 : (Jvm.Cond.instanceMethod ({ cls := "FollowTheSunModel", name := "mean", desc := "(I)I" } : Jvm.MethodName)) ∈ lw_all := lw_g (lw_at lw_m7 143 rfl) rfl
theorem q1666 : (Jvm.Cond.selects "FollowTheSunModel" ({ cls := "FollowTheSunModel", name := "mean", desc := "(I)I" } : Jvm.MethodName) ({ cls := "FollowTheSunModel", name := "mean", desc := "(I)I" } : Jvm.MethodName)) ∈ lw_all := lw_g (lw_at lw_m7 144 rfl) rfl
theorem q1667 : (Jvm.Cond.code ({ cls := "FollowTheSunModel", name := "mean", desc := "(I)I" } : Jvm.MethodName) prog_19_method_91_code (5 : Nat) (Option.some Jvm.ClassFile.FieldType.int)) ∈ lw_all := lw_g (lw_at lw_m7 145 rfl) rfl
theorem q1669 : (Jvm.Cond.instanceMethod ({ cls := "FollowTheSunModel", name := "riskiest", desc := "()I" } : Jvm.MethodName)) ∈ lw_all := lw_g (lw_at lw_m7 147 rfl) rfl
theorem q1670 : (Jvm.Cond.selects "FollowTheSunModel" ({ cls := "FollowTheSunModel", name := "riskiest", desc := "()I" } : Jvm.MethodName) ({ cls := "FollowTheSunModel", name := "riskiest", desc := "()I" } : Jvm.MethodName)) ∈ lw_all := lw_g (lw_at lw_m7 148 rfl) rfl
theorem q1671 : (Jvm.Cond.code ({ cls := "FollowTheSunModel", name := "riskiest", desc := "()I" } : Jvm.MethodName) prog_19_method_92_code (3 : Nat) (Option.some Jvm.ClassFile.FieldType.int)) ∈ lw_all := lw_g (lw_at lw_m7 149 rfl) rfl
theorem q1673 : (Jvm.Cond.instanceMethod ({ cls := "FollowTheSunModel", name := "site", desc := "(IIII)I" } : Jvm.MethodName)) ∈ lw_all := lw_g (lw_at lw_m7 151 rfl) rfl
theorem q1674 : (Jvm.Cond.selects "FollowTheSunModel" ({ cls := "FollowTheSunModel", name := "site", desc := "(IIII)I" } : Jvm.MethodName) ({ cls := "FollowTheSunModel", name := "site", desc := "(IIII)I" } : Jvm.MethodName)) ∈ lw_all := lw_g (lw_at lw_m7 152 rfl) rfl
theorem q1675 : (Jvm.Cond.code ({ cls := "FollowTheSunModel", name := "site", desc := "(IIII)I" } : Jvm.MethodName) prog_19_method_93_code (11 : Nat) (Option.some Jvm.ClassFile.FieldType.int)) ∈ lw_all := lw_g (lw_at lw_m7 153 rfl) rfl
theorem q1677 : (Jvm.Cond.instanceMethod ({ cls := "FollowTheSunModel", name := "together", desc := "(II)I" } : Jvm.MethodName)) ∈ lw_all := lw_g (lw_at lw_m7 155 rfl) rfl
theorem q1678 : (Jvm.Cond.selects "FollowTheSunModel" ({ cls := "FollowTheSunModel", name := "together", desc := "(II)I" } : Jvm.MethodName) ({ cls := "FollowTheSunModel", name := "together", desc := "(II)I" } : Jvm.MethodName)) ∈ lw_all := lw_g (lw_at lw_m7 156 rfl) rfl
theorem q1679 : (Jvm.Cond.code ({ cls := "FollowTheSunModel", name := "together", desc := "(II)I" } : Jvm.MethodName) prog_19_method_94_code (8 : Nat) (Option.some Jvm.ClassFile.FieldType.int)) ∈ lw_all := lw_g (lw_at lw_m7 157 rfl) rfl
theorem q1681 : (Jvm.Cond.instanceMethod ({ cls := "FollowTheSunModel", name := "sleeps", desc := "(II)I" } : Jvm.MethodName)) ∈ lw_all := lw_g (lw_at lw_m7 159 rfl) rfl
theorem q1682 : (Jvm.Cond.selects "FollowTheSunModel" ({ cls := "FollowTheSunModel", name := "sleeps", desc := "(II)I" } : Jvm.MethodName) ({ cls := "FollowTheSunModel", name := "sleeps", desc := "(II)I" } : Jvm.MethodName)) ∈ lw_all := lw_g (lw_at lw_m7 160 rfl) rfl
theorem q1683 : (Jvm.Cond.code ({ cls := "FollowTheSunModel", name := "sleeps", desc := "(II)I" } : Jvm.MethodName) prog_19_method_95_code (5 : Nat) (Option.some Jvm.ClassFile.FieldType.int)) ∈ lw_all := lw_g (lw_at lw_m7 161 rfl) rfl
theorem q1684 : (Jvm.Cond.methodLink "FollowTheSunModel" (463 : Nat) ({ cls := "FollowTheSunModel", name := "endsNow", desc := "()I" } : Jvm.MethodName)) ∈ lw_all := lw_g (lw_at lw_m7 162 rfl) rfl
theorem q1685 : (Jvm.Cond.privateMethod ({ cls := "FollowTheSunModel", name := "endsNow", desc := "()I" } : Jvm.MethodName)) ∈ lw_tbl := lw_at lw_m7 163 rfl
theorem q1686 : (Jvm.Cond.instanceMethod ({ cls := "FollowTheSunModel", name := "endsNow", desc := "()I" } : Jvm.MethodName)) ∈ lw_all := lw_g (lw_at lw_m7 164 rfl) rfl
theorem q1687 : (Jvm.Cond.code ({ cls := "FollowTheSunModel", name := "endsNow", desc := "()I" } : Jvm.MethodName) prog_19_method_66_code (2 : Nat) (Option.some Jvm.ClassFile.FieldType.int)) ∈ lw_all := lw_g (lw_at lw_m7 165 rfl) rfl
theorem q1688 : (Jvm.Cond.methodLink "FollowTheSunModel" (466 : Nat) ({ cls := "FollowTheSunModel", name := "endsOn", desc := "(II)I" } : Jvm.MethodName)) ∈ lw_all := lw_g (lw_at lw_m7 166 rfl) rfl
theorem q1689 : (Jvm.Cond.privateMethod ({ cls := "FollowTheSunModel", name := "endsOn", desc := "(II)I" } : Jvm.MethodName)) ∈ lw_tbl := lw_at lw_m7 167 rfl
theorem q1690 : (Jvm.Cond.instanceMethod ({ cls := "FollowTheSunModel", name := "endsOn", desc := "(II)I" } : Jvm.MethodName)) ∈ lw_all := lw_g (lw_at lw_m7 168 rfl) rfl
theorem q1691 : (Jvm.Cond.code ({ cls := "FollowTheSunModel", name := "endsOn", desc := "(II)I" } : Jvm.MethodName) prog_19_method_96_code (4 : Nat) (Option.some Jvm.ClassFile.FieldType.int)) ∈ lw_all := lw_g (lw_at lw_m7 169 rfl) rfl
theorem q1693 : (Jvm.Cond.instanceMethod ({ cls := "FollowTheSunModel", name := "worst", desc := "(III)I" } : Jvm.MethodName)) ∈ lw_all := lw_g (lw_at lw_m7 171 rfl) rfl
theorem q1694 : (Jvm.Cond.selects "FollowTheSunModel" ({ cls := "FollowTheSunModel", name := "worst", desc := "(III)I" } : Jvm.MethodName) ({ cls := "FollowTheSunModel", name := "worst", desc := "(III)I" } : Jvm.MethodName)) ∈ lw_all := lw_g (lw_at lw_m7 172 rfl) rfl
theorem q1695 : (Jvm.Cond.code ({ cls := "FollowTheSunModel", name := "worst", desc := "(III)I" } : Jvm.MethodName) prog_19_method_97_code (8 : Nat) (Option.some Jvm.ClassFile.FieldType.int)) ∈ lw_all := lw_g (lw_at lw_m7 173 rfl) rfl
theorem q1697 : (Jvm.Cond.instanceMethod ({ cls := "FollowTheSunModel", name := "march", desc := "(II)I" } : Jvm.MethodName)) ∈ lw_all := lw_g (lw_at lw_m7 175 rfl) rfl
theorem q1698 : (Jvm.Cond.selects "FollowTheSunModel" ({ cls := "FollowTheSunModel", name := "march", desc := "(II)I" } : Jvm.MethodName) ({ cls := "FollowTheSunModel", name := "march", desc := "(II)I" } : Jvm.MethodName)) ∈ lw_all := lw_g (lw_at lw_m7 176 rfl) rfl
theorem q1699 : (Jvm.Cond.code ({ cls := "FollowTheSunModel", name := "march", desc := "(II)I" } : Jvm.MethodName) prog_19_method_98_code (7 : Nat) (Option.some Jvm.ClassFile.FieldType.int)) ∈ lw_all := lw_g (lw_at lw_m7 177 rfl) rfl
theorem q1701 : (Jvm.Cond.instanceMethod ({ cls := "FollowTheSunModel", name := "keep", desc := "(I)Z" } : Jvm.MethodName)) ∈ lw_all := lw_g (lw_at lw_m7 179 rfl) rfl
theorem q1702 : (Jvm.Cond.selects "FollowTheSunModel" ({ cls := "FollowTheSunModel", name := "keep", desc := "(I)Z" } : Jvm.MethodName) ({ cls := "FollowTheSunModel", name := "keep", desc := "(I)Z" } : Jvm.MethodName)) ∈ lw_all := lw_g (lw_at lw_m7 180 rfl) rfl
theorem q1703 : (Jvm.Cond.code ({ cls := "FollowTheSunModel", name := "keep", desc := "(I)Z" } : Jvm.MethodName) prog_19_method_99_code (3 : Nat) (Option.some Jvm.ClassFile.FieldType.boolean)) ∈ lw_all := lw_g (lw_at lw_m7 181 rfl) rfl
theorem q1705 : (Jvm.Cond.instanceMethod ({ cls := "FollowTheSunModel", name := "again", desc := "(I)Z" } : Jvm.MethodName)) ∈ lw_all := lw_g (lw_at lw_m7 183 rfl) rfl
theorem q1706 : (Jvm.Cond.selects "FollowTheSunModel" ({ cls := "FollowTheSunModel", name := "again", desc := "(I)Z" } : Jvm.MethodName) ({ cls := "FollowTheSunModel", name := "again", desc := "(I)Z" } : Jvm.MethodName)) ∈ lw_all := lw_g (lw_at lw_m7 184 rfl) rfl
theorem q1707 : (Jvm.Cond.code ({ cls := "FollowTheSunModel", name := "again", desc := "(I)Z" } : Jvm.MethodName) prog_19_method_100_code (3 : Nat) (Option.some Jvm.ClassFile.FieldType.boolean)) ∈ lw_all := lw_g (lw_at lw_m7 185 rfl) rfl
theorem q1709 : (Jvm.Cond.instanceMethod ({ cls := "FollowTheSunModel", name := "count", desc := "(I)I" } : Jvm.MethodName)) ∈ lw_all := lw_g (lw_at lw_m7 187 rfl) rfl
theorem q1710 : (Jvm.Cond.selects "FollowTheSunModel" ({ cls := "FollowTheSunModel", name := "count", desc := "(I)I" } : Jvm.MethodName) ({ cls := "FollowTheSunModel", name := "count", desc := "(I)I" } : Jvm.MethodName)) ∈ lw_all := lw_g (lw_at lw_m7 188 rfl) rfl
theorem q1711 : (Jvm.Cond.code ({ cls := "FollowTheSunModel", name := "count", desc := "(I)I" } : Jvm.MethodName) prog_19_method_102_code (2 : Nat) (Option.some Jvm.ClassFile.FieldType.int)) ∈ lw_all := lw_g (lw_at lw_m7 189 rfl) rfl
theorem q1712 : (Jvm.Cond.methodLink "FollowTheSunModel" (475 : Nat) ({ cls := "FollowTheSunModel", name := "doneBits", desc := "()I" } : Jvm.MethodName)) ∈ lw_all := lw_g (lw_at lw_m7 190 rfl) rfl
theorem q1713 : (Jvm.Cond.privateMethod ({ cls := "FollowTheSunModel", name := "doneBits", desc := "()I" } : Jvm.MethodName)) ∈ lw_tbl := lw_at lw_m7 191 rfl
theorem q1714 : (Jvm.Cond.instanceMethod ({ cls := "FollowTheSunModel", name := "doneBits", desc := "()I" } : Jvm.MethodName)) ∈ lw_all := lw_g (lw_at lw_m7 192 rfl) rfl
theorem q1715 : (Jvm.Cond.code ({ cls := "FollowTheSunModel", name := "doneBits", desc := "()I" } : Jvm.MethodName) prog_19_method_101_code (3 : Nat) (Option.some Jvm.ClassFile.FieldType.int)) ∈ lw_all := lw_g (lw_at lw_m7 193 rfl) rfl
theorem q1718 : (Jvm.Cond.instanceMethod ({ cls := "FollowTheSunModel", name := "<init>", desc := "()V" } : Jvm.MethodName)) ∈ lw_all := lw_g (lw_at lw_m7 196 rfl) rfl
theorem q1719 : (Jvm.Cond.code ({ cls := "FollowTheSunModel", name := "<init>", desc := "()V" } : Jvm.MethodName) prog_19_method_103_code (1 : Nat) (Option.none : Option Jvm.ClassFile.FieldType)) ∈ lw_all := lw_g (lw_at lw_m7 197 rfl) rfl
theorem q1720 : (Jvm.Cond.methodLink "FollowTheSunModel" (478 : Nat) ({ cls := "java/lang/Object", name := "<init>", desc := "()V" } : Jvm.MethodName)) ∈ lw_all := lw_g (lw_at lw_m7 198 rfl) rfl
theorem q1721 : (Jvm.Cond.fieldLink "FollowTheSunModel" (3 : Nat) "FollowTheSunModel" "thrown" "I") ∈ lw_all := lw_g (lw_at lw_m7 199 rfl) rfl
theorem q1722 : (Jvm.Cond.fieldLink "FollowTheSunModel" (11 : Nat) "FollowTheSunModel" "rows" "I") ∈ lw_all := lw_g (lw_at lw_m7 200 rfl) rfl
theorem q1723 : (Jvm.Cond.fieldLink "FollowTheSunModel" (7 : Nat) "FollowTheSunModel" "row" "[J") ∈ lw_all := lw_g (lw_at lw_m7 201 rfl) rfl
theorem q1724 : (Jvm.Cond.fieldLink "FollowTheSunModel" (22 : Nat) "FollowTheSunModel" "offices" "I") ∈ lw_all := lw_g (lw_at lw_m7 202 rfl) rfl
theorem q1725 : (Jvm.Cond.fieldLink "FollowTheSunModel" (31 : Nat) "FollowTheSunModel" "zone" "[I") ∈ lw_all := lw_g (lw_at lw_m7 203 rfl) rfl
theorem q1726 : (Jvm.Cond.fieldLink "FollowTheSunModel" (35 : Nat) "FollowTheSunModel" "from" "[I") ∈ lw_all := lw_g (lw_at lw_m7 204 rfl) rfl
theorem q1727 : (Jvm.Cond.fieldLink "FollowTheSunModel" (38 : Nat) "FollowTheSunModel" "longOf" "[I") ∈ lw_all := lw_g (lw_at lw_m7 205 rfl) rfl
theorem q1728 : (Jvm.Cond.fieldLink "FollowTheSunModel" (41 : Nat) "FollowTheSunModel" "payOf" "[I") ∈ lw_all := lw_g (lw_at lw_m7 206 rfl) rfl
theorem q1729 : (Jvm.Cond.fieldLink "FollowTheSunModel" (44 : Nat) "FollowTheSunModel" "people" "[I") ∈ lw_all := lw_g (lw_at lw_m7 207 rfl) rfl
theorem q1730 : (Jvm.Cond.fieldLink "FollowTheSunModel" (47 : Nat) "FollowTheSunModel" "crafts" "[I") ∈ lw_all := lw_g (lw_at lw_m7 208 rfl) rfl
theorem q1731 : (Jvm.Cond.fieldLink "FollowTheSunModel" (50 : Nat) "FollowTheSunModel" "clockHour" "[I") ∈ lw_all := lw_g (lw_at lw_m7 209 rfl) rfl
theorem q1732 : (Jvm.Cond.fieldLink "FollowTheSunModel" (53 : Nat) "FollowTheSunModel" "clockBy" "[I") ∈ lw_all := lw_g (lw_at lw_m7 210 rfl) rfl
theorem q1733 : (Jvm.Cond.fieldLink "FollowTheSunModel" (56 : Nat) "FollowTheSunModel" "isFeast" "[Z") ∈ lw_all := lw_g (lw_at lw_m7 211 rfl) rfl
theorem q1734 : (Jvm.Cond.fieldLink "FollowTheSunModel" (60 : Nat) "FollowTheSunModel" "known" "[I") ∈ lw_all := lw_g (lw_at lw_m7 212 rfl) rfl
theorem q1735 : (Jvm.Cond.fieldLink "FollowTheSunModel" (108 : Nat) "FollowTheSunModel" "lose" "I") ∈ lw_all := lw_g (lw_at lw_m7 213 rfl) rfl
theorem q1736 : (Jvm.Cond.fieldLink "FollowTheSunModel" (111 : Nat) "FollowTheSunModel" "miss" "I") ∈ lw_all := lw_g (lw_at lw_m7 214 rfl) rfl
theorem q1737 : (Jvm.Cond.fieldLink "FollowTheSunModel" (151 : Nat) "FollowTheSunModel" "pieces" "I") ∈ lw_all := lw_g (lw_at lw_m7 215 rfl) rfl
theorem q1738 : (Jvm.Cond.fieldLink "FollowTheSunModel" (154 : Nat) "FollowTheSunModel" "craftOf" "[I") ∈ lw_all := lw_g (lw_at lw_m7 216 rfl) rfl
theorem q1739 : (Jvm.Cond.fieldLink "FollowTheSunModel" (146 : Nat) "FollowTheSunModel" "lengthOf" "[I") ∈ lw_all := lw_g (lw_at lw_m7 217 rfl) rfl
theorem q1740 : (Jvm.Cond.fieldLink "FollowTheSunModel" (160 : Nat) "FollowTheSunModel" "afterOf" "[I") ∈ lw_all := lw_g (lw_at lw_m7 218 rfl) rfl
theorem q1741 : (Jvm.Cond.fieldLink "FollowTheSunModel" (143 : Nat) "FollowTheSunModel" "bornAt" "[I") ∈ lw_all := lw_g (lw_at lw_m7 219 rfl) rfl
theorem q1742 : (Jvm.Cond.fieldLink "FollowTheSunModel" (163 : Nat) "FollowTheSunModel" "asksOf" "[I") ∈ lw_all := lw_g (lw_at lw_m7 220 rfl) rfl
theorem q1743 : (Jvm.Cond.fieldLink "FollowTheSunModel" (157 : Nat) "FollowTheSunModel" "every" "[I") ∈ lw_all := lw_g (lw_at lw_m7 221 rfl) rfl
theorem q1744 : (Jvm.Cond.fieldLink "FollowTheSunModel" (140 : Nat) "FollowTheSunModel" "state" "[I") ∈ lw_all := lw_g (lw_at lw_m7 222 rfl) rfl
theorem q1745 : (Jvm.Cond.fieldLink "FollowTheSunModel" (322 : Nat) "FollowTheSunModel" "aside" "[I") ∈ lw_all := lw_g (lw_at lw_m7 223 rfl) rfl
theorem q1746 : (Jvm.Cond.fieldLink "FollowTheSunModel" (196 : Nat) "FollowTheSunModel" "code" "[I") ∈ lw_all := lw_g (lw_at lw_m7 224 rfl) rfl
theorem q1747 : (Jvm.Cond.fieldLink "FollowTheSunModel" (199 : Nat) "FollowTheSunModel" "codes" "[I") ∈ lw_all := lw_g (lw_at lw_m7 225 rfl) rfl
theorem q1748 : (Jvm.Cond.fieldLink "FollowTheSunModel" (246 : Nat) "FollowTheSunModel" "stack" "[I") ∈ lw_all := lw_g (lw_at lw_m7 226 rfl) rfl
theorem q1749 : (Jvm.Cond.fieldLink "FollowTheSunModel" (173 : Nat) "FollowTheSunModel" "tape" "[I") ∈ lw_all := lw_g (lw_at lw_m7 227 rfl) rfl
theorem q1750 : (Jvm.Cond.fieldLink "FollowTheSunModel" (170 : Nat) "FollowTheSunModel" "taped" "I") ∈ lw_all := lw_g (lw_at lw_m7 228 rfl) rfl
theorem q1751 : (Jvm.Cond.fieldLink "FollowTheSunModel" (176 : Nat) "FollowTheSunModel" "place" "I") ∈ lw_all := lw_g (lw_at lw_m7 229 rfl) rfl
theorem q1752 : (Jvm.Cond.fieldLink "FollowTheSunModel" (179 : Nat) "FollowTheSunModel" "to" "I") ∈ lw_all := lw_g (lw_at lw_m7 230 rfl) rfl
theorem q1753 : (Jvm.Cond.fieldLink "FollowTheSunModel" (217 : Nat) "FollowTheSunModel" "nest" "I") ∈ lw_all := lw_g (lw_at lw_m7 231 rfl) rfl
theorem q1754 : (Jvm.Cond.fieldLink "FollowTheSunModel" (287 : Nat) "FollowTheSunModel" "hands" "[I") ∈ lw_all := lw_g (lw_at lw_m7 232 rfl) rfl
theorem q1755 : (Jvm.Cond.fieldLink "FollowTheSunModel" (278 : Nat) "FollowTheSunModel" "readyThen" "I") ∈ lw_all := lw_g (lw_at lw_m7 233 rfl) rfl
theorem q1756 : (Jvm.Cond.fieldLink "FollowTheSunModel" (281 : Nat) "FollowTheSunModel" "waitedThen" "I") ∈ lw_all := lw_g (lw_at lw_m7 234 rfl) rfl
theorem q1757 : (Jvm.Cond.fieldLink "FollowTheSunModel" (284 : Nat) "FollowTheSunModel" "workedThen" "I") ∈ lw_all := lw_g (lw_at lw_m7 235 rfl) rfl
theorem q1758 : (Jvm.Cond.fieldLink "FollowTheSunModel" (271 : Nat) "FollowTheSunModel" "isOneHouse" "Z") ∈ lw_all := lw_g (lw_at lw_m7 236 rfl) rfl
theorem q1759 : (Jvm.Cond.fieldLink "FollowTheSunModel" (338 : Nat) "FollowTheSunModel" "nowAt" "[I") ∈ lw_all := lw_g (lw_at lw_m7 237 rfl) rfl
theorem q1760 : (Jvm.Cond.fieldLink "FollowTheSunModel" (347 : Nat) "FollowTheSunModel" "nextAt" "[I") ∈ lw_all := lw_g (lw_at lw_m7 238 rfl) rfl
theorem q1761 : (Jvm.Cond.fieldLink "FollowTheSunModel" (335 : Nat) "FollowTheSunModel" "lostNow" "[I") ∈ lw_all := lw_g (lw_at lw_m7 239 rfl) rfl
theorem q1762 : (Jvm.Cond.fieldLink "FollowTheSunModel" (350 : Nat) "FollowTheSunModel" "oneHanded" "I") ∈ lw_all := lw_g (lw_at lw_m8 0 rfl) rfl
theorem q1763 : (Jvm.Cond.fieldLink "FollowTheSunModel" (360 : Nat) "FollowTheSunModel" "oneRoute" "I") ∈ lw_all := lw_g (lw_at lw_m8 1 rfl) rfl
theorem q1764 : (Jvm.Cond.fieldLink "FollowTheSunModel" (394 : Nat) "FollowTheSunModel" "paidNow" "[J") ∈ lw_all := lw_g (lw_at lw_m8 2 rfl) rfl
theorem q1765 : (Jvm.Cond.fieldLink "FollowTheSunModel" (374 : Nat) "FollowTheSunModel" "paidNext" "[J") ∈ lw_all := lw_g (lw_at lw_m8 3 rfl) rfl
theorem q1766 : (Jvm.Cond.fieldLink "FollowTheSunModel" (384 : Nat) "FollowTheSunModel" "cheapBest" "J") ∈ lw_all := lw_g (lw_at lw_m8 4 rfl) rfl
theorem q1767 : (Jvm.Cond.fieldLink "FollowTheSunModel" (379 : Nat) "FollowTheSunModel" "cheapHanded" "I") ∈ lw_all := lw_g (lw_at lw_m8 5 rfl) rfl
theorem q1768 : (Jvm.Cond.fieldLink "FollowTheSunModel" (405 : Nat) "FollowTheSunModel" "lieWaited" "I") ∈ lw_all := lw_g (lw_at lw_m8 6 rfl) rfl
theorem q1769 : (Jvm.Cond.fieldLink "FollowTheSunModel" (411 : Nat) "FollowTheSunModel" "bornThen" "[I") ∈ lw_all := lw_g (lw_at lw_m8 7 rfl) rfl
theorem q1770 : (Jvm.Cond.fieldLink "FollowTheSunModel" (425 : Nat) "FollowTheSunModel" "homesBest" "[I") ∈ lw_all := lw_g (lw_at lw_m8 8 rfl) rfl
theorem q1771 : (Jvm.Cond.fieldLink "FollowTheSunModel" (434 : Nat) "FollowTheSunModel" "pairs" "I") ∈ lw_all := lw_g (lw_at lw_m8 9 rfl) rfl
theorem q1772 : (Jvm.Cond.fieldLink "FollowTheSunModel" (437 : Nat) "FollowTheSunModel" "pairOne" "[I") ∈ lw_all := lw_g (lw_at lw_m8 10 rfl) rfl
theorem q1773 : (Jvm.Cond.fieldLink "FollowTheSunModel" (440 : Nat) "FollowTheSunModel" "pairOther" "[I") ∈ lw_all := lw_g (lw_at lw_m8 11 rfl) rfl
theorem q1774 : (Jvm.Cond.fieldLink "FollowTheSunModel" (443 : Nat) "FollowTheSunModel" "pairPrice" "[I") ∈ lw_all := lw_g (lw_at lw_m8 12 rfl) rfl
theorem q1775 : (Jvm.Cond.fieldLink "FollowTheSunModel" (446 : Nat) "FollowTheSunModel" "knownThen" "[I") ∈ lw_all := lw_g (lw_at lw_m8 13 rfl) rfl
theorem q1776 : (Jvm.Cond.fieldLink "FollowTheSunModel" (456 : Nat) "FollowTheSunModel" "chance" "[J") ∈ lw_all := lw_g (lw_at lw_m8 14 rfl) rfl
theorem q1777 : (Jvm.Cond.fieldLink "FollowTheSunModel" (469 : Nat) "FollowTheSunModel" "keptPieces" "[I") ∈ lw_all := lw_g (lw_at lw_m8 15 rfl) rfl
theorem q1778 : (Jvm.Cond.fieldLink "FollowTheSunModel" (472 : Nat) "FollowTheSunModel" "kept" "[I") ∈ lw_all := lw_g (lw_at lw_m8 16 rfl) rfl
theorem q1779 : (Jvm.Cond.lays "FollowTheSunModel" "FollowTheSunModel" "thrown" "I") ∈ lw_all := lw_g (lw_at lw_m8 17 rfl) rfl
theorem q1780 : (Jvm.Cond.soleField "FollowTheSunModel" "thrown") ∈ lw_all := lw_g (lw_at lw_m8 18 rfl) rfl
theorem q1781 : (Jvm.Cond.lays "FollowTheSunModel" "FollowTheSunModel" "rows" "I") ∈ lw_all := lw_g (lw_at lw_m8 19 rfl) rfl
theorem q1782 : (Jvm.Cond.soleField "FollowTheSunModel" "rows") ∈ lw_all := lw_g (lw_at lw_m8 20 rfl) rfl
theorem q1783 : (Jvm.Cond.laysFinal "FollowTheSunModel" "FollowTheSunModel" "row" "[J") ∈ lw_all := lw_g (lw_at lw_m8 21 rfl) rfl
theorem q1784 : (Jvm.Cond.soleField "FollowTheSunModel" "row") ∈ lw_all := lw_g (lw_at lw_m8 22 rfl) rfl
theorem q1785 : (Jvm.Cond.lays "FollowTheSunModel" "FollowTheSunModel" "offices" "I") ∈ lw_all := lw_g (lw_at lw_m8 23 rfl) rfl
theorem q1786 : (Jvm.Cond.soleField "FollowTheSunModel" "offices") ∈ lw_all := lw_g (lw_at lw_m8 24 rfl) rfl
theorem q1787 : (Jvm.Cond.laysFinal "FollowTheSunModel" "FollowTheSunModel" "zone" "[I") ∈ lw_all := lw_g (lw_at lw_m8 25 rfl) rfl
theorem q1788 : (Jvm.Cond.soleField "FollowTheSunModel" "zone") ∈ lw_all := lw_g (lw_at lw_m8 26 rfl) rfl
theorem q1789 : (Jvm.Cond.laysFinal "FollowTheSunModel" "FollowTheSunModel" "from" "[I") ∈ lw_all := lw_g (lw_at lw_m8 27 rfl) rfl
theorem q1790 : (Jvm.Cond.soleField "FollowTheSunModel" "from") ∈ lw_all := lw_g (lw_at lw_m8 28 rfl) rfl
theorem q1791 : (Jvm.Cond.laysFinal "FollowTheSunModel" "FollowTheSunModel" "longOf" "[I") ∈ lw_all := lw_g (lw_at lw_m8 29 rfl) rfl
theorem q1792 : (Jvm.Cond.soleField "FollowTheSunModel" "longOf") ∈ lw_all := lw_g (lw_at lw_m8 30 rfl) rfl
theorem q1793 : (Jvm.Cond.laysFinal "FollowTheSunModel" "FollowTheSunModel" "payOf" "[I") ∈ lw_all := lw_g (lw_at lw_m8 31 rfl) rfl
theorem q1794 : (Jvm.Cond.soleField "FollowTheSunModel" "payOf") ∈ lw_all := lw_g (lw_at lw_m8 32 rfl) rfl
theorem q1795 : (Jvm.Cond.laysFinal "FollowTheSunModel" "FollowTheSunModel" "people" "[I") ∈ lw_all := lw_g (lw_at lw_m8 33 rfl) rfl
theorem q1796 : (Jvm.Cond.soleField "FollowTheSunModel" "people") ∈ lw_all := lw_g (lw_at lw_m8 34 rfl) rfl
theorem q1797 : (Jvm.Cond.laysFinal "FollowTheSunModel" "FollowTheSunModel" "crafts" "[I") ∈ lw_all := lw_g (lw_at lw_m8 35 rfl) rfl
theorem q1798 : (Jvm.Cond.soleField "FollowTheSunModel" "crafts") ∈ lw_all := lw_g (lw_at lw_m8 36 rfl) rfl
theorem q1799 : (Jvm.Cond.laysFinal "FollowTheSunModel" "FollowTheSunModel" "clockHour" "[I") ∈ lw_all := lw_g (lw_at lw_m8 37 rfl) rfl
theorem q1800 : (Jvm.Cond.soleField "FollowTheSunModel" "clockHour") ∈ lw_all := lw_g (lw_at lw_m8 38 rfl) rfl
theorem q1801 : (Jvm.Cond.laysFinal "FollowTheSunModel" "FollowTheSunModel" "clockBy" "[I") ∈ lw_all := lw_g (lw_at lw_m8 39 rfl) rfl
theorem q1802 : (Jvm.Cond.soleField "FollowTheSunModel" "clockBy") ∈ lw_all := lw_g (lw_at lw_m8 40 rfl) rfl
theorem q1803 : (Jvm.Cond.laysFinal "FollowTheSunModel" "FollowTheSunModel" "isFeast" "[Z") ∈ lw_all := lw_g (lw_at lw_m8 41 rfl) rfl
theorem q1804 : (Jvm.Cond.soleField "FollowTheSunModel" "isFeast") ∈ lw_all := lw_g (lw_at lw_m8 42 rfl) rfl
theorem q1805 : (Jvm.Cond.laysFinal "FollowTheSunModel" "FollowTheSunModel" "known" "[I") ∈ lw_all := lw_g (lw_at lw_m8 43 rfl) rfl
theorem q1806 : (Jvm.Cond.soleField "FollowTheSunModel" "known") ∈ lw_all := lw_g (lw_at lw_m8 44 rfl) rfl
theorem q1807 : (Jvm.Cond.lays "FollowTheSunModel" "FollowTheSunModel" "lose" "I") ∈ lw_all := lw_g (lw_at lw_m8 45 rfl) rfl
theorem q1808 : (Jvm.Cond.soleField "FollowTheSunModel" "lose") ∈ lw_all := lw_g (lw_at lw_m8 46 rfl) rfl
theorem q1809 : (Jvm.Cond.lays "FollowTheSunModel" "FollowTheSunModel" "miss" "I") ∈ lw_all := lw_g (lw_at lw_m8 47 rfl) rfl
theorem q1810 : (Jvm.Cond.soleField "FollowTheSunModel" "miss") ∈ lw_all := lw_g (lw_at lw_m8 48 rfl) rfl
theorem q1811 : (Jvm.Cond.lays "FollowTheSunModel" "FollowTheSunModel" "pieces" "I") ∈ lw_all := lw_g (lw_at lw_m8 49 rfl) rfl
theorem q1812 : (Jvm.Cond.soleField "FollowTheSunModel" "pieces") ∈ lw_all := lw_g (lw_at lw_m8 50 rfl) rfl
theorem q1813 : (Jvm.Cond.laysFinal "FollowTheSunModel" "FollowTheSunModel" "craftOf" "[I") ∈ lw_all := lw_g (lw_at lw_m8 51 rfl) rfl
theorem q1814 : (Jvm.Cond.soleField "FollowTheSunModel" "craftOf") ∈ lw_all := lw_g (lw_at lw_m8 52 rfl) rfl
theorem q1815 : (Jvm.Cond.laysFinal "FollowTheSunModel" "FollowTheSunModel" "lengthOf" "[I") ∈ lw_all := lw_g (lw_at lw_m8 53 rfl) rfl
theorem q1816 : (Jvm.Cond.soleField "FollowTheSunModel" "lengthOf") ∈ lw_all := lw_g (lw_at lw_m8 54 rfl) rfl
theorem q1817 : (Jvm.Cond.laysFinal "FollowTheSunModel" "FollowTheSunModel" "afterOf" "[I") ∈ lw_all := lw_g (lw_at lw_m8 55 rfl) rfl
theorem q1818 : (Jvm.Cond.soleField "FollowTheSunModel" "afterOf") ∈ lw_all := lw_g (lw_at lw_m8 56 rfl) rfl
theorem q1819 : (Jvm.Cond.laysFinal "FollowTheSunModel" "FollowTheSunModel" "bornAt" "[I") ∈ lw_all := lw_g (lw_at lw_m8 57 rfl) rfl
theorem q1820 : (Jvm.Cond.soleField "FollowTheSunModel" "bornAt") ∈ lw_all := lw_g (lw_at lw_m8 58 rfl) rfl
theorem q1821 : (Jvm.Cond.laysFinal "FollowTheSunModel" "FollowTheSunModel" "asksOf" "[I") ∈ lw_all := lw_g (lw_at lw_m8 59 rfl) rfl
theorem q1822 : (Jvm.Cond.soleField "FollowTheSunModel" "asksOf") ∈ lw_all := lw_g (lw_at lw_m8 60 rfl) rfl
theorem q1823 : (Jvm.Cond.laysFinal "FollowTheSunModel" "FollowTheSunModel" "every" "[I") ∈ lw_all := lw_g (lw_at lw_m8 61 rfl) rfl
theorem q1824 : (Jvm.Cond.soleField "FollowTheSunModel" "every") ∈ lw_all := lw_g (lw_at lw_m8 62 rfl) rfl
theorem q1825 : (Jvm.Cond.laysFinal "FollowTheSunModel" "FollowTheSunModel" "state" "[I") ∈ lw_all := lw_g (lw_at lw_m8 63 rfl) rfl
theorem q1826 : (Jvm.Cond.soleField "FollowTheSunModel" "state") ∈ lw_all := lw_g (lw_at lw_m8 64 rfl) rfl
theorem q1827 : (Jvm.Cond.laysFinal "FollowTheSunModel" "FollowTheSunModel" "aside" "[I") ∈ lw_all := lw_g (lw_at lw_m8 65 rfl) rfl
theorem q1828 : (Jvm.Cond.soleField "FollowTheSunModel" "aside") ∈ lw_all := lw_g (lw_at lw_m8 66 rfl) rfl
theorem q1829 : (Jvm.Cond.laysFinal "FollowTheSunModel" "FollowTheSunModel" "code" "[I") ∈ lw_all := lw_g (lw_at lw_m8 67 rfl) rfl
theorem q1830 : (Jvm.Cond.soleField "FollowTheSunModel" "code") ∈ lw_all := lw_g (lw_at lw_m8 68 rfl) rfl
theorem q1831 : (Jvm.Cond.laysFinal "FollowTheSunModel" "FollowTheSunModel" "codes" "[I") ∈ lw_all := lw_g (lw_at lw_m8 69 rfl) rfl
theorem q1832 : (Jvm.Cond.soleField "FollowTheSunModel" "codes") ∈ lw_all := lw_g (lw_at lw_m8 70 rfl) rfl
theorem q1833 : (Jvm.Cond.laysFinal "FollowTheSunModel" "FollowTheSunModel" "stack" "[I") ∈ lw_all := lw_g (lw_at lw_m8 71 rfl) rfl
theorem q1834 : (Jvm.Cond.soleField "FollowTheSunModel" "stack") ∈ lw_all := lw_g (lw_at lw_m8 72 rfl) rfl
theorem q1835 : (Jvm.Cond.laysFinal "FollowTheSunModel" "FollowTheSunModel" "tape" "[I") ∈ lw_all := lw_g (lw_at lw_m8 73 rfl) rfl
theorem q1836 : (Jvm.Cond.soleField "FollowTheSunModel" "tape") ∈ lw_all := lw_g (lw_at lw_m8 74 rfl) rfl
theorem q1837 : (Jvm.Cond.lays "FollowTheSunModel" "FollowTheSunModel" "taped" "I") ∈ lw_all := lw_g (lw_at lw_m8 75 rfl) rfl
theorem q1838 : (Jvm.Cond.soleField "FollowTheSunModel" "taped") ∈ lw_all := lw_g (lw_at lw_m8 76 rfl) rfl
theorem q1839 : (Jvm.Cond.lays "FollowTheSunModel" "FollowTheSunModel" "place" "I") ∈ lw_all := lw_g (lw_at lw_m8 77 rfl) rfl
theorem q1840 : (Jvm.Cond.soleField "FollowTheSunModel" "place") ∈ lw_all := lw_g (lw_at lw_m8 78 rfl) rfl
theorem q1841 : (Jvm.Cond.lays "FollowTheSunModel" "FollowTheSunModel" "to" "I") ∈ lw_all := lw_g (lw_at lw_m8 79 rfl) rfl
theorem q1842 : (Jvm.Cond.soleField "FollowTheSunModel" "to") ∈ lw_all := lw_g (lw_at lw_m8 80 rfl) rfl
theorem q1843 : (Jvm.Cond.lays "FollowTheSunModel" "FollowTheSunModel" "nest" "I") ∈ lw_all := lw_g (lw_at lw_m8 81 rfl) rfl
theorem q1844 : (Jvm.Cond.soleField "FollowTheSunModel" "nest") ∈ lw_all := lw_g (lw_at lw_m8 82 rfl) rfl
theorem q1845 : (Jvm.Cond.laysFinal "FollowTheSunModel" "FollowTheSunModel" "hands" "[I") ∈ lw_all := lw_g (lw_at lw_m8 83 rfl) rfl
theorem q1846 : (Jvm.Cond.soleField "FollowTheSunModel" "hands") ∈ lw_all := lw_g (lw_at lw_m8 84 rfl) rfl
theorem q1847 : (Jvm.Cond.lays "FollowTheSunModel" "FollowTheSunModel" "readyThen" "I") ∈ lw_all := lw_g (lw_at lw_m8 85 rfl) rfl
theorem q1848 : (Jvm.Cond.soleField "FollowTheSunModel" "readyThen") ∈ lw_all := lw_g (lw_at lw_m8 86 rfl) rfl
theorem q1849 : (Jvm.Cond.lays "FollowTheSunModel" "FollowTheSunModel" "waitedThen" "I") ∈ lw_all := lw_g (lw_at lw_m8 87 rfl) rfl
theorem q1850 : (Jvm.Cond.soleField "FollowTheSunModel" "waitedThen") ∈ lw_all := lw_g (lw_at lw_m8 88 rfl) rfl
theorem q1851 : (Jvm.Cond.lays "FollowTheSunModel" "FollowTheSunModel" "workedThen" "I") ∈ lw_all := lw_g (lw_at lw_m8 89 rfl) rfl
theorem q1852 : (Jvm.Cond.soleField "FollowTheSunModel" "workedThen") ∈ lw_all := lw_g (lw_at lw_m8 90 rfl) rfl
theorem q1853 : (Jvm.Cond.lays "FollowTheSunModel" "FollowTheSunModel" "isOneHouse" "Z") ∈ lw_all := lw_g (lw_at lw_m8 91 rfl) rfl
theorem q1854 : (Jvm.Cond.soleField "FollowTheSunModel" "isOneHouse") ∈ lw_all := lw_g (lw_at lw_m8 92 rfl) rfl
theorem q1855 : (Jvm.Cond.lays "FollowTheSunModel" "FollowTheSunModel" "nowAt" "[I") ∈ lw_all := lw_g (lw_at lw_m8 93 rfl) rfl
theorem q1856 : (Jvm.Cond.soleField "FollowTheSunModel" "nowAt") ∈ lw_all := lw_g (lw_at lw_m8 94 rfl) rfl
theorem q1857 : (Jvm.Cond.lays "FollowTheSunModel" "FollowTheSunModel" "nextAt" "[I") ∈ lw_all := lw_g (lw_at lw_m8 95 rfl) rfl
theorem q1858 : (Jvm.Cond.soleField "FollowTheSunModel" "nextAt") ∈ lw_all := lw_g (lw_at lw_m8 96 rfl) rfl
theorem q1859 : (Jvm.Cond.laysFinal "FollowTheSunModel" "FollowTheSunModel" "lostNow" "[I") ∈ lw_all := lw_g (lw_at lw_m8 97 rfl) rfl
theorem q1860 : (Jvm.Cond.soleField "FollowTheSunModel" "lostNow") ∈ lw_all := lw_g (lw_at lw_m8 98 rfl) rfl
theorem q1861 : (Jvm.Cond.lays "FollowTheSunModel" "FollowTheSunModel" "oneHanded" "I") ∈ lw_all := lw_g (lw_at lw_m8 99 rfl) rfl
theorem q1862 : (Jvm.Cond.soleField "FollowTheSunModel" "oneHanded") ∈ lw_all := lw_g (lw_at lw_m8 100 rfl) rfl
theorem q1863 : (Jvm.Cond.lays "FollowTheSunModel" "FollowTheSunModel" "oneRoute" "I") ∈ lw_all := lw_g (lw_at lw_m8 101 rfl) rfl
theorem q1864 : (Jvm.Cond.soleField "FollowTheSunModel" "oneRoute") ∈ lw_all := lw_g (lw_at lw_m8 102 rfl) rfl
theorem q1865 : (Jvm.Cond.lays "FollowTheSunModel" "FollowTheSunModel" "paidNow" "[J") ∈ lw_all := lw_g (lw_at lw_m8 103 rfl) rfl
theorem q1866 : (Jvm.Cond.soleField "FollowTheSunModel" "paidNow") ∈ lw_all := lw_g (lw_at lw_m8 104 rfl) rfl
theorem q1867 : (Jvm.Cond.lays "FollowTheSunModel" "FollowTheSunModel" "paidNext" "[J") ∈ lw_all := lw_g (lw_at lw_m8 105 rfl) rfl
theorem q1868 : (Jvm.Cond.soleField "FollowTheSunModel" "paidNext") ∈ lw_all := lw_g (lw_at lw_m8 106 rfl) rfl
theorem q1869 : (Jvm.Cond.lays "FollowTheSunModel" "FollowTheSunModel" "cheapBest" "J") ∈ lw_all := lw_g (lw_at lw_m8 107 rfl) rfl
theorem q1870 : (Jvm.Cond.soleField "FollowTheSunModel" "cheapBest") ∈ lw_all := lw_g (lw_at lw_m8 108 rfl) rfl
theorem q1871 : (Jvm.Cond.lays "FollowTheSunModel" "FollowTheSunModel" "cheapHanded" "I") ∈ lw_all := lw_g (lw_at lw_m8 109 rfl) rfl
theorem q1872 : (Jvm.Cond.soleField "FollowTheSunModel" "cheapHanded") ∈ lw_all := lw_g (lw_at lw_m8 110 rfl) rfl
theorem q1873 : (Jvm.Cond.lays "FollowTheSunModel" "FollowTheSunModel" "lieWaited" "I") ∈ lw_all := lw_g (lw_at lw_m8 111 rfl) rfl
theorem q1874 : (Jvm.Cond.soleField "FollowTheSunModel" "lieWaited") ∈ lw_all := lw_g (lw_at lw_m8 112 rfl) rfl
theorem q1875 : (Jvm.Cond.laysFinal "FollowTheSunModel" "FollowTheSunModel" "bornThen" "[I") ∈ lw_all := lw_g (lw_at lw_m8 113 rfl) rfl
theorem q1876 : (Jvm.Cond.soleField "FollowTheSunModel" "bornThen") ∈ lw_all := lw_g (lw_at lw_m8 114 rfl) rfl
theorem q1877 : (Jvm.Cond.laysFinal "FollowTheSunModel" "FollowTheSunModel" "homesBest" "[I") ∈ lw_all := lw_g (lw_at lw_m8 115 rfl) rfl
theorem q1878 : (Jvm.Cond.soleField "FollowTheSunModel" "homesBest") ∈ lw_all := lw_g (lw_at lw_m8 116 rfl) rfl
theorem q1879 : (Jvm.Cond.lays "FollowTheSunModel" "FollowTheSunModel" "pairs" "I") ∈ lw_all := lw_g (lw_at lw_m8 117 rfl) rfl
theorem q1880 : (Jvm.Cond.soleField "FollowTheSunModel" "pairs") ∈ lw_all := lw_g (lw_at lw_m8 118 rfl) rfl
theorem q1881 : (Jvm.Cond.laysFinal "FollowTheSunModel" "FollowTheSunModel" "pairOne" "[I") ∈ lw_all := lw_g (lw_at lw_m8 119 rfl) rfl
theorem q1882 : (Jvm.Cond.soleField "FollowTheSunModel" "pairOne") ∈ lw_all := lw_g (lw_at lw_m8 120 rfl) rfl
theorem q1883 : (Jvm.Cond.laysFinal "FollowTheSunModel" "FollowTheSunModel" "pairOther" "[I") ∈ lw_all := lw_g (lw_at lw_m8 121 rfl) rfl
theorem q1884 : (Jvm.Cond.soleField "FollowTheSunModel" "pairOther") ∈ lw_all := lw_g (lw_at lw_m8 122 rfl) rfl
theorem q1885 : (Jvm.Cond.laysFinal "FollowTheSunModel" "FollowTheSunModel" "pairPrice" "[I") ∈ lw_all := lw_g (lw_at lw_m8 123 rfl) rfl
theorem q1886 : (Jvm.Cond.soleField "FollowTheSunModel" "pairPrice") ∈ lw_all := lw_g (lw_at lw_m8 124 rfl) rfl
theorem q1887 : (Jvm.Cond.laysFinal "FollowTheSunModel" "FollowTheSunModel" "knownThen" "[I") ∈ lw_all := lw_g (lw_at lw_m8 125 rfl) rfl
theorem q1888 : (Jvm.Cond.soleField "FollowTheSunModel" "knownThen") ∈ lw_all := lw_g (lw_at lw_m8 126 rfl) rfl
theorem q1889 : (Jvm.Cond.laysFinal "FollowTheSunModel" "FollowTheSunModel" "chance" "[J") ∈ lw_all := lw_g (lw_at lw_m8 127 rfl) rfl
theorem q1890 : (Jvm.Cond.soleField "FollowTheSunModel" "chance") ∈ lw_all := lw_g (lw_at lw_m8 128 rfl) rfl
theorem q1891 : (Jvm.Cond.laysFinal "FollowTheSunModel" "FollowTheSunModel" "keptPieces" "[I") ∈ lw_all := lw_g (lw_at lw_m8 129 rfl) rfl
theorem q1892 : (Jvm.Cond.soleField "FollowTheSunModel" "keptPieces") ∈ lw_all := lw_g (lw_at lw_m8 130 rfl) rfl
theorem q1893 : (Jvm.Cond.laysFinal "FollowTheSunModel" "FollowTheSunModel" "kept" "[I") ∈ lw_all := lw_g (lw_at lw_m8 131 rfl) rfl
theorem q1894 : (Jvm.Cond.soleField "FollowTheSunModel" "kept") ∈ lw_all := lw_g (lw_at lw_m8 132 rfl) rfl
theorem q1895 : (Jvm.Cond.superclass "FollowTheSunModel" "java/lang/Object") ∈ lw_all := lw_g (lw_at lw_m8 133 rfl) rfl
theorem q1897 : (Jvm.Cond.instanceMethod ({ cls := "FollowTheSunModel", name := "row", desc := "(I)J" } : Jvm.MethodName)) ∈ lw_all := lw_g (lw_at lw_m8 135 rfl) rfl
theorem q1898 : (Jvm.Cond.selects "FollowTheSunModel" ({ cls := "FollowTheSunModel", name := "row", desc := "(I)J" } : Jvm.MethodName) ({ cls := "FollowTheSunModel", name := "row", desc := "(I)J" } : Jvm.MethodName)) ∈ lw_all := lw_g (lw_at lw_m8 136 rfl) rfl
theorem q1899 : (Jvm.Cond.code ({ cls := "FollowTheSunModel", name := "row", desc := "(I)J" } : Jvm.MethodName) prog_19_method_104_code (2 : Nat) (Option.some Jvm.ClassFile.FieldType.long)) ∈ lw_all := lw_g (lw_at lw_m8 137 rfl) rfl
theorem q1908 : (Jvm.Cond.castable "FollowTheSunModel" "java/lang/Object") ∈ lw_tbl := lw_at lw_m8 146 rfl
theorem in_X5 : ∀ w ∈ wsX50, w ∈ lw_all := lw_in wsX50 [1779, 1781, 1783, 1785, 1787, 1789, 1791, 1793, 1795, 1797, 1799, 1801, 1803, 1805, 1807, 1809, 1811, 1813, 1815, 1817, 1819, 1821, 1823, 1825, 1827, 1829, 1831, 1833, 1835, 1837, 1839, 1841, 1843, 1845, 1847, 1849, 1851, 1853, 1855, 1857, 1859, 1861, 1863, 1865, 1867, 1869, 1871, 1873, 1875, 1877, 1879, 1881, 1883, 1885, 1887, 1889, 1891, 1893] (by decide +kernel) (by decide +kernel)

/-! FollowTheSun$Office -/
def RX6 : String := "FollowTheSun$Office"
def TX6 : u_T := fun k => match k with
  | 0 => ("FollowTheSun$Office", "zone", "I", true)
  | 1 => ("FollowTheSun$Office", "from", "I", true)
  | 2 => ("FollowTheSun$Office", "length", "I", true)
  | 3 => ("FollowTheSun$Office", "pay", "I", true)
  | 4 => ("FollowTheSun$Office", "people", "I", true)
  | 5 => ("FollowTheSun$Office", "crafts", "I", true)
  | 6 => ("FollowTheSun$Office", "putFrom", "I", false)
  | 7 => ("FollowTheSun$Office", "putBy", "I", false)
  | _ => ("FollowTheSun$Office", "feasts", "[Z", true)
def tyX6 : Nat → FieldType := fun k => match k with
  | 0 => .int
  | 1 => .int
  | 2 => .int
  | 3 => .int
  | 4 => .int
  | 5 => .int
  | 6 => .int
  | 7 => .int
  | _ => .array .boolean
abbrev wsX60 : List Cond := u_ws RX6 TX6 9
theorem nmX6 : ∀ a, a < 9 → ∀ b, b < 9 → a ≠ b → (TX6 a).2.1 ≠ (TX6 b).2.1 := by decide +kernel
theorem tyX6_ok : ∀ k, k < 9 → parseFieldDescriptor (TX6 k).2.2.1 = some (tyX6 k) := by decide +kernel
abbrev cX6_init : ByteArray := prog_10_method_1_code
def yX6_init : MethodName := ⟨RX6, "<init>", "(IIIIII)V"⟩
abbrev cX6_isOpen : ByteArray := prog_10_method_2_code
def yX6_isOpen : MethodName := ⟨RX6, "isOpen", "(I)Z"⟩
theorem q88 : (Jvm.Cond.initialized "FollowTheSun$Office") ∈ lw_all := lw_g (lw_at lw_m1 6 rfl) rfl
theorem q333 : (Jvm.Cond.instantiable "FollowTheSun$Office" (9 : Nat)) ∈ lw_all := lw_g (lw_at lw_m2 11 rfl) rfl
theorem q335 : (Jvm.Cond.instanceMethod ({ cls := "FollowTheSun$Office", name := "<init>", desc := "(IIIIII)V" } : Jvm.MethodName)) ∈ lw_all := lw_g (lw_at lw_m2 13 rfl) rfl
theorem q336 : (Jvm.Cond.code ({ cls := "FollowTheSun$Office", name := "<init>", desc := "(IIIIII)V" } : Jvm.MethodName) prog_10_method_1_code (7 : Nat) (Option.none : Option Jvm.ClassFile.FieldType)) ∈ lw_all := lw_g (lw_at lw_m2 14 rfl) rfl
theorem q337 : (Jvm.Cond.methodLink "FollowTheSun$Office" (3 : Nat) ({ cls := "java/lang/Object", name := "<init>", desc := "()V" } : Jvm.MethodName)) ∈ lw_all := lw_g (lw_at lw_m2 15 rfl) rfl
theorem q338 : (Jvm.Cond.fieldLink "FollowTheSun$Office" (15 : Nat) "FollowTheSun$Office" "zone" "I") ∈ lw_all := lw_g (lw_at lw_m2 16 rfl) rfl
theorem q340 : (Jvm.Cond.fieldLink "FollowTheSun$Office" (19 : Nat) "FollowTheSun$Office" "from" "I") ∈ lw_all := lw_g (lw_at lw_m2 18 rfl) rfl
theorem q342 : (Jvm.Cond.fieldLink "FollowTheSun$Office" (22 : Nat) "FollowTheSun$Office" "length" "I") ∈ lw_all := lw_g (lw_at lw_m2 20 rfl) rfl
theorem q344 : (Jvm.Cond.fieldLink "FollowTheSun$Office" (25 : Nat) "FollowTheSun$Office" "pay" "I") ∈ lw_all := lw_g (lw_at lw_m2 22 rfl) rfl
theorem q349 : (Jvm.Cond.fieldLink "FollowTheSun$Office" (28 : Nat) "FollowTheSun$Office" "people" "I") ∈ lw_all := lw_g (lw_at lw_m2 27 rfl) rfl
theorem q352 : (Jvm.Cond.fieldLink "FollowTheSun$Office" (31 : Nat) "FollowTheSun$Office" "crafts" "I") ∈ lw_all := lw_g (lw_at lw_m2 30 rfl) rfl
theorem q355 : (Jvm.Cond.fieldLink "FollowTheSun$Office" (34 : Nat) "FollowTheSun$Office" "putFrom" "I") ∈ lw_all := lw_g (lw_at lw_m2 33 rfl) rfl
theorem q357 : (Jvm.Cond.fieldLink "FollowTheSun$Office" (37 : Nat) "FollowTheSun$Office" "putBy" "I") ∈ lw_all := lw_g (lw_at lw_m2 35 rfl) rfl
theorem q359 : (Jvm.Cond.fieldLink "FollowTheSun$Office" (9 : Nat) "FollowTheSun$Office" "feasts" "[Z") ∈ lw_all := lw_g (lw_at lw_m2 37 rfl) rfl
theorem q361 : (Jvm.Cond.laysFinal "FollowTheSun$Office" "FollowTheSun$Office" "zone" "I") ∈ lw_all := lw_g (lw_at lw_m2 39 rfl) rfl
theorem q362 : (Jvm.Cond.soleField "FollowTheSun$Office" "zone") ∈ lw_all := lw_g (lw_at lw_m2 40 rfl) rfl
theorem q363 : (Jvm.Cond.laysFinal "FollowTheSun$Office" "FollowTheSun$Office" "from" "I") ∈ lw_all := lw_g (lw_at lw_m2 41 rfl) rfl
theorem q364 : (Jvm.Cond.soleField "FollowTheSun$Office" "from") ∈ lw_all := lw_g (lw_at lw_m2 42 rfl) rfl
theorem q365 : (Jvm.Cond.laysFinal "FollowTheSun$Office" "FollowTheSun$Office" "length" "I") ∈ lw_all := lw_g (lw_at lw_m2 43 rfl) rfl
theorem q366 : (Jvm.Cond.soleField "FollowTheSun$Office" "length") ∈ lw_all := lw_g (lw_at lw_m2 44 rfl) rfl
theorem q367 : (Jvm.Cond.laysFinal "FollowTheSun$Office" "FollowTheSun$Office" "pay" "I") ∈ lw_all := lw_g (lw_at lw_m2 45 rfl) rfl
theorem q368 : (Jvm.Cond.soleField "FollowTheSun$Office" "pay") ∈ lw_all := lw_g (lw_at lw_m2 46 rfl) rfl
theorem q369 : (Jvm.Cond.laysFinal "FollowTheSun$Office" "FollowTheSun$Office" "people" "I") ∈ lw_all := lw_g (lw_at lw_m2 47 rfl) rfl
theorem q370 : (Jvm.Cond.soleField "FollowTheSun$Office" "people") ∈ lw_all := lw_g (lw_at lw_m2 48 rfl) rfl
theorem q371 : (Jvm.Cond.laysFinal "FollowTheSun$Office" "FollowTheSun$Office" "crafts" "I") ∈ lw_all := lw_g (lw_at lw_m2 49 rfl) rfl
theorem q372 : (Jvm.Cond.soleField "FollowTheSun$Office" "crafts") ∈ lw_all := lw_g (lw_at lw_m2 50 rfl) rfl
theorem q373 : (Jvm.Cond.lays "FollowTheSun$Office" "FollowTheSun$Office" "putFrom" "I") ∈ lw_all := lw_g (lw_at lw_m2 51 rfl) rfl
theorem q374 : (Jvm.Cond.soleField "FollowTheSun$Office" "putFrom") ∈ lw_all := lw_g (lw_at lw_m2 52 rfl) rfl
theorem q375 : (Jvm.Cond.lays "FollowTheSun$Office" "FollowTheSun$Office" "putBy" "I") ∈ lw_all := lw_g (lw_at lw_m2 53 rfl) rfl
theorem q376 : (Jvm.Cond.soleField "FollowTheSun$Office" "putBy") ∈ lw_all := lw_g (lw_at lw_m2 54 rfl) rfl
theorem q377 : (Jvm.Cond.laysFinal "FollowTheSun$Office" "FollowTheSun$Office" "feasts" "[Z") ∈ lw_all := lw_g (lw_at lw_m2 55 rfl) rfl
theorem q378 : (Jvm.Cond.soleField "FollowTheSun$Office" "feasts") ∈ lw_all := lw_g (lw_at lw_m2 56 rfl) rfl
theorem q379 : (Jvm.Cond.superclass "FollowTheSun$Office" "java/lang/Object") ∈ lw_all := lw_g (lw_at lw_m2 57 rfl) rfl
theorem q506 : (Jvm.Cond.instanceMethod ({ cls := "FollowTheSun$Office", name := "isOpen", desc := "(I)Z" } : Jvm.MethodName)) ∈ lw_all := lw_g (lw_at lw_m2 184 rfl) rfl
theorem q507 : (Jvm.Cond.selects "FollowTheSun$Office" ({ cls := "FollowTheSun$Office", name := "isOpen", desc := "(I)Z" } : Jvm.MethodName) ({ cls := "FollowTheSun$Office", name := "isOpen", desc := "(I)Z" } : Jvm.MethodName)) ∈ lw_all := lw_g (lw_at lw_m2 185 rfl) rfl
theorem q508 : (Jvm.Cond.code ({ cls := "FollowTheSun$Office", name := "isOpen", desc := "(I)Z" } : Jvm.MethodName) prog_10_method_2_code (5 : Nat) (Option.some Jvm.ClassFile.FieldType.boolean)) ∈ lw_all := lw_g (lw_at lw_m2 186 rfl) rfl
theorem q509 : (Jvm.Cond.methodLink "FollowTheSun$Office" (40 : Nat) ({ cls := "java/lang/Math", name := "floorMod", desc := "(II)I" } : Jvm.MethodName)) ∈ lw_all := lw_g (lw_at lw_m2 187 rfl) rfl
theorem q512 : (Jvm.Cond.methodLink "FollowTheSun$Office" (46 : Nat) ({ cls := "java/lang/Math", name := "floorDiv", desc := "(II)I" } : Jvm.MethodName)) ∈ lw_all := lw_g (lw_at lw_m2 190 rfl) rfl
theorem q515 : (Jvm.Cond.methodLinkNest "FollowTheSun$Office" (49 : Nat) ({ cls := "FollowTheSun", name := "in", desc := "(III)Z" } : Jvm.MethodName) "FollowTheSun") ∈ lw_tbl := lw_at lw_m2 193 rfl
theorem q1909 : (Jvm.Cond.castable "FollowTheSun$Office" "java/lang/Object") ∈ lw_tbl := lw_at lw_m8 147 rfl
theorem in_X6 : ∀ w ∈ wsX60, w ∈ lw_all := lw_in wsX60 [361, 363, 365, 367, 369, 371, 373, 375, 377] (by decide +kernel) (by decide +kernel)

/-! FollowTheSun$Piece -/
def RX7 : String := "FollowTheSun$Piece"
def TX7 : u_T := fun k => match k with
  | 0 => ("FollowTheSun$Piece", "craft", "I", true)
  | 1 => ("FollowTheSun$Piece", "length", "I", true)
  | 2 => ("FollowTheSun$Piece", "after", "I", true)
  | 3 => ("FollowTheSun$Piece", "asks", "I", true)
  | 4 => ("FollowTheSun$Piece", "every", "I", true)
  | _ => ("FollowTheSun$Piece", "born", "I", true)
def tyX7 : Nat → FieldType := fun k => match k with
  | 0 => .int
  | 1 => .int
  | 2 => .int
  | 3 => .int
  | 4 => .int
  | _ => .int
abbrev wsX70 : List Cond := u_ws RX7 TX7 6
theorem nmX7 : ∀ a, a < 6 → ∀ b, b < 6 → a ≠ b → (TX7 a).2.1 ≠ (TX7 b).2.1 := by decide +kernel
theorem tyX7_ok : ∀ k, k < 6 → parseFieldDescriptor (TX7 k).2.2.1 = some (tyX7 k) := by decide +kernel
abbrev cX7_init : ByteArray := prog_11_method_1_code
def yX7_init : MethodName := ⟨RX7, "<init>", "(IIIIII)V"⟩
theorem q95 : (Jvm.Cond.initialized "FollowTheSun$Piece") ∈ lw_all := lw_g (lw_at lw_m1 13 rfl) rfl
theorem q554 : (Jvm.Cond.instantiable "FollowTheSun$Piece" (6 : Nat)) ∈ lw_all := lw_g (lw_at lw_m2 232 rfl) rfl
theorem q556 : (Jvm.Cond.instanceMethod ({ cls := "FollowTheSun$Piece", name := "<init>", desc := "(IIIIII)V" } : Jvm.MethodName)) ∈ lw_all := lw_g (lw_at lw_m2 234 rfl) rfl
theorem q557 : (Jvm.Cond.code ({ cls := "FollowTheSun$Piece", name := "<init>", desc := "(IIIIII)V" } : Jvm.MethodName) prog_11_method_1_code (7 : Nat) (Option.none : Option Jvm.ClassFile.FieldType)) ∈ lw_all := lw_g (lw_at lw_m2 235 rfl) rfl
theorem q558 : (Jvm.Cond.methodLink "FollowTheSun$Piece" (1 : Nat) ({ cls := "java/lang/Object", name := "<init>", desc := "()V" } : Jvm.MethodName)) ∈ lw_all := lw_g (lw_at lw_m2 236 rfl) rfl
theorem q559 : (Jvm.Cond.fieldLink "FollowTheSun$Piece" (7 : Nat) "FollowTheSun$Piece" "craft" "I") ∈ lw_all := lw_g (lw_at lw_m2 237 rfl) rfl
theorem q564 : (Jvm.Cond.fieldLink "FollowTheSun$Piece" (13 : Nat) "FollowTheSun$Piece" "length" "I") ∈ lw_all := lw_g (lw_at lw_m3 2 rfl) rfl
theorem q569 : (Jvm.Cond.fieldLink "FollowTheSun$Piece" (16 : Nat) "FollowTheSun$Piece" "after" "I") ∈ lw_all := lw_g (lw_at lw_m3 7 rfl) rfl
theorem q572 : (Jvm.Cond.fieldLink "FollowTheSun$Piece" (22 : Nat) "FollowTheSun$Piece" "asks" "I") ∈ lw_all := lw_g (lw_at lw_m3 10 rfl) rfl
theorem q576 : (Jvm.Cond.fieldLink "FollowTheSun$Piece" (25 : Nat) "FollowTheSun$Piece" "every" "I") ∈ lw_all := lw_g (lw_at lw_m3 14 rfl) rfl
theorem q579 : (Jvm.Cond.fieldLink "FollowTheSun$Piece" (19 : Nat) "FollowTheSun$Piece" "born" "I") ∈ lw_all := lw_g (lw_at lw_m3 17 rfl) rfl
theorem q583 : (Jvm.Cond.laysFinal "FollowTheSun$Piece" "FollowTheSun$Piece" "craft" "I") ∈ lw_all := lw_g (lw_at lw_m3 21 rfl) rfl
theorem q584 : (Jvm.Cond.soleField "FollowTheSun$Piece" "craft") ∈ lw_all := lw_g (lw_at lw_m3 22 rfl) rfl
theorem q585 : (Jvm.Cond.laysFinal "FollowTheSun$Piece" "FollowTheSun$Piece" "length" "I") ∈ lw_all := lw_g (lw_at lw_m3 23 rfl) rfl
theorem q586 : (Jvm.Cond.soleField "FollowTheSun$Piece" "length") ∈ lw_all := lw_g (lw_at lw_m3 24 rfl) rfl
theorem q587 : (Jvm.Cond.laysFinal "FollowTheSun$Piece" "FollowTheSun$Piece" "after" "I") ∈ lw_all := lw_g (lw_at lw_m3 25 rfl) rfl
theorem q588 : (Jvm.Cond.soleField "FollowTheSun$Piece" "after") ∈ lw_all := lw_g (lw_at lw_m3 26 rfl) rfl
theorem q589 : (Jvm.Cond.laysFinal "FollowTheSun$Piece" "FollowTheSun$Piece" "asks" "I") ∈ lw_all := lw_g (lw_at lw_m3 27 rfl) rfl
theorem q590 : (Jvm.Cond.soleField "FollowTheSun$Piece" "asks") ∈ lw_all := lw_g (lw_at lw_m3 28 rfl) rfl
theorem q591 : (Jvm.Cond.laysFinal "FollowTheSun$Piece" "FollowTheSun$Piece" "every" "I") ∈ lw_all := lw_g (lw_at lw_m3 29 rfl) rfl
theorem q592 : (Jvm.Cond.soleField "FollowTheSun$Piece" "every") ∈ lw_all := lw_g (lw_at lw_m3 30 rfl) rfl
theorem q593 : (Jvm.Cond.laysFinal "FollowTheSun$Piece" "FollowTheSun$Piece" "born" "I") ∈ lw_all := lw_g (lw_at lw_m3 31 rfl) rfl
theorem q594 : (Jvm.Cond.soleField "FollowTheSun$Piece" "born") ∈ lw_all := lw_g (lw_at lw_m3 32 rfl) rfl
theorem q595 : (Jvm.Cond.superclass "FollowTheSun$Piece" "java/lang/Object") ∈ lw_all := lw_g (lw_at lw_m3 33 rfl) rfl
theorem q1911 : (Jvm.Cond.castable "FollowTheSun$Piece" "java/lang/Object") ∈ lw_tbl := lw_at lw_m8 149 rfl
theorem in_X7 : ∀ w ∈ wsX70, w ∈ lw_all := lw_in wsX70 [583, 585, 587, 589, 591, 593] (by decide +kernel) (by decide +kernel)

/-! FollowTheSun$Reader -/
def RX8 : String := "FollowTheSun$Reader"
def TX8 : u_T := fun k => match k with
  | 0 => ("FollowTheSun$Reader", "size", "I", true)
  | 1 => ("FollowTheSun$Reader", "end", "I", true)
  | 2 => ("FollowTheSun$Reader", "at", "I", false)
  | _ => ("FollowTheSun$Reader", "this$0", "LFollowTheSun;", true)
def tyX8 : Nat → FieldType := fun k => match k with
  | 0 => .int
  | 1 => .int
  | 2 => .int
  | _ => .object "FollowTheSun"
abbrev wsX80 : List Cond := u_ws RX8 TX8 4
theorem nmX8 : ∀ a, a < 4 → ∀ b, b < 4 → a ≠ b → (TX8 a).2.1 ≠ (TX8 b).2.1 := by decide +kernel
theorem tyX8_ok : ∀ k, k < 4 → parseFieldDescriptor (TX8 k).2.2.1 = some (tyX8 k) := by decide +kernel
abbrev cX8_init : ByteArray := prog_12_method_1_code
def yX8_init : MethodName := ⟨RX8, "<init>", "(LFollowTheSun;)V"⟩
abbrev cX8_whole : ByteArray := prog_12_method_5_code
def yX8_whole : MethodName := ⟨RX8, "whole", "()LFollowTheSun$Node;"⟩
abbrev cX8_either : ByteArray := prog_12_method_6_code
def yX8_either : MethodName := ⟨RX8, "either", "(I)LFollowTheSun$Node;"⟩
abbrev cX8_both : ByteArray := prog_12_method_7_code
def yX8_both : MethodName := ⟨RX8, "both", "(I)LFollowTheSun$Node;"⟩
abbrev cX8_held : ByteArray := prog_12_method_8_code
def yX8_held : MethodName := ⟨RX8, "held", "(I)LFollowTheSun$Node;"⟩
abbrev cX8_sum : ByteArray := prog_12_method_9_code
def yX8_sum : MethodName := ⟨RX8, "sum", "(I)LFollowTheSun$Node;"⟩
abbrev cX8_product : ByteArray := prog_12_method_10_code
def yX8_product : MethodName := ⟨RX8, "product", "(I)LFollowTheSun$Node;"⟩
abbrev cX8_thing : ByteArray := prog_12_method_11_code
def yX8_thing : MethodName := ⟨RX8, "thing", "(I)LFollowTheSun$Node;"⟩
abbrev cX8_passes : ByteArray := prog_12_method_4_code
def yX8_passes : MethodName := ⟨RX8, "passes", "(I)Z"⟩
abbrev cX8_here : ByteArray := prog_12_method_2_code
def yX8_here : MethodName := ⟨RX8, "here", "()I"⟩
abbrev cX8_need : ByteArray := prog_12_method_3_code
def yX8_need : MethodName := ⟨RX8, "need", "(Z)V"⟩
abbrev cX8_isSign : ByteArray := prog_12_method_12_code
def yX8_isSign : MethodName := ⟨RX8, "isSign", "(I)Z"⟩
theorem q96 : (Jvm.Cond.initialized "FollowTheSun$Reader") ∈ lw_all := lw_g (lw_at lw_m1 14 rfl) rfl
theorem q272 : (Jvm.Cond.fieldLinkNest "FollowTheSun$Reader" (34 : Nat) "FollowTheSun" "text" "[B" "FollowTheSun") ∈ lw_tbl := lw_at lw_m1 190 rfl
theorem q274 : (Jvm.Cond.fieldLinkNest "FollowTheSun$Reader" (15 : Nat) "FollowTheSun" "typed" "I" "FollowTheSun") ∈ lw_tbl := lw_at lw_m1 192 rfl
theorem q614 : (Jvm.Cond.instantiable "FollowTheSun$Reader" (4 : Nat)) ∈ lw_all := lw_g (lw_at lw_m3 52 rfl) rfl
theorem q616 : (Jvm.Cond.instanceMethod ({ cls := "FollowTheSun$Reader", name := "<init>", desc := "(LFollowTheSun;)V" } : Jvm.MethodName)) ∈ lw_all := lw_g (lw_at lw_m3 54 rfl) rfl
theorem q617 : (Jvm.Cond.code ({ cls := "FollowTheSun$Reader", name := "<init>", desc := "(LFollowTheSun;)V" } : Jvm.MethodName) prog_12_method_1_code (2 : Nat) (Option.none : Option Jvm.ClassFile.FieldType)) ∈ lw_all := lw_g (lw_at lw_m3 55 rfl) rfl
theorem q618 : (Jvm.Cond.methodLink "FollowTheSun$Reader" (9 : Nat) ({ cls := "java/lang/Object", name := "<init>", desc := "()V" } : Jvm.MethodName)) ∈ lw_all := lw_g (lw_at lw_m3 56 rfl) rfl
theorem q619 : (Jvm.Cond.methodLink "FollowTheSun$Reader" (22 : Nat) ({ cls := "java/lang/Math", name := "min", desc := "(II)I" } : Jvm.MethodName)) ∈ lw_all := lw_g (lw_at lw_m3 57 rfl) rfl
theorem q620 : (Jvm.Cond.fieldLink "FollowTheSun$Reader" (19 : Nat) "FollowTheSun$Reader" "size" "I") ∈ lw_all := lw_g (lw_at lw_m3 58 rfl) rfl
theorem q621 : (Jvm.Cond.fieldLink "FollowTheSun$Reader" (28 : Nat) "FollowTheSun$Reader" "end" "I") ∈ lw_all := lw_g (lw_at lw_m3 59 rfl) rfl
theorem q622 : (Jvm.Cond.fieldLink "FollowTheSun$Reader" (31 : Nat) "FollowTheSun$Reader" "at" "I") ∈ lw_all := lw_g (lw_at lw_m3 60 rfl) rfl
theorem q623 : (Jvm.Cond.fieldLink "FollowTheSun$Reader" (3 : Nat) "FollowTheSun$Reader" "this$0" "LFollowTheSun;") ∈ lw_all := lw_g (lw_at lw_m3 61 rfl) rfl
theorem q624 : (Jvm.Cond.laysFinal "FollowTheSun$Reader" "FollowTheSun$Reader" "size" "I") ∈ lw_all := lw_g (lw_at lw_m3 62 rfl) rfl
theorem q625 : (Jvm.Cond.soleField "FollowTheSun$Reader" "size") ∈ lw_all := lw_g (lw_at lw_m3 63 rfl) rfl
theorem q626 : (Jvm.Cond.laysFinal "FollowTheSun$Reader" "FollowTheSun$Reader" "end" "I") ∈ lw_all := lw_g (lw_at lw_m3 64 rfl) rfl
theorem q627 : (Jvm.Cond.soleField "FollowTheSun$Reader" "end") ∈ lw_all := lw_g (lw_at lw_m3 65 rfl) rfl
theorem q628 : (Jvm.Cond.lays "FollowTheSun$Reader" "FollowTheSun$Reader" "at" "I") ∈ lw_all := lw_g (lw_at lw_m3 66 rfl) rfl
theorem q629 : (Jvm.Cond.soleField "FollowTheSun$Reader" "at") ∈ lw_all := lw_g (lw_at lw_m3 67 rfl) rfl
theorem q630 : (Jvm.Cond.laysFinal "FollowTheSun$Reader" "FollowTheSun$Reader" "this$0" "LFollowTheSun;") ∈ lw_all := lw_g (lw_at lw_m3 68 rfl) rfl
theorem q631 : (Jvm.Cond.soleField "FollowTheSun$Reader" "this$0") ∈ lw_all := lw_g (lw_at lw_m3 69 rfl) rfl
theorem q632 : (Jvm.Cond.superclass "FollowTheSun$Reader" "java/lang/Object") ∈ lw_all := lw_g (lw_at lw_m3 70 rfl) rfl
theorem q634 : (Jvm.Cond.instanceMethod ({ cls := "FollowTheSun$Reader", name := "whole", desc := "()LFollowTheSun$Node;" } : Jvm.MethodName)) ∈ lw_all := lw_g (lw_at lw_m3 72 rfl) rfl
theorem q635 : (Jvm.Cond.selects "FollowTheSun$Reader" ({ cls := "FollowTheSun$Reader", name := "whole", desc := "()LFollowTheSun$Node;" } : Jvm.MethodName) ({ cls := "FollowTheSun$Reader", name := "whole", desc := "()LFollowTheSun$Node;" } : Jvm.MethodName)) ∈ lw_all := lw_g (lw_at lw_m3 73 rfl) rfl
theorem q636 : (Jvm.Cond.code ({ cls := "FollowTheSun$Reader", name := "whole", desc := "()LFollowTheSun$Node;" } : Jvm.MethodName) prog_12_method_5_code (2 : Nat) (Option.some (Jvm.ClassFile.FieldType.object "FollowTheSun$Node"))) ∈ lw_all := lw_g (lw_at lw_m3 74 rfl) rfl
theorem q637 : (Jvm.Cond.methodLink "FollowTheSun$Reader" (47 : Nat) ({ cls := "FollowTheSun$Reader", name := "either", desc := "(I)LFollowTheSun$Node;" } : Jvm.MethodName)) ∈ lw_all := lw_g (lw_at lw_m3 75 rfl) rfl
theorem q638 : (Jvm.Cond.privateMethod ({ cls := "FollowTheSun$Reader", name := "either", desc := "(I)LFollowTheSun$Node;" } : Jvm.MethodName)) ∈ lw_tbl := lw_at lw_m3 76 rfl
theorem q639 : (Jvm.Cond.instanceMethod ({ cls := "FollowTheSun$Reader", name := "either", desc := "(I)LFollowTheSun$Node;" } : Jvm.MethodName)) ∈ lw_all := lw_g (lw_at lw_m3 77 rfl) rfl
theorem q640 : (Jvm.Cond.code ({ cls := "FollowTheSun$Reader", name := "either", desc := "(I)LFollowTheSun$Node;" } : Jvm.MethodName) prog_12_method_6_code (3 : Nat) (Option.some (Jvm.ClassFile.FieldType.object "FollowTheSun$Node"))) ∈ lw_all := lw_g (lw_at lw_m3 78 rfl) rfl
theorem q641 : (Jvm.Cond.methodLink "FollowTheSun$Reader" (55 : Nat) ({ cls := "FollowTheSun$Reader", name := "both", desc := "(I)LFollowTheSun$Node;" } : Jvm.MethodName)) ∈ lw_all := lw_g (lw_at lw_m3 79 rfl) rfl
theorem q642 : (Jvm.Cond.privateMethod ({ cls := "FollowTheSun$Reader", name := "both", desc := "(I)LFollowTheSun$Node;" } : Jvm.MethodName)) ∈ lw_tbl := lw_at lw_m3 80 rfl
theorem q643 : (Jvm.Cond.instanceMethod ({ cls := "FollowTheSun$Reader", name := "both", desc := "(I)LFollowTheSun$Node;" } : Jvm.MethodName)) ∈ lw_all := lw_g (lw_at lw_m3 81 rfl) rfl
theorem q644 : (Jvm.Cond.code ({ cls := "FollowTheSun$Reader", name := "both", desc := "(I)LFollowTheSun$Node;" } : Jvm.MethodName) prog_12_method_7_code (3 : Nat) (Option.some (Jvm.ClassFile.FieldType.object "FollowTheSun$Node"))) ∈ lw_all := lw_g (lw_at lw_m3 82 rfl) rfl
theorem q645 : (Jvm.Cond.methodLink "FollowTheSun$Reader" (67 : Nat) ({ cls := "FollowTheSun$Reader", name := "held", desc := "(I)LFollowTheSun$Node;" } : Jvm.MethodName)) ∈ lw_all := lw_g (lw_at lw_m3 83 rfl) rfl
theorem q646 : (Jvm.Cond.privateMethod ({ cls := "FollowTheSun$Reader", name := "held", desc := "(I)LFollowTheSun$Node;" } : Jvm.MethodName)) ∈ lw_tbl := lw_at lw_m3 84 rfl
theorem q647 : (Jvm.Cond.instanceMethod ({ cls := "FollowTheSun$Reader", name := "held", desc := "(I)LFollowTheSun$Node;" } : Jvm.MethodName)) ∈ lw_all := lw_g (lw_at lw_m3 85 rfl) rfl
theorem q648 : (Jvm.Cond.code ({ cls := "FollowTheSun$Reader", name := "held", desc := "(I)LFollowTheSun$Node;" } : Jvm.MethodName) prog_12_method_8_code (4 : Nat) (Option.some (Jvm.ClassFile.FieldType.object "FollowTheSun$Node"))) ∈ lw_all := lw_g (lw_at lw_m3 86 rfl) rfl
theorem q649 : (Jvm.Cond.methodLink "FollowTheSun$Reader" (70 : Nat) ({ cls := "FollowTheSun$Reader", name := "sum", desc := "(I)LFollowTheSun$Node;" } : Jvm.MethodName)) ∈ lw_all := lw_g (lw_at lw_m3 87 rfl) rfl
theorem q650 : (Jvm.Cond.privateMethod ({ cls := "FollowTheSun$Reader", name := "sum", desc := "(I)LFollowTheSun$Node;" } : Jvm.MethodName)) ∈ lw_tbl := lw_at lw_m3 88 rfl
theorem q651 : (Jvm.Cond.instanceMethod ({ cls := "FollowTheSun$Reader", name := "sum", desc := "(I)LFollowTheSun$Node;" } : Jvm.MethodName)) ∈ lw_all := lw_g (lw_at lw_m3 89 rfl) rfl
theorem q652 : (Jvm.Cond.code ({ cls := "FollowTheSun$Reader", name := "sum", desc := "(I)LFollowTheSun$Node;" } : Jvm.MethodName) prog_12_method_9_code (4 : Nat) (Option.some (Jvm.ClassFile.FieldType.object "FollowTheSun$Node"))) ∈ lw_all := lw_g (lw_at lw_m3 90 rfl) rfl
theorem q653 : (Jvm.Cond.methodLink "FollowTheSun$Reader" (73 : Nat) ({ cls := "FollowTheSun$Reader", name := "product", desc := "(I)LFollowTheSun$Node;" } : Jvm.MethodName)) ∈ lw_all := lw_g (lw_at lw_m3 91 rfl) rfl
theorem q654 : (Jvm.Cond.privateMethod ({ cls := "FollowTheSun$Reader", name := "product", desc := "(I)LFollowTheSun$Node;" } : Jvm.MethodName)) ∈ lw_tbl := lw_at lw_m3 92 rfl
theorem q655 : (Jvm.Cond.instanceMethod ({ cls := "FollowTheSun$Reader", name := "product", desc := "(I)LFollowTheSun$Node;" } : Jvm.MethodName)) ∈ lw_all := lw_g (lw_at lw_m3 93 rfl) rfl
theorem q656 : (Jvm.Cond.code ({ cls := "FollowTheSun$Reader", name := "product", desc := "(I)LFollowTheSun$Node;" } : Jvm.MethodName) prog_12_method_10_code (3 : Nat) (Option.some (Jvm.ClassFile.FieldType.object "FollowTheSun$Node"))) ∈ lw_all := lw_g (lw_at lw_m3 94 rfl) rfl
theorem q657 : (Jvm.Cond.methodLink "FollowTheSun$Reader" (76 : Nat) ({ cls := "FollowTheSun$Reader", name := "thing", desc := "(I)LFollowTheSun$Node;" } : Jvm.MethodName)) ∈ lw_all := lw_g (lw_at lw_m3 95 rfl) rfl
theorem q658 : (Jvm.Cond.privateMethod ({ cls := "FollowTheSun$Reader", name := "thing", desc := "(I)LFollowTheSun$Node;" } : Jvm.MethodName)) ∈ lw_tbl := lw_at lw_m3 96 rfl
theorem q659 : (Jvm.Cond.instanceMethod ({ cls := "FollowTheSun$Reader", name := "thing", desc := "(I)LFollowTheSun$Node;" } : Jvm.MethodName)) ∈ lw_all := lw_g (lw_at lw_m3 97 rfl) rfl
theorem q660 : (Jvm.Cond.code ({ cls := "FollowTheSun$Reader", name := "thing", desc := "(I)LFollowTheSun$Node;" } : Jvm.MethodName) prog_12_method_11_code (4 : Nat) (Option.some (Jvm.ClassFile.FieldType.object "FollowTheSun$Node"))) ∈ lw_all := lw_g (lw_at lw_m3 98 rfl) rfl
theorem q661 : (Jvm.Cond.methodLink "FollowTheSun$Reader" (58 : Nat) ({ cls := "FollowTheSun$Reader", name := "passes", desc := "(I)Z" } : Jvm.MethodName)) ∈ lw_all := lw_g (lw_at lw_m3 99 rfl) rfl
theorem q662 : (Jvm.Cond.privateMethod ({ cls := "FollowTheSun$Reader", name := "passes", desc := "(I)Z" } : Jvm.MethodName)) ∈ lw_tbl := lw_at lw_m3 100 rfl
theorem q663 : (Jvm.Cond.instanceMethod ({ cls := "FollowTheSun$Reader", name := "passes", desc := "(I)Z" } : Jvm.MethodName)) ∈ lw_all := lw_g (lw_at lw_m3 101 rfl) rfl
theorem q664 : (Jvm.Cond.code ({ cls := "FollowTheSun$Reader", name := "passes", desc := "(I)Z" } : Jvm.MethodName) prog_12_method_4_code (2 : Nat) (Option.some Jvm.ClassFile.FieldType.boolean)) ∈ lw_all := lw_g (lw_at lw_m3 102 rfl) rfl
theorem q665 : (Jvm.Cond.methodLink "FollowTheSun$Reader" (43 : Nat) ({ cls := "FollowTheSun$Reader", name := "here", desc := "()I" } : Jvm.MethodName)) ∈ lw_all := lw_g (lw_at lw_m3 103 rfl) rfl
theorem q666 : (Jvm.Cond.privateMethod ({ cls := "FollowTheSun$Reader", name := "here", desc := "()I" } : Jvm.MethodName)) ∈ lw_tbl := lw_at lw_m3 104 rfl
theorem q667 : (Jvm.Cond.instanceMethod ({ cls := "FollowTheSun$Reader", name := "here", desc := "()I" } : Jvm.MethodName)) ∈ lw_all := lw_g (lw_at lw_m3 105 rfl) rfl
theorem q668 : (Jvm.Cond.code ({ cls := "FollowTheSun$Reader", name := "here", desc := "()I" } : Jvm.MethodName) prog_12_method_2_code (1 : Nat) (Option.some Jvm.ClassFile.FieldType.int)) ∈ lw_all := lw_g (lw_at lw_m3 106 rfl) rfl
theorem q669 : (Jvm.Cond.classLink "FollowTheSun$Reader" (79 : Nat) "FollowTheSun$Not") ∈ lw_all := lw_g (lw_at lw_m3 107 rfl) rfl
theorem q671 : (Jvm.Cond.methodLink "FollowTheSun$Reader" (81 : Nat) ({ cls := "FollowTheSun$Not", name := "<init>", desc := "(LFollowTheSun$Node;)V" } : Jvm.MethodName)) ∈ lw_all := lw_g (lw_at lw_m3 109 rfl) rfl
theorem q682 : (Jvm.Cond.classLink "FollowTheSun$Reader" (84 : Nat) "FollowTheSun$Less") ∈ lw_all := lw_g (lw_at lw_m3 120 rfl) rfl
theorem q684 : (Jvm.Cond.methodLink "FollowTheSun$Reader" (86 : Nat) ({ cls := "FollowTheSun$Less", name := "<init>", desc := "(LFollowTheSun$Node;)V" } : Jvm.MethodName)) ∈ lw_all := lw_g (lw_at lw_m3 122 rfl) rfl
theorem q687 : (Jvm.Cond.methodLink "FollowTheSun$Reader" (51 : Nat) ({ cls := "FollowTheSun$Reader", name := "need", desc := "(Z)V" } : Jvm.MethodName)) ∈ lw_all := lw_g (lw_at lw_m3 125 rfl) rfl
theorem q688 : (Jvm.Cond.privateMethod ({ cls := "FollowTheSun$Reader", name := "need", desc := "(Z)V" } : Jvm.MethodName)) ∈ lw_tbl := lw_at lw_m3 126 rfl
theorem q689 : (Jvm.Cond.instanceMethod ({ cls := "FollowTheSun$Reader", name := "need", desc := "(Z)V" } : Jvm.MethodName)) ∈ lw_all := lw_g (lw_at lw_m3 127 rfl) rfl
theorem q690 : (Jvm.Cond.code ({ cls := "FollowTheSun$Reader", name := "need", desc := "(Z)V" } : Jvm.MethodName) prog_12_method_3_code (2 : Nat) (Option.none : Option Jvm.ClassFile.FieldType)) ∈ lw_all := lw_g (lw_at lw_m3 128 rfl) rfl
theorem q691 : (Jvm.Cond.classLink "FollowTheSun$Reader" (38 : Nat) "FollowTheSun$Fault") ∈ lw_all := lw_g (lw_at lw_m3 129 rfl) rfl
theorem q700 : (Jvm.Cond.methodLink "FollowTheSun$Reader" (40 : Nat) ({ cls := "FollowTheSun$Fault", name := "<init>", desc := "(I)V" } : Jvm.MethodName)) ∈ lw_all := lw_g (lw_at lw_m3 138 rfl) rfl
theorem q713 : (Jvm.Cond.methodLinkNest "FollowTheSun$Reader" (87 : Nat) ({ cls := "FollowTheSun", name := "in", desc := "(III)Z" } : Jvm.MethodName) "FollowTheSun") ∈ lw_tbl := lw_at lw_m3 151 rfl
theorem q714 : (Jvm.Cond.classLink "FollowTheSun$Reader" (91 : Nat) "FollowTheSun$Number") ∈ lw_all := lw_g (lw_at lw_m3 152 rfl) rfl
theorem q716 : (Jvm.Cond.methodLink "FollowTheSun$Reader" (93 : Nat) ({ cls := "FollowTheSun$Number", name := "<init>", desc := "(I)V" } : Jvm.MethodName)) ∈ lw_all := lw_g (lw_at lw_m3 154 rfl) rfl
theorem q724 : (Jvm.Cond.methodLink "FollowTheSun$Reader" (94 : Nat) ({ cls := "FollowTheSun$Reader", name := "isSign", desc := "(I)Z" } : Jvm.MethodName)) ∈ lw_all := lw_g (lw_at lw_m3 162 rfl) rfl
theorem q725 : (Jvm.Cond.privateMethod ({ cls := "FollowTheSun$Reader", name := "isSign", desc := "(I)Z" } : Jvm.MethodName)) ∈ lw_tbl := lw_at lw_m3 163 rfl
theorem q726 : (Jvm.Cond.instanceMethod ({ cls := "FollowTheSun$Reader", name := "isSign", desc := "(I)Z" } : Jvm.MethodName)) ∈ lw_all := lw_g (lw_at lw_m3 164 rfl) rfl
theorem q727 : (Jvm.Cond.code ({ cls := "FollowTheSun$Reader", name := "isSign", desc := "(I)Z" } : Jvm.MethodName) prog_12_method_12_code (2 : Nat) (Option.some Jvm.ClassFile.FieldType.boolean)) ∈ lw_all := lw_g (lw_at lw_m3 165 rfl) rfl
theorem q728 : (Jvm.Cond.classLink "FollowTheSun$Reader" (97 : Nat) "FollowTheSun$Sign") ∈ lw_all := lw_g (lw_at lw_m3 166 rfl) rfl
theorem q730 : (Jvm.Cond.methodLink "FollowTheSun$Reader" (99 : Nat) ({ cls := "FollowTheSun$Sign", name := "<init>", desc := "(C)V" } : Jvm.MethodName)) ∈ lw_all := lw_g (lw_at lw_m3 168 rfl) rfl
theorem q738 : (Jvm.Cond.classLink "FollowTheSun$Reader" (62 : Nat) "FollowTheSun$Joined") ∈ lw_all := lw_g (lw_at lw_m3 176 rfl) rfl
theorem q740 : (Jvm.Cond.methodLink "FollowTheSun$Reader" (64 : Nat) ({ cls := "FollowTheSun$Joined", name := "<init>", desc := "(ILFollowTheSun$Node;LFollowTheSun$Node;)V" } : Jvm.MethodName)) ∈ lw_all := lw_g (lw_at lw_m3 178 rfl) rfl
theorem q1912 : (Jvm.Cond.castable "FollowTheSun$Reader" "java/lang/Object") ∈ lw_tbl := lw_at lw_m8 150 rfl
theorem in_X8 : ∀ w ∈ wsX80, w ∈ lw_all := lw_in wsX80 [624, 626, 628, 630] (by decide +kernel) (by decide +kernel)

/-! FollowTheSun$Less -/
def RX9 : String := "FollowTheSun$Less"
def TX9 : u_T := fun k => match k with
  | _ => ("FollowTheSun$Less", "of", "LFollowTheSun$Node;", true)
def tyX9 : Nat → FieldType := fun k => match k with
  | _ => .object "FollowTheSun$Node"
abbrev wsX90 : List Cond := u_ws RX9 TX9 1
theorem nmX9 : ∀ a, a < 1 → ∀ b, b < 1 → a ≠ b → (TX9 a).2.1 ≠ (TX9 b).2.1 := by decide +kernel
theorem tyX9_ok : ∀ k, k < 1 → parseFieldDescriptor (TX9 k).2.2.1 = some (tyX9 k) := by decide +kernel
abbrev cX9_init : ByteArray := prog_6_method_1_code
def yX9_init : MethodName := ⟨RX9, "<init>", "(LFollowTheSun$Node;)V"⟩
abbrev cX9_value : ByteArray := prog_6_method_2_code
def yX9_value : MethodName := ⟨RX9, "value", "(LFollowTheSun$Case;)I"⟩
theorem q97 : (Jvm.Cond.initialized "FollowTheSun$Less") ∈ lw_all := lw_g (lw_at lw_m1 15 rfl) rfl
theorem q675 : (Jvm.Cond.instanceMethod ({ cls := "FollowTheSun$Less", name := "<init>", desc := "(LFollowTheSun$Node;)V" } : Jvm.MethodName)) ∈ lw_all := lw_g (lw_at lw_m3 113 rfl) rfl
theorem q676 : (Jvm.Cond.code ({ cls := "FollowTheSun$Less", name := "<init>", desc := "(LFollowTheSun$Node;)V" } : Jvm.MethodName) prog_6_method_1_code (2 : Nat) (Option.none : Option Jvm.ClassFile.FieldType)) ∈ lw_all := lw_g (lw_at lw_m3 114 rfl) rfl
theorem q677 : (Jvm.Cond.methodLink "FollowTheSun$Less" (1 : Nat) ({ cls := "java/lang/Object", name := "<init>", desc := "()V" } : Jvm.MethodName)) ∈ lw_all := lw_g (lw_at lw_m3 115 rfl) rfl
theorem q678 : (Jvm.Cond.fieldLink "FollowTheSun$Less" (7 : Nat) "FollowTheSun$Less" "of" "LFollowTheSun$Node;") ∈ lw_all := lw_g (lw_at lw_m3 116 rfl) rfl
theorem q680 : (Jvm.Cond.soleField "FollowTheSun$Less" "of") ∈ lw_all := lw_g (lw_at lw_m3 118 rfl) rfl
theorem q683 : (Jvm.Cond.instantiable "FollowTheSun$Less" (1 : Nat)) ∈ lw_all := lw_g (lw_at lw_m3 121 rfl) rfl
theorem q685 : (Jvm.Cond.laysFinal "FollowTheSun$Less" "FollowTheSun$Less" "of" "LFollowTheSun$Node;") ∈ lw_all := lw_g (lw_at lw_m3 123 rfl) rfl
theorem q686 : (Jvm.Cond.superclass "FollowTheSun$Less" "java/lang/Object") ∈ lw_all := lw_g (lw_at lw_m3 124 rfl) rfl
theorem q814 : (Jvm.Cond.castable "FollowTheSun$Less" "FollowTheSun$Node") ∈ lw_tbl := lw_at lw_m4 12 rfl
theorem q815 : (Jvm.Cond.selects "FollowTheSun$Less" ({ cls := "FollowTheSun$Node", name := "value", desc := "(LFollowTheSun$Case;)I" } : Jvm.MethodName) ({ cls := "FollowTheSun$Less", name := "value", desc := "(LFollowTheSun$Case;)I" } : Jvm.MethodName)) ∈ lw_all := lw_g (lw_at lw_m4 13 rfl) rfl
theorem q816 : (Jvm.Cond.unhidden "FollowTheSun$Less" "value" "(LFollowTheSun$Case;)I") ∈ lw_tbl := lw_at lw_m4 14 rfl
theorem q817 : (Jvm.Cond.instanceMethod ({ cls := "FollowTheSun$Less", name := "value", desc := "(LFollowTheSun$Case;)I" } : Jvm.MethodName)) ∈ lw_all := lw_g (lw_at lw_m4 15 rfl) rfl
theorem q818 : (Jvm.Cond.publicMethod ({ cls := "FollowTheSun$Less", name := "value", desc := "(LFollowTheSun$Case;)I" } : Jvm.MethodName)) ∈ lw_tbl := lw_at lw_m4 16 rfl
theorem q819 : (Jvm.Cond.code ({ cls := "FollowTheSun$Less", name := "value", desc := "(LFollowTheSun$Case;)I" } : Jvm.MethodName) prog_6_method_2_code (2 : Nat) (Option.some Jvm.ClassFile.FieldType.int)) ∈ lw_all := lw_g (lw_at lw_m4 17 rfl) rfl
theorem q820 : (Jvm.Cond.interfaceEntry "FollowTheSun$Less" (13 : Nat)) ∈ lw_tbl := lw_at lw_m4 18 rfl
theorem q821 : (Jvm.Cond.methodLink "FollowTheSun$Less" (13 : Nat) ({ cls := "FollowTheSun$Node", name := "value", desc := "(LFollowTheSun$Case;)I" } : Jvm.MethodName)) ∈ lw_all := lw_g (lw_at lw_m4 19 rfl) rfl
theorem q857 : (Jvm.Cond.unhidden "FollowTheSun$Less" "valueOf" "(LFollowTheSun$Case;)I") ∈ lw_tbl := lw_at lw_m4 55 rfl
theorem q1901 : (Jvm.Cond.sameMethod "FollowTheSun$Less" "FollowTheSun$Less" "value" "(LFollowTheSun$Case;)I") ∈ lw_all := lw_g (lw_at lw_m8 139 rfl) rfl
theorem q1914 : (Jvm.Cond.castable "FollowTheSun$Less" "java/lang/Object") ∈ lw_tbl := lw_at lw_m8 152 rfl
theorem in_X9 : ∀ w ∈ wsX90, w ∈ lw_all := lw_in wsX90 [685] (by decide +kernel) (by decide +kernel)

theorem q1016 : (Jvm.Cond.sameMethod "[I" "java/lang/Object" "clone" "()Ljava/lang/Object;") ∈ lw_all := lw_g (lw_at lw_m4 214 rfl) rfl
theorem q1019 : (Jvm.Cond.selects "[I" ({ cls := "[I", name := "clone", desc := "()Ljava/lang/Object;" } : Jvm.MethodName) ({ cls := "java/lang/Object", name := "clone", desc := "()Ljava/lang/Object;" } : Jvm.MethodName)) ∈ lw_all := lw_g (lw_at lw_m4 217 rfl) rfl
theorem q1020 : (Jvm.Cond.castable "[I" "java/lang/Cloneable") ∈ lw_tbl := lw_at lw_m4 218 rfl

theorem q1151 : (Jvm.Cond.sameMethod "[LFollowTheSun$Piece;" "java/lang/Object" "clone" "()Ljava/lang/Object;") ∈ lw_all := lw_g (lw_at lw_m5 109 rfl) rfl
theorem q1152 : (Jvm.Cond.selects "[LFollowTheSun$Piece;" ({ cls := "[LFollowTheSun$Piece;", name := "clone", desc := "()Ljava/lang/Object;" } : Jvm.MethodName) ({ cls := "java/lang/Object", name := "clone", desc := "()Ljava/lang/Object;" } : Jvm.MethodName)) ∈ lw_all := lw_g (lw_at lw_m5 110 rfl) rfl
theorem q1153 : (Jvm.Cond.castable "[LFollowTheSun$Piece;" "java/lang/Cloneable") ∈ lw_tbl := lw_at lw_m5 111 rfl

theorem q107 : (Jvm.Cond.initialized "java/lang/System") ∈ lw_all := lw_g (lw_at lw_m1 25 rfl) rfl
theorem q888 : (Jvm.Cond.static ({ cls := "java/lang/System", name := "arraycopy", desc := "(Ljava/lang/Object;ILjava/lang/Object;II)V" } : Jvm.MethodName)) ∈ lw_all := lw_g (lw_at lw_m4 86 rfl) rfl
theorem q889 : (Jvm.Cond.native ({ cls := "java/lang/System", name := "arraycopy", desc := "(Ljava/lang/Object;ILjava/lang/Object;II)V" } : Jvm.MethodName)) ∈ lw_all := lw_g (lw_at lw_m4 87 rfl) rfl

theorem q122 : (Jvm.Cond.arrayOver (Jvm.ClassFile.FieldType.object "FollowTheSun$Piece")) ∈ lw_tbl := lw_at lw_m1 40 rfl
theorem q130 : (Jvm.Cond.arrayOver (Jvm.ClassFile.FieldType.object "FollowTheSun$Office")) ∈ lw_tbl := lw_at lw_m1 48 rfl
theorem q132 : (Jvm.Cond.arrayOver (Jvm.ClassFile.FieldType.array Jvm.ClassFile.FieldType.int)) ∈ lw_tbl := lw_at lw_m1 50 rfl
theorem q165 : (Jvm.Cond.arrayClass Jvm.ClassFile.FieldType.int) ∈ lw_all := lw_g (lw_at lw_m1 83 rfl) rfl
theorem q239 : (Jvm.Cond.arrayClass Jvm.ClassFile.FieldType.boolean) ∈ lw_all := lw_g (lw_at lw_m1 157 rfl) rfl
theorem q259 : (Jvm.Cond.arrayOver (Jvm.ClassFile.FieldType.object "FollowTheSun$State")) ∈ lw_tbl := lw_at lw_m1 177 rfl
theorem q320 : (Jvm.Cond.arrayClass Jvm.ClassFile.FieldType.byte) ∈ lw_all := lw_g (lw_at lw_m1 238 rfl) rfl
theorem q321 : (Jvm.Cond.arrayClass Jvm.ClassFile.FieldType.long) ∈ lw_all := lw_g (lw_at lw_m1 239 rfl) rfl
theorem q496 : (Jvm.Cond.arrayClass Jvm.ClassFile.FieldType.short) ∈ lw_all := lw_g (lw_at lw_m2 174 rfl) rfl

