set_option maxRecDepth 100000
/-! java/lang/Object -/
def RJ14 : String := "java/lang/Object"
abbrev cJ14_init : ByteArray := object_method_1_code
def yJ14_init : MethodName := ⟨RJ14, "<init>", "()V"⟩
theorem q139 : (Jvm.Cond.instanceMethod ({ cls := "java/lang/Object", name := "<init>", desc := "()V" } : Jvm.MethodName)) ∈ lw_all := lw_g (lw_at lw_m1 33 rfl) rfl
theorem q140 : (Jvm.Cond.code ({ cls := "java/lang/Object", name := "<init>", desc := "()V" } : Jvm.MethodName) object_method_1_code (1 : Nat) (Option.none : Option Jvm.ClassFile.FieldType)) ∈ lw_all := lw_g (lw_at lw_m1 34 rfl) rfl
/-! java/lang/Math -/
def RJ12 : String := "java/lang/Math"
abbrev cJ12_abs : ByteArray := prog_20_method_59_code
def yJ12_abs : MethodName := ⟨RJ12, "abs", "(I)I"⟩
abbrev cJ12_min : ByteArray := prog_20_method_70_code
def yJ12_min : MethodName := ⟨RJ12, "min", "(JJ)J"⟩
abbrev cJ12_max : ByteArray := prog_20_method_65_code
def yJ12_max : MethodName := ⟨RJ12, "max", "(II)I"⟩
abbrev cJ12_min_2 : ByteArray := prog_20_method_69_code
def yJ12_min_2 : MethodName := ⟨RJ12, "min", "(II)I"⟩
theorem q128 : (Jvm.Cond.initialized "java/lang/Math") ∈ lw_all := lw_g (lw_at lw_m1 22 rfl) rfl
theorem q1191 : (Jvm.Cond.static ({ cls := "java/lang/Math", name := "abs", desc := "(I)I" } : Jvm.MethodName)) ∈ lw_all := lw_g (lw_at lw_m5 125 rfl) rfl
theorem q1192 : (Jvm.Cond.code ({ cls := "java/lang/Math", name := "abs", desc := "(I)I" } : Jvm.MethodName) prog_20_method_59_code (1 : Nat) (Option.some Jvm.ClassFile.FieldType.int)) ∈ lw_all := lw_g (lw_at lw_m5 126 rfl) rfl
theorem q1199 : (Jvm.Cond.static ({ cls := "java/lang/Math", name := "min", desc := "(JJ)J" } : Jvm.MethodName)) ∈ lw_all := lw_g (lw_at lw_m5 133 rfl) rfl
theorem q1200 : (Jvm.Cond.code ({ cls := "java/lang/Math", name := "min", desc := "(JJ)J" } : Jvm.MethodName) prog_20_method_70_code (4 : Nat) (Option.some Jvm.ClassFile.FieldType.long)) ∈ lw_all := lw_g (lw_at lw_m5 134 rfl) rfl
theorem q1321 : (Jvm.Cond.static ({ cls := "java/lang/Math", name := "max", desc := "(II)I" } : Jvm.MethodName)) ∈ lw_all := lw_g (lw_at lw_m6 15 rfl) rfl
theorem q1322 : (Jvm.Cond.code ({ cls := "java/lang/Math", name := "max", desc := "(II)I" } : Jvm.MethodName) prog_20_method_65_code (2 : Nat) (Option.some Jvm.ClassFile.FieldType.int)) ∈ lw_all := lw_g (lw_at lw_m6 16 rfl) rfl
theorem q1385 : (Jvm.Cond.static ({ cls := "java/lang/Math", name := "min", desc := "(II)I" } : Jvm.MethodName)) ∈ lw_all := lw_g (lw_at lw_m6 79 rfl) rfl
theorem q1386 : (Jvm.Cond.code ({ cls := "java/lang/Math", name := "min", desc := "(II)I" } : Jvm.MethodName) prog_20_method_69_code (2 : Nat) (Option.some Jvm.ClassFile.FieldType.int)) ∈ lw_all := lw_g (lw_at lw_m6 80 rfl) rfl
/-! java/lang/Integer -/
def RJ13 : String := "java/lang/Integer"
abbrev cJ13_bitCount : ByteArray := prog_19_method_49_code
def yJ13_bitCount : MethodName := ⟨RJ13, "bitCount", "(I)I"⟩
theorem q129 : (Jvm.Cond.initialized "java/lang/Integer") ∈ lw_all := lw_g (lw_at lw_m1 23 rfl) rfl
theorem q1202 : (Jvm.Cond.static ({ cls := "java/lang/Integer", name := "bitCount", desc := "(I)I" } : Jvm.MethodName)) ∈ lw_all := lw_g (lw_at lw_m5 136 rfl) rfl
theorem q1203 : (Jvm.Cond.code ({ cls := "java/lang/Integer", name := "bitCount", desc := "(I)I" } : Jvm.MethodName) prog_19_method_49_code (1 : Nat) (Option.some Jvm.ClassFile.FieldType.int)) ∈ lw_all := lw_g (lw_at lw_m5 137 rfl) rfl
theorem q1204 : (Jvm.Cond.constant "java/lang/Integer" (265 : Nat) (1431655765 : Int32)) ∈ lw_all := lw_g (lw_at lw_m5 138 rfl) rfl
theorem q1205 : (Jvm.Cond.constant "java/lang/Integer" (266 : Nat) (858993459 : Int32)) ∈ lw_all := lw_g (lw_at lw_m5 139 rfl) rfl
theorem q1206 : (Jvm.Cond.constant "java/lang/Integer" (267 : Nat) (252645135 : Int32)) ∈ lw_all := lw_g (lw_at lw_m5 140 rfl) rfl
/-! java/lang/Throwable -/
def RJ0 : String := "java/lang/Throwable"
def TJ0 : u_T := fun k => match k with
  | 0 => ("java/lang/Throwable", "cause", "Ljava/lang/Throwable;", false)
  | 1 => ("java/lang/Throwable", "stackTrace", "[Ljava/lang/StackTraceElement;", false)
  | 2 => ("java/lang/Throwable", "suppressedExceptions", "Ljava/util/List;", false)
  | 3 => ("java/lang/Throwable", "detailMessage", "Ljava/lang/String;", false)
  | _ => ("java/lang/Throwable", "backtrace", "Ljava/lang/Object;", false)
def tyJ0 : Nat → FieldType := fun k => match k with
  | 0 => .object "java/lang/Throwable"
  | 1 => .array (.object "java/lang/StackTraceElement")
  | 2 => .object "java/util/List"
  | 3 => .object "java/lang/String"
  | _ => .object "java/lang/Object"
abbrev wsJ00 : List Cond := u_ws RJ0 TJ0 5
theorem nmJ0 : ∀ a, a < 5 → ∀ b, b < 5 → a ≠ b → (TJ0 a).2.1 ≠ (TJ0 b).2.1 := by decide +kernel
theorem tyJ0_ok : ∀ k, k < 5 → parseFieldDescriptor (TJ0 k).2.2.1 = some (tyJ0 k) := by decide +kernel
abbrev cJ0_init : ByteArray := prog_25_method_1_code
def yJ0_init : MethodName := ⟨RJ0, "<init>", "()V"⟩
abbrev cJ0_init_2 : ByteArray := prog_25_method_2_code
def yJ0_init_2 : MethodName := ⟨RJ0, "<init>", "(Ljava/lang/String;)V"⟩
abbrev cJ0_init_3 : ByteArray := prog_25_method_5_code
def yJ0_init_3 : MethodName := ⟨RJ0, "<init>", "(Ljava/lang/String;Ljava/lang/Throwable;ZZ)V"⟩
theorem q112 : (Jvm.Cond.initialized "java/lang/Throwable") ∈ lw_all := lw_g (lw_at lw_m1 6 rfl) rfl
theorem q467 : (Jvm.Cond.declares ({ cls := "java/lang/Throwable", name := "<init>", desc := "()V" } : Jvm.MethodName)) ∈ lw_tbl := lw_at lw_m2 121 rfl
theorem q468 : (Jvm.Cond.declares ({ cls := "java/lang/Throwable", name := "<init>", desc := "(Ljava/lang/String;)V" } : Jvm.MethodName)) ∈ lw_tbl := lw_at lw_m2 122 rfl
theorem q472 : (Jvm.Cond.lays "java/lang/Throwable" "java/lang/Throwable" "cause" "Ljava/lang/Throwable;") ∈ lw_all := lw_g (lw_at lw_m2 126 rfl) rfl
theorem q474 : (Jvm.Cond.lays "java/lang/Throwable" "java/lang/Throwable" "stackTrace" "[Ljava/lang/StackTraceElement;") ∈ lw_all := lw_g (lw_at lw_m2 128 rfl) rfl
theorem q476 : (Jvm.Cond.lays "java/lang/Throwable" "java/lang/Throwable" "suppressedExceptions" "Ljava/util/List;") ∈ lw_all := lw_g (lw_at lw_m2 130 rfl) rfl
theorem q478 : (Jvm.Cond.lays "java/lang/Throwable" "java/lang/Throwable" "detailMessage" "Ljava/lang/String;") ∈ lw_all := lw_g (lw_at lw_m2 132 rfl) rfl
theorem q480 : (Jvm.Cond.lays "java/lang/Throwable" "java/lang/Throwable" "backtrace" "Ljava/lang/Object;") ∈ lw_all := lw_g (lw_at lw_m2 134 rfl) rfl
theorem q481 : (Jvm.Cond.fieldLink "java/lang/Throwable" (198 : Nat) "java/lang/Throwable" "backtrace" "Ljava/lang/Object;") ∈ lw_all := lw_g (lw_at lw_m2 135 rfl) rfl
theorem q482 : (Jvm.Cond.superclass "java/lang/Throwable" "java/lang/Object") ∈ lw_all := lw_g (lw_at lw_m2 136 rfl) rfl
theorem q483 : (Jvm.Cond.instanceMethod ({ cls := "java/lang/Throwable", name := "<init>", desc := "()V" } : Jvm.MethodName)) ∈ lw_all := lw_g (lw_at lw_m2 137 rfl) rfl
theorem q484 : (Jvm.Cond.code ({ cls := "java/lang/Throwable", name := "<init>", desc := "()V" } : Jvm.MethodName) prog_25_method_1_code (1 : Nat) (Option.none : Option Jvm.ClassFile.FieldType)) ∈ lw_all := lw_g (lw_at lw_m2 138 rfl) rfl
theorem q485 : (Jvm.Cond.methodLink "java/lang/Throwable" (1 : Nat) ({ cls := "java/lang/Object", name := "<init>", desc := "()V" } : Jvm.MethodName)) ∈ lw_all := lw_g (lw_at lw_m2 139 rfl) rfl
theorem q486 : (Jvm.Cond.fieldLink "java/lang/Throwable" (13 : Nat) "java/lang/Throwable" "UNASSIGNED_STACK" "[Ljava/lang/StackTraceElement;") ∈ lw_all := lw_g (lw_at lw_m2 140 rfl) rfl
theorem q487 : (Jvm.Cond.laysStatic "java/lang/Throwable" "UNASSIGNED_STACK" "[Ljava/lang/StackTraceElement;") ∈ lw_tbl := lw_at lw_m2 141 rfl
theorem q488 : (Jvm.Cond.fieldLink "java/lang/Throwable" (20 : Nat) "java/lang/Throwable" "SUPPRESSED_SENTINEL" "Ljava/util/List;") ∈ lw_all := lw_g (lw_at lw_m2 142 rfl) rfl
theorem q489 : (Jvm.Cond.laysStatic "java/lang/Throwable" "SUPPRESSED_SENTINEL" "Ljava/util/List;") ∈ lw_tbl := lw_at lw_m2 143 rfl
theorem q490 : (Jvm.Cond.methodLink "java/lang/Throwable" (27 : Nat) ({ cls := "java/lang/Throwable", name := "fillInStackTrace", desc := "()Ljava/lang/Throwable;" } : Jvm.MethodName)) ∈ lw_all := lw_g (lw_at lw_m2 144 rfl) rfl
theorem q491 : (Jvm.Cond.instanceMethod ({ cls := "java/lang/Throwable", name := "fillInStackTrace", desc := "()Ljava/lang/Throwable;" } : Jvm.MethodName)) ∈ lw_all := lw_g (lw_at lw_m2 145 rfl) rfl
theorem q492 : (Jvm.Cond.sameMethod "java/lang/Throwable" "java/lang/Throwable" "fillInStackTrace" "()Ljava/lang/Throwable;") ∈ lw_all := lw_g (lw_at lw_m2 146 rfl) rfl
theorem q498 : (Jvm.Cond.codeSync ({ cls := "java/lang/Throwable", name := "fillInStackTrace", desc := "()Ljava/lang/Throwable;" } : Jvm.MethodName) prog_25_method_18_code (1 : Nat) (Option.some (Jvm.ClassFile.FieldType.object "java/lang/Throwable"))) ∈ lw_all := lw_g (lw_at lw_m2 152 rfl) rfl
theorem q499 : (Jvm.Cond.methodLink "java/lang/Throwable" (202 : Nat) ({ cls := "java/lang/Throwable", name := "fillInStackTrace", desc := "(I)Ljava/lang/Throwable;" } : Jvm.MethodName)) ∈ lw_all := lw_g (lw_at lw_m2 153 rfl) rfl
theorem q500 : (Jvm.Cond.privateMethod ({ cls := "java/lang/Throwable", name := "fillInStackTrace", desc := "(I)Ljava/lang/Throwable;" } : Jvm.MethodName)) ∈ lw_tbl := lw_at lw_m2 154 rfl
theorem q501 : (Jvm.Cond.instanceMethod ({ cls := "java/lang/Throwable", name := "fillInStackTrace", desc := "(I)Ljava/lang/Throwable;" } : Jvm.MethodName)) ∈ lw_all := lw_g (lw_at lw_m2 155 rfl) rfl
theorem q502 : (Jvm.Cond.instantiable "java/lang/Throwable" (6 : Nat)) ∈ lw_all := lw_g (lw_at lw_m2 156 rfl) rfl
theorem q503 : (Jvm.Cond.native ({ cls := "java/lang/Throwable", name := "fillInStackTrace", desc := "(I)Ljava/lang/Throwable;" } : Jvm.MethodName)) ∈ lw_all := lw_g (lw_at lw_m2 157 rfl) rfl
theorem q515 : (Jvm.Cond.instanceMethod ({ cls := "java/lang/Throwable", name := "<init>", desc := "(Ljava/lang/String;)V" } : Jvm.MethodName)) ∈ lw_all := lw_g (lw_at lw_m2 169 rfl) rfl
theorem q516 : (Jvm.Cond.code ({ cls := "java/lang/Throwable", name := "<init>", desc := "(Ljava/lang/String;)V" } : Jvm.MethodName) prog_25_method_2_code (2 : Nat) (Option.none : Option Jvm.ClassFile.FieldType)) ∈ lw_all := lw_g (lw_at lw_m2 170 rfl) rfl
theorem q517 : (Jvm.Cond.fieldLink "java/lang/Throwable" (198 : Nat) "java/lang/Throwable" "backtrace" "Ljava/lang/Object;") ∈ lw_all := lw_g (lw_at lw_m2 171 rfl) rfl
theorem q518 : (Jvm.Cond.fieldLink "java/lang/Throwable" (31 : Nat) "java/lang/Throwable" "detailMessage" "Ljava/lang/String;") ∈ lw_all := lw_g (lw_at lw_m2 172 rfl) rfl
theorem q519 : (Jvm.Cond.fieldLink "java/lang/Throwable" (7 : Nat) "java/lang/Throwable" "cause" "Ljava/lang/Throwable;") ∈ lw_all := lw_g (lw_at lw_m2 173 rfl) rfl
theorem q520 : (Jvm.Cond.fieldLink "java/lang/Throwable" (17 : Nat) "java/lang/Throwable" "stackTrace" "[Ljava/lang/StackTraceElement;") ∈ lw_all := lw_g (lw_at lw_m2 174 rfl) rfl
theorem q521 : (Jvm.Cond.fieldLink "java/lang/Throwable" (24 : Nat) "java/lang/Throwable" "suppressedExceptions" "Ljava/util/List;") ∈ lw_all := lw_g (lw_at lw_m2 175 rfl) rfl
theorem q522 : (Jvm.Cond.soleField "java/lang/Throwable" "backtrace") ∈ lw_all := lw_g (lw_at lw_m2 176 rfl) rfl
theorem q523 : (Jvm.Cond.soleField "java/lang/Throwable" "detailMessage") ∈ lw_all := lw_g (lw_at lw_m2 177 rfl) rfl
theorem q524 : (Jvm.Cond.soleField "java/lang/Throwable" "cause") ∈ lw_all := lw_g (lw_at lw_m2 178 rfl) rfl
theorem q525 : (Jvm.Cond.soleField "java/lang/Throwable" "stackTrace") ∈ lw_all := lw_g (lw_at lw_m2 179 rfl) rfl
theorem q527 : (Jvm.Cond.soleField "java/lang/Throwable" "depth") ∈ lw_all := lw_g (lw_at lw_m2 181 rfl) rfl
theorem q528 : (Jvm.Cond.soleField "java/lang/Throwable" "suppressedExceptions") ∈ lw_all := lw_g (lw_at lw_m2 182 rfl) rfl
theorem q762 : (Jvm.Cond.instanceMethod ({ cls := "java/lang/Throwable", name := "<init>", desc := "(Ljava/lang/String;Ljava/lang/Throwable;ZZ)V" } : Jvm.MethodName)) ∈ lw_all := lw_g (lw_at lw_m3 176 rfl) rfl
theorem q763 : (Jvm.Cond.code ({ cls := "java/lang/Throwable", name := "<init>", desc := "(Ljava/lang/String;Ljava/lang/Throwable;ZZ)V" } : Jvm.MethodName) prog_25_method_5_code (5 : Nat) (Option.none : Option Jvm.ClassFile.FieldType)) ∈ lw_all := lw_g (lw_at lw_m3 177 rfl) rfl
theorem q2164 : (Jvm.Cond.sameMethod "java/lang/Throwable" "java/lang/Throwable" "fillInStackTrace" "(I)Ljava/lang/Throwable;") ∈ lw_all := lw_g (lw_at lw_m9 138 rfl) rfl
theorem in_J0 : ∀ w ∈ wsJ00, w ∈ lw_all := lw_in wsJ00 [472, 474, 476, 478, 480] (by decide +kernel) (by decide +kernel)
/-! java/lang/Exception -/
def RJ1 : String := "java/lang/Exception"
abbrev cJ1_init : ByteArray := prog_15_method_2_code
def yJ1_init : MethodName := ⟨RJ1, "<init>", "(Ljava/lang/String;)V"⟩
abbrev cJ1_init_2 : ByteArray := prog_15_method_5_code
def yJ1_init_2 : MethodName := ⟨RJ1, "<init>", "(Ljava/lang/String;Ljava/lang/Throwable;ZZ)V"⟩
theorem q113 : (Jvm.Cond.initialized "java/lang/Exception") ∈ lw_all := lw_g (lw_at lw_m1 7 rfl) rfl
theorem q465 : (Jvm.Cond.declares ({ cls := "java/lang/Exception", name := "<init>", desc := "()V" } : Jvm.MethodName)) ∈ lw_tbl := lw_at lw_m2 119 rfl
theorem q466 : (Jvm.Cond.declares ({ cls := "java/lang/Exception", name := "<init>", desc := "(Ljava/lang/String;)V" } : Jvm.MethodName)) ∈ lw_tbl := lw_at lw_m2 120 rfl
theorem q512 : (Jvm.Cond.instanceMethod ({ cls := "java/lang/Exception", name := "<init>", desc := "(Ljava/lang/String;)V" } : Jvm.MethodName)) ∈ lw_all := lw_g (lw_at lw_m2 166 rfl) rfl
theorem q513 : (Jvm.Cond.code ({ cls := "java/lang/Exception", name := "<init>", desc := "(Ljava/lang/String;)V" } : Jvm.MethodName) prog_15_method_2_code (2 : Nat) (Option.none : Option Jvm.ClassFile.FieldType)) ∈ lw_all := lw_g (lw_at lw_m2 167 rfl) rfl
theorem q514 : (Jvm.Cond.methodLink "java/lang/Exception" (7 : Nat) ({ cls := "java/lang/Throwable", name := "<init>", desc := "(Ljava/lang/String;)V" } : Jvm.MethodName)) ∈ lw_all := lw_g (lw_at lw_m2 168 rfl) rfl
theorem q759 : (Jvm.Cond.instanceMethod ({ cls := "java/lang/Exception", name := "<init>", desc := "(Ljava/lang/String;Ljava/lang/Throwable;ZZ)V" } : Jvm.MethodName)) ∈ lw_all := lw_g (lw_at lw_m3 173 rfl) rfl
theorem q760 : (Jvm.Cond.code ({ cls := "java/lang/Exception", name := "<init>", desc := "(Ljava/lang/String;Ljava/lang/Throwable;ZZ)V" } : Jvm.MethodName) prog_15_method_5_code (5 : Nat) (Option.none : Option Jvm.ClassFile.FieldType)) ∈ lw_all := lw_g (lw_at lw_m3 174 rfl) rfl
theorem q761 : (Jvm.Cond.methodLink "java/lang/Exception" (16 : Nat) ({ cls := "java/lang/Throwable", name := "<init>", desc := "(Ljava/lang/String;Ljava/lang/Throwable;ZZ)V" } : Jvm.MethodName)) ∈ lw_all := lw_g (lw_at lw_m3 175 rfl) rfl
/-! java/lang/RuntimeException -/
def RJ2 : String := "java/lang/RuntimeException"
abbrev cJ2_init : ByteArray := prog_21_method_2_code
def yJ2_init : MethodName := ⟨RJ2, "<init>", "(Ljava/lang/String;)V"⟩
theorem q114 : (Jvm.Cond.initialized "java/lang/RuntimeException") ∈ lw_all := lw_g (lw_at lw_m1 8 rfl) rfl
theorem q463 : (Jvm.Cond.declares ({ cls := "java/lang/RuntimeException", name := "<init>", desc := "()V" } : Jvm.MethodName)) ∈ lw_tbl := lw_at lw_m2 117 rfl
theorem q464 : (Jvm.Cond.declares ({ cls := "java/lang/RuntimeException", name := "<init>", desc := "(Ljava/lang/String;)V" } : Jvm.MethodName)) ∈ lw_tbl := lw_at lw_m2 118 rfl
theorem q509 : (Jvm.Cond.instanceMethod ({ cls := "java/lang/RuntimeException", name := "<init>", desc := "(Ljava/lang/String;)V" } : Jvm.MethodName)) ∈ lw_all := lw_g (lw_at lw_m2 163 rfl) rfl
theorem q510 : (Jvm.Cond.code ({ cls := "java/lang/RuntimeException", name := "<init>", desc := "(Ljava/lang/String;)V" } : Jvm.MethodName) prog_21_method_2_code (2 : Nat) (Option.none : Option Jvm.ClassFile.FieldType)) ∈ lw_all := lw_g (lw_at lw_m2 164 rfl) rfl
theorem q511 : (Jvm.Cond.methodLink "java/lang/RuntimeException" (7 : Nat) ({ cls := "java/lang/Exception", name := "<init>", desc := "(Ljava/lang/String;)V" } : Jvm.MethodName)) ∈ lw_all := lw_g (lw_at lw_m2 165 rfl) rfl
/-! java/lang/IllegalArgumentException -/
def RJ3 : String := "java/lang/IllegalArgumentException"
def TJ3 : u_T := fun k => match k with
  | 0 => ("java/lang/Throwable", "cause", "Ljava/lang/Throwable;", false)
  | 1 => ("java/lang/Throwable", "stackTrace", "[Ljava/lang/StackTraceElement;", false)
  | 2 => ("java/lang/Throwable", "suppressedExceptions", "Ljava/util/List;", false)
  | 3 => ("java/lang/Throwable", "detailMessage", "Ljava/lang/String;", false)
  | 4 => ("java/lang/Throwable", "backtrace", "Ljava/lang/Object;", false)
  | _ => ("java/lang/Throwable", "depth", "I", false)
def tyJ3 : Nat → FieldType := fun k => match k with
  | 0 => .object "java/lang/Throwable"
  | 1 => .array (.object "java/lang/StackTraceElement")
  | 2 => .object "java/util/List"
  | 3 => .object "java/lang/String"
  | 4 => .object "java/lang/Object"
  | _ => .int
abbrev wsJ30 : List Cond := u_ws RJ3 TJ3 6
theorem nmJ3 : ∀ a, a < 6 → ∀ b, b < 6 → a ≠ b → (TJ3 a).2.1 ≠ (TJ3 b).2.1 := by decide +kernel
theorem tyJ3_ok : ∀ k, k < 6 → parseFieldDescriptor (TJ3 k).2.2.1 = some (tyJ3 k) := by decide +kernel
abbrev cJ3_init : ByteArray := prog_16_method_2_code
def yJ3_init : MethodName := ⟨RJ3, "<init>", "(Ljava/lang/String;)V"⟩
theorem q115 : (Jvm.Cond.initialized "java/lang/IllegalArgumentException") ∈ lw_all := lw_g (lw_at lw_m1 9 rfl) rfl
theorem q461 : (Jvm.Cond.instantiable "java/lang/IllegalArgumentException" (6 : Nat)) ∈ lw_all := lw_g (lw_at lw_m2 115 rfl) rfl
theorem q462 : (Jvm.Cond.castable "java/lang/IllegalArgumentException" "java/lang/IllegalArgumentException") ∈ lw_tbl := lw_at lw_m2 116 rfl
theorem q469 : (Jvm.Cond.selects "java/lang/IllegalArgumentException" ({ cls := "java/lang/Throwable", name := "fillInStackTrace", desc := "(I)Ljava/lang/Throwable;" } : Jvm.MethodName) ({ cls := "java/lang/Throwable", name := "fillInStackTrace", desc := "(I)Ljava/lang/Throwable;" } : Jvm.MethodName)) ∈ lw_all := lw_g (lw_at lw_m2 123 rfl) rfl
theorem q470 : (Jvm.Cond.selects "java/lang/IllegalArgumentException" ({ cls := "java/lang/Throwable", name := "fillInStackTrace", desc := "()Ljava/lang/Throwable;" } : Jvm.MethodName) ({ cls := "java/lang/Throwable", name := "fillInStackTrace", desc := "()Ljava/lang/Throwable;" } : Jvm.MethodName)) ∈ lw_all := lw_g (lw_at lw_m2 124 rfl) rfl
theorem q471 : (Jvm.Cond.lays "java/lang/IllegalArgumentException" "java/lang/Throwable" "cause" "Ljava/lang/Throwable;") ∈ lw_all := lw_g (lw_at lw_m2 125 rfl) rfl
theorem q473 : (Jvm.Cond.lays "java/lang/IllegalArgumentException" "java/lang/Throwable" "stackTrace" "[Ljava/lang/StackTraceElement;") ∈ lw_all := lw_g (lw_at lw_m2 127 rfl) rfl
theorem q475 : (Jvm.Cond.lays "java/lang/IllegalArgumentException" "java/lang/Throwable" "suppressedExceptions" "Ljava/util/List;") ∈ lw_all := lw_g (lw_at lw_m2 129 rfl) rfl
theorem q477 : (Jvm.Cond.lays "java/lang/IllegalArgumentException" "java/lang/Throwable" "detailMessage" "Ljava/lang/String;") ∈ lw_all := lw_g (lw_at lw_m2 131 rfl) rfl
theorem q479 : (Jvm.Cond.lays "java/lang/IllegalArgumentException" "java/lang/Throwable" "backtrace" "Ljava/lang/Object;") ∈ lw_all := lw_g (lw_at lw_m2 133 rfl) rfl
theorem q506 : (Jvm.Cond.instanceMethod ({ cls := "java/lang/IllegalArgumentException", name := "<init>", desc := "(Ljava/lang/String;)V" } : Jvm.MethodName)) ∈ lw_all := lw_g (lw_at lw_m2 160 rfl) rfl
theorem q507 : (Jvm.Cond.code ({ cls := "java/lang/IllegalArgumentException", name := "<init>", desc := "(Ljava/lang/String;)V" } : Jvm.MethodName) prog_16_method_2_code (2 : Nat) (Option.none : Option Jvm.ClassFile.FieldType)) ∈ lw_all := lw_g (lw_at lw_m2 161 rfl) rfl
theorem q508 : (Jvm.Cond.methodLink "java/lang/IllegalArgumentException" (7 : Nat) ({ cls := "java/lang/RuntimeException", name := "<init>", desc := "(Ljava/lang/String;)V" } : Jvm.MethodName)) ∈ lw_all := lw_g (lw_at lw_m2 162 rfl) rfl
theorem q526 : (Jvm.Cond.lays "java/lang/IllegalArgumentException" "java/lang/Throwable" "depth" "I") ∈ lw_all := lw_g (lw_at lw_m2 180 rfl) rfl
theorem q529 : (Jvm.Cond.superclass "java/lang/IllegalArgumentException" "java/lang/RuntimeException") ∈ lw_all := lw_g (lw_at lw_m2 183 rfl) rfl
theorem in_J3 : ∀ w ∈ wsJ30, w ∈ lw_all := lw_in wsJ30 [471, 473, 475, 477, 479, 526] (by decide +kernel) (by decide +kernel)
/-! java/lang/UnsupportedOperationException -/
def RJ4 : String := "java/lang/UnsupportedOperationException"
def TJ4 : u_T := fun k => match k with
  | 0 => ("java/lang/Throwable", "cause", "Ljava/lang/Throwable;", false)
  | 1 => ("java/lang/Throwable", "stackTrace", "[Ljava/lang/StackTraceElement;", false)
  | 2 => ("java/lang/Throwable", "suppressedExceptions", "Ljava/util/List;", false)
  | 3 => ("java/lang/Throwable", "detailMessage", "Ljava/lang/String;", false)
  | 4 => ("java/lang/Throwable", "backtrace", "Ljava/lang/Object;", false)
  | _ => ("java/lang/Throwable", "depth", "I", false)
def tyJ4 : Nat → FieldType := fun k => match k with
  | 0 => .object "java/lang/Throwable"
  | 1 => .array (.object "java/lang/StackTraceElement")
  | 2 => .object "java/util/List"
  | 3 => .object "java/lang/String"
  | 4 => .object "java/lang/Object"
  | _ => .int
abbrev wsJ40 : List Cond := u_ws RJ4 TJ4 6
theorem nmJ4 : ∀ a, a < 6 → ∀ b, b < 6 → a ≠ b → (TJ4 a).2.1 ≠ (TJ4 b).2.1 := by decide +kernel
theorem tyJ4_ok : ∀ k, k < 6 → parseFieldDescriptor (TJ4 k).2.2.1 = some (tyJ4 k) := by decide +kernel
abbrev cJ4_init : ByteArray := prog_26_method_2_code
def yJ4_init : MethodName := ⟨RJ4, "<init>", "(Ljava/lang/String;)V"⟩
theorem q116 : (Jvm.Cond.initialized "java/lang/UnsupportedOperationException") ∈ lw_all := lw_g (lw_at lw_m1 10 rfl) rfl
theorem q497 : (Jvm.Cond.selects "java/lang/UnsupportedOperationException" ({ cls := "java/lang/Throwable", name := "fillInStackTrace", desc := "()Ljava/lang/Throwable;" } : Jvm.MethodName) ({ cls := "java/lang/Throwable", name := "fillInStackTrace", desc := "()Ljava/lang/Throwable;" } : Jvm.MethodName)) ∈ lw_all := lw_g (lw_at lw_m2 151 rfl) rfl
theorem q542 : (Jvm.Cond.instantiable "java/lang/UnsupportedOperationException" (6 : Nat)) ∈ lw_all := lw_g (lw_at lw_m2 196 rfl) rfl
theorem q543 : (Jvm.Cond.castable "java/lang/UnsupportedOperationException" "java/lang/UnsupportedOperationException") ∈ lw_tbl := lw_at lw_m2 197 rfl
theorem q544 : (Jvm.Cond.selects "java/lang/UnsupportedOperationException" ({ cls := "java/lang/Throwable", name := "fillInStackTrace", desc := "(I)Ljava/lang/Throwable;" } : Jvm.MethodName) ({ cls := "java/lang/Throwable", name := "fillInStackTrace", desc := "(I)Ljava/lang/Throwable;" } : Jvm.MethodName)) ∈ lw_all := lw_g (lw_at lw_m2 198 rfl) rfl
theorem q545 : (Jvm.Cond.lays "java/lang/UnsupportedOperationException" "java/lang/Throwable" "cause" "Ljava/lang/Throwable;") ∈ lw_all := lw_g (lw_at lw_m2 199 rfl) rfl
theorem q546 : (Jvm.Cond.lays "java/lang/UnsupportedOperationException" "java/lang/Throwable" "stackTrace" "[Ljava/lang/StackTraceElement;") ∈ lw_all := lw_g (lw_at lw_m2 200 rfl) rfl
theorem q547 : (Jvm.Cond.lays "java/lang/UnsupportedOperationException" "java/lang/Throwable" "suppressedExceptions" "Ljava/util/List;") ∈ lw_all := lw_g (lw_at lw_m2 201 rfl) rfl
theorem q548 : (Jvm.Cond.lays "java/lang/UnsupportedOperationException" "java/lang/Throwable" "detailMessage" "Ljava/lang/String;") ∈ lw_all := lw_g (lw_at lw_m2 202 rfl) rfl
theorem q549 : (Jvm.Cond.lays "java/lang/UnsupportedOperationException" "java/lang/Throwable" "backtrace" "Ljava/lang/Object;") ∈ lw_all := lw_g (lw_at lw_m2 203 rfl) rfl
theorem q552 : (Jvm.Cond.instanceMethod ({ cls := "java/lang/UnsupportedOperationException", name := "<init>", desc := "(Ljava/lang/String;)V" } : Jvm.MethodName)) ∈ lw_all := lw_g (lw_at lw_m2 206 rfl) rfl
theorem q553 : (Jvm.Cond.code ({ cls := "java/lang/UnsupportedOperationException", name := "<init>", desc := "(Ljava/lang/String;)V" } : Jvm.MethodName) prog_26_method_2_code (2 : Nat) (Option.none : Option Jvm.ClassFile.FieldType)) ∈ lw_all := lw_g (lw_at lw_m2 207 rfl) rfl
theorem q554 : (Jvm.Cond.methodLink "java/lang/UnsupportedOperationException" (7 : Nat) ({ cls := "java/lang/RuntimeException", name := "<init>", desc := "(Ljava/lang/String;)V" } : Jvm.MethodName)) ∈ lw_all := lw_g (lw_at lw_m2 208 rfl) rfl
theorem q555 : (Jvm.Cond.lays "java/lang/UnsupportedOperationException" "java/lang/Throwable" "depth" "I") ∈ lw_all := lw_g (lw_at lw_m2 209 rfl) rfl
theorem q556 : (Jvm.Cond.superclass "java/lang/UnsupportedOperationException" "java/lang/RuntimeException") ∈ lw_all := lw_g (lw_at lw_m2 210 rfl) rfl
theorem in_J4 : ∀ w ∈ wsJ40, w ∈ lw_all := lw_in wsJ40 [545, 546, 547, 548, 549, 555] (by decide +kernel) (by decide +kernel)
/-! java/lang/IndexOutOfBoundsException -/
def RJ5 : String := "java/lang/IndexOutOfBoundsException"
def TJ5 : u_T := fun k => match k with
  | 0 => ("java/lang/Throwable", "cause", "Ljava/lang/Throwable;", false)
  | 1 => ("java/lang/Throwable", "stackTrace", "[Ljava/lang/StackTraceElement;", false)
  | 2 => ("java/lang/Throwable", "suppressedExceptions", "Ljava/util/List;", false)
  | 3 => ("java/lang/Throwable", "detailMessage", "Ljava/lang/String;", false)
  | 4 => ("java/lang/Throwable", "backtrace", "Ljava/lang/Object;", false)
  | _ => ("java/lang/Throwable", "depth", "I", false)
def tyJ5 : Nat → FieldType := fun k => match k with
  | 0 => .object "java/lang/Throwable"
  | 1 => .array (.object "java/lang/StackTraceElement")
  | 2 => .object "java/util/List"
  | 3 => .object "java/lang/String"
  | 4 => .object "java/lang/Object"
  | _ => .int
abbrev wsJ50 : List Cond := u_ws RJ5 TJ5 6
theorem nmJ5 : ∀ a, a < 6 → ∀ b, b < 6 → a ≠ b → (TJ5 a).2.1 ≠ (TJ5 b).2.1 := by decide +kernel
theorem tyJ5_ok : ∀ k, k < 6 → parseFieldDescriptor (TJ5 k).2.2.1 = some (tyJ5 k) := by decide +kernel
abbrev cJ5_init : ByteArray := prog_18_method_2_code
def yJ5_init : MethodName := ⟨RJ5, "<init>", "(Ljava/lang/String;)V"⟩
theorem q117 : (Jvm.Cond.initialized "java/lang/IndexOutOfBoundsException") ∈ lw_all := lw_g (lw_at lw_m1 11 rfl) rfl
theorem q496 : (Jvm.Cond.selects "java/lang/IndexOutOfBoundsException" ({ cls := "java/lang/Throwable", name := "fillInStackTrace", desc := "()Ljava/lang/Throwable;" } : Jvm.MethodName) ({ cls := "java/lang/Throwable", name := "fillInStackTrace", desc := "()Ljava/lang/Throwable;" } : Jvm.MethodName)) ∈ lw_all := lw_g (lw_at lw_m2 150 rfl) rfl
theorem q565 : (Jvm.Cond.instanceMethod ({ cls := "java/lang/IndexOutOfBoundsException", name := "<init>", desc := "(Ljava/lang/String;)V" } : Jvm.MethodName)) ∈ lw_all := lw_g (lw_at lw_m2 219 rfl) rfl
theorem q566 : (Jvm.Cond.code ({ cls := "java/lang/IndexOutOfBoundsException", name := "<init>", desc := "(Ljava/lang/String;)V" } : Jvm.MethodName) prog_18_method_2_code (2 : Nat) (Option.none : Option Jvm.ClassFile.FieldType)) ∈ lw_all := lw_g (lw_at lw_m2 220 rfl) rfl
theorem q567 : (Jvm.Cond.methodLink "java/lang/IndexOutOfBoundsException" (7 : Nat) ({ cls := "java/lang/RuntimeException", name := "<init>", desc := "(Ljava/lang/String;)V" } : Jvm.MethodName)) ∈ lw_all := lw_g (lw_at lw_m2 221 rfl) rfl
theorem q576 : (Jvm.Cond.declares ({ cls := "java/lang/IndexOutOfBoundsException", name := "<init>", desc := "()V" } : Jvm.MethodName)) ∈ lw_tbl := lw_at lw_m2 230 rfl
theorem q577 : (Jvm.Cond.declares ({ cls := "java/lang/IndexOutOfBoundsException", name := "<init>", desc := "(Ljava/lang/String;)V" } : Jvm.MethodName)) ∈ lw_tbl := lw_at lw_m2 231 rfl
theorem q597 : (Jvm.Cond.instantiable "java/lang/IndexOutOfBoundsException" (6 : Nat)) ∈ lw_all := lw_g (lw_at lw_m3 11 rfl) rfl
theorem q598 : (Jvm.Cond.castable "java/lang/IndexOutOfBoundsException" "java/lang/IndexOutOfBoundsException") ∈ lw_tbl := lw_at lw_m3 12 rfl
theorem q599 : (Jvm.Cond.selects "java/lang/IndexOutOfBoundsException" ({ cls := "java/lang/Throwable", name := "fillInStackTrace", desc := "(I)Ljava/lang/Throwable;" } : Jvm.MethodName) ({ cls := "java/lang/Throwable", name := "fillInStackTrace", desc := "(I)Ljava/lang/Throwable;" } : Jvm.MethodName)) ∈ lw_all := lw_g (lw_at lw_m3 13 rfl) rfl
theorem q600 : (Jvm.Cond.lays "java/lang/IndexOutOfBoundsException" "java/lang/Throwable" "cause" "Ljava/lang/Throwable;") ∈ lw_all := lw_g (lw_at lw_m3 14 rfl) rfl
theorem q601 : (Jvm.Cond.lays "java/lang/IndexOutOfBoundsException" "java/lang/Throwable" "stackTrace" "[Ljava/lang/StackTraceElement;") ∈ lw_all := lw_g (lw_at lw_m3 15 rfl) rfl
theorem q602 : (Jvm.Cond.lays "java/lang/IndexOutOfBoundsException" "java/lang/Throwable" "suppressedExceptions" "Ljava/util/List;") ∈ lw_all := lw_g (lw_at lw_m3 16 rfl) rfl
theorem q603 : (Jvm.Cond.lays "java/lang/IndexOutOfBoundsException" "java/lang/Throwable" "detailMessage" "Ljava/lang/String;") ∈ lw_all := lw_g (lw_at lw_m3 17 rfl) rfl
theorem q604 : (Jvm.Cond.lays "java/lang/IndexOutOfBoundsException" "java/lang/Throwable" "backtrace" "Ljava/lang/Object;") ∈ lw_all := lw_g (lw_at lw_m3 18 rfl) rfl
theorem q607 : (Jvm.Cond.lays "java/lang/IndexOutOfBoundsException" "java/lang/Throwable" "depth" "I") ∈ lw_all := lw_g (lw_at lw_m3 21 rfl) rfl
theorem q608 : (Jvm.Cond.superclass "java/lang/IndexOutOfBoundsException" "java/lang/RuntimeException") ∈ lw_all := lw_g (lw_at lw_m3 22 rfl) rfl
theorem in_J5 : ∀ w ∈ wsJ50, w ∈ lw_all := lw_in wsJ50 [600, 601, 602, 603, 604, 607] (by decide +kernel) (by decide +kernel)
/-! java/lang/ArrayIndexOutOfBoundsException -/
def RJ6 : String := "java/lang/ArrayIndexOutOfBoundsException"
def TJ6 : u_T := fun k => match k with
  | 0 => ("java/lang/Throwable", "backtrace", "Ljava/lang/Object;", false)
  | 1 => ("java/lang/Throwable", "detailMessage", "Ljava/lang/String;", false)
  | 2 => ("java/lang/Throwable", "cause", "Ljava/lang/Throwable;", false)
  | 3 => ("java/lang/Throwable", "stackTrace", "[Ljava/lang/StackTraceElement;", false)
  | 4 => ("java/lang/Throwable", "depth", "I", false)
  | _ => ("java/lang/Throwable", "suppressedExceptions", "Ljava/util/List;", false)
def tyJ6 : Nat → FieldType := fun k => match k with
  | 0 => .object "java/lang/Object"
  | 1 => .object "java/lang/String"
  | 2 => .object "java/lang/Throwable"
  | 3 => .array (.object "java/lang/StackTraceElement")
  | 4 => .int
  | _ => .object "java/util/List"
abbrev wsJ60 : List Cond := u_ws RJ6 TJ6 6
theorem nmJ6 : ∀ a, a < 6 → ∀ b, b < 6 → a ≠ b → (TJ6 a).2.1 ≠ (TJ6 b).2.1 := by decide +kernel
theorem tyJ6_ok : ∀ k, k < 6 → parseFieldDescriptor (TJ6 k).2.2.1 = some (tyJ6 k) := by decide +kernel
abbrev cJ6_init : ByteArray := prog_14_method_2_code
def yJ6_init : MethodName := ⟨RJ6, "<init>", "(Ljava/lang/String;)V"⟩
theorem q118 : (Jvm.Cond.initialized "java/lang/ArrayIndexOutOfBoundsException") ∈ lw_all := lw_g (lw_at lw_m1 12 rfl) rfl
theorem q494 : (Jvm.Cond.selects "java/lang/ArrayIndexOutOfBoundsException" ({ cls := "java/lang/Throwable", name := "fillInStackTrace", desc := "()Ljava/lang/Throwable;" } : Jvm.MethodName) ({ cls := "java/lang/Throwable", name := "fillInStackTrace", desc := "()Ljava/lang/Throwable;" } : Jvm.MethodName)) ∈ lw_all := lw_g (lw_at lw_m2 148 rfl) rfl
theorem q561 : (Jvm.Cond.instantiable "java/lang/ArrayIndexOutOfBoundsException" (6 : Nat)) ∈ lw_all := lw_g (lw_at lw_m2 215 rfl) rfl
theorem q562 : (Jvm.Cond.instanceMethod ({ cls := "java/lang/ArrayIndexOutOfBoundsException", name := "<init>", desc := "(Ljava/lang/String;)V" } : Jvm.MethodName)) ∈ lw_all := lw_g (lw_at lw_m2 216 rfl) rfl
theorem q563 : (Jvm.Cond.code ({ cls := "java/lang/ArrayIndexOutOfBoundsException", name := "<init>", desc := "(Ljava/lang/String;)V" } : Jvm.MethodName) prog_14_method_2_code (2 : Nat) (Option.none : Option Jvm.ClassFile.FieldType)) ∈ lw_all := lw_g (lw_at lw_m2 217 rfl) rfl
theorem q564 : (Jvm.Cond.methodLink "java/lang/ArrayIndexOutOfBoundsException" (7 : Nat) ({ cls := "java/lang/IndexOutOfBoundsException", name := "<init>", desc := "(Ljava/lang/String;)V" } : Jvm.MethodName)) ∈ lw_all := lw_g (lw_at lw_m2 218 rfl) rfl
theorem q568 : (Jvm.Cond.lays "java/lang/ArrayIndexOutOfBoundsException" "java/lang/Throwable" "backtrace" "Ljava/lang/Object;") ∈ lw_all := lw_g (lw_at lw_m2 222 rfl) rfl
theorem q569 : (Jvm.Cond.lays "java/lang/ArrayIndexOutOfBoundsException" "java/lang/Throwable" "detailMessage" "Ljava/lang/String;") ∈ lw_all := lw_g (lw_at lw_m2 223 rfl) rfl
theorem q570 : (Jvm.Cond.lays "java/lang/ArrayIndexOutOfBoundsException" "java/lang/Throwable" "cause" "Ljava/lang/Throwable;") ∈ lw_all := lw_g (lw_at lw_m2 224 rfl) rfl
theorem q571 : (Jvm.Cond.lays "java/lang/ArrayIndexOutOfBoundsException" "java/lang/Throwable" "stackTrace" "[Ljava/lang/StackTraceElement;") ∈ lw_all := lw_g (lw_at lw_m2 225 rfl) rfl
theorem q572 : (Jvm.Cond.lays "java/lang/ArrayIndexOutOfBoundsException" "java/lang/Throwable" "depth" "I") ∈ lw_all := lw_g (lw_at lw_m2 226 rfl) rfl
theorem q573 : (Jvm.Cond.lays "java/lang/ArrayIndexOutOfBoundsException" "java/lang/Throwable" "suppressedExceptions" "Ljava/util/List;") ∈ lw_all := lw_g (lw_at lw_m2 227 rfl) rfl
theorem q574 : (Jvm.Cond.superclass "java/lang/ArrayIndexOutOfBoundsException" "java/lang/IndexOutOfBoundsException") ∈ lw_all := lw_g (lw_at lw_m2 228 rfl) rfl
theorem q575 : (Jvm.Cond.castable "java/lang/ArrayIndexOutOfBoundsException" "java/lang/ArrayIndexOutOfBoundsException") ∈ lw_tbl := lw_at lw_m2 229 rfl
theorem q578 : (Jvm.Cond.selects "java/lang/ArrayIndexOutOfBoundsException" ({ cls := "java/lang/Throwable", name := "fillInStackTrace", desc := "(I)Ljava/lang/Throwable;" } : Jvm.MethodName) ({ cls := "java/lang/Throwable", name := "fillInStackTrace", desc := "(I)Ljava/lang/Throwable;" } : Jvm.MethodName)) ∈ lw_all := lw_g (lw_at lw_m2 232 rfl) rfl
theorem q2165 : (Jvm.Cond.castable "java/lang/ArrayIndexOutOfBoundsException" "java/lang/IndexOutOfBoundsException") ∈ lw_tbl := lw_at lw_m9 139 rfl
theorem in_J6 : ∀ w ∈ wsJ60, w ∈ lw_all := lw_in wsJ60 [568, 569, 570, 571, 572, 573] (by decide +kernel) (by decide +kernel)
/-! java/lang/IllegalStateException -/
def RJ8 : String := "java/lang/IllegalStateException"
def TJ8 : u_T := fun k => match k with
  | 0 => ("java/lang/Throwable", "cause", "Ljava/lang/Throwable;", false)
  | 1 => ("java/lang/Throwable", "stackTrace", "[Ljava/lang/StackTraceElement;", false)
  | 2 => ("java/lang/Throwable", "suppressedExceptions", "Ljava/util/List;", false)
  | 3 => ("java/lang/Throwable", "detailMessage", "Ljava/lang/String;", false)
  | 4 => ("java/lang/Throwable", "backtrace", "Ljava/lang/Object;", false)
  | _ => ("java/lang/Throwable", "depth", "I", false)
def tyJ8 : Nat → FieldType := fun k => match k with
  | 0 => .object "java/lang/Throwable"
  | 1 => .array (.object "java/lang/StackTraceElement")
  | 2 => .object "java/util/List"
  | 3 => .object "java/lang/String"
  | 4 => .object "java/lang/Object"
  | _ => .int
abbrev wsJ80 : List Cond := u_ws RJ8 TJ8 6
theorem nmJ8 : ∀ a, a < 6 → ∀ b, b < 6 → a ≠ b → (TJ8 a).2.1 ≠ (TJ8 b).2.1 := by decide +kernel
theorem tyJ8_ok : ∀ k, k < 6 → parseFieldDescriptor (TJ8 k).2.2.1 = some (tyJ8 k) := by decide +kernel
abbrev cJ8_init : ByteArray := prog_17_method_2_code
def yJ8_init : MethodName := ⟨RJ8, "<init>", "(Ljava/lang/String;)V"⟩
theorem q120 : (Jvm.Cond.initialized "java/lang/IllegalStateException") ∈ lw_all := lw_g (lw_at lw_m1 14 rfl) rfl
theorem q495 : (Jvm.Cond.selects "java/lang/IllegalStateException" ({ cls := "java/lang/Throwable", name := "fillInStackTrace", desc := "()Ljava/lang/Throwable;" } : Jvm.MethodName) ({ cls := "java/lang/Throwable", name := "fillInStackTrace", desc := "()Ljava/lang/Throwable;" } : Jvm.MethodName)) ∈ lw_all := lw_g (lw_at lw_m2 149 rfl) rfl
theorem q619 : (Jvm.Cond.instantiable "java/lang/IllegalStateException" (6 : Nat)) ∈ lw_all := lw_g (lw_at lw_m3 33 rfl) rfl
theorem q620 : (Jvm.Cond.castable "java/lang/IllegalStateException" "java/lang/IllegalStateException") ∈ lw_tbl := lw_at lw_m3 34 rfl
theorem q621 : (Jvm.Cond.selects "java/lang/IllegalStateException" ({ cls := "java/lang/Throwable", name := "fillInStackTrace", desc := "(I)Ljava/lang/Throwable;" } : Jvm.MethodName) ({ cls := "java/lang/Throwable", name := "fillInStackTrace", desc := "(I)Ljava/lang/Throwable;" } : Jvm.MethodName)) ∈ lw_all := lw_g (lw_at lw_m3 35 rfl) rfl
theorem q622 : (Jvm.Cond.lays "java/lang/IllegalStateException" "java/lang/Throwable" "cause" "Ljava/lang/Throwable;") ∈ lw_all := lw_g (lw_at lw_m3 36 rfl) rfl
theorem q623 : (Jvm.Cond.lays "java/lang/IllegalStateException" "java/lang/Throwable" "stackTrace" "[Ljava/lang/StackTraceElement;") ∈ lw_all := lw_g (lw_at lw_m3 37 rfl) rfl
theorem q624 : (Jvm.Cond.lays "java/lang/IllegalStateException" "java/lang/Throwable" "suppressedExceptions" "Ljava/util/List;") ∈ lw_all := lw_g (lw_at lw_m3 38 rfl) rfl
theorem q625 : (Jvm.Cond.lays "java/lang/IllegalStateException" "java/lang/Throwable" "detailMessage" "Ljava/lang/String;") ∈ lw_all := lw_g (lw_at lw_m3 39 rfl) rfl
theorem q626 : (Jvm.Cond.lays "java/lang/IllegalStateException" "java/lang/Throwable" "backtrace" "Ljava/lang/Object;") ∈ lw_all := lw_g (lw_at lw_m3 40 rfl) rfl
theorem q629 : (Jvm.Cond.instanceMethod ({ cls := "java/lang/IllegalStateException", name := "<init>", desc := "(Ljava/lang/String;)V" } : Jvm.MethodName)) ∈ lw_all := lw_g (lw_at lw_m3 43 rfl) rfl
theorem q630 : (Jvm.Cond.code ({ cls := "java/lang/IllegalStateException", name := "<init>", desc := "(Ljava/lang/String;)V" } : Jvm.MethodName) prog_17_method_2_code (2 : Nat) (Option.none : Option Jvm.ClassFile.FieldType)) ∈ lw_all := lw_g (lw_at lw_m3 44 rfl) rfl
theorem q631 : (Jvm.Cond.methodLink "java/lang/IllegalStateException" (7 : Nat) ({ cls := "java/lang/RuntimeException", name := "<init>", desc := "(Ljava/lang/String;)V" } : Jvm.MethodName)) ∈ lw_all := lw_g (lw_at lw_m3 45 rfl) rfl
theorem q632 : (Jvm.Cond.lays "java/lang/IllegalStateException" "java/lang/Throwable" "depth" "I") ∈ lw_all := lw_g (lw_at lw_m3 46 rfl) rfl
theorem q633 : (Jvm.Cond.superclass "java/lang/IllegalStateException" "java/lang/RuntimeException") ∈ lw_all := lw_g (lw_at lw_m3 47 rfl) rfl
theorem in_J8 : ∀ w ∈ wsJ80, w ∈ lw_all := lw_in wsJ80 [622, 623, 624, 625, 626, 632] (by decide +kernel) (by decide +kernel)
/-! java/lang/String -/
def RJ7 : String := "java/lang/String"
def TJ7 : u_T := fun k => match k with
  | 0 => ("java/lang/String", "value", "[B", true)
  | _ => ("java/lang/String", "coder", "B", true)
def tyJ7 : Nat → FieldType := fun k => match k with
  | 0 => .array .byte
  | _ => .byte
abbrev wsJ70 : List Cond := u_ws RJ7 TJ7 2
theorem nmJ7 : ∀ a, a < 2 → ∀ b, b < 2 → a ≠ b → (TJ7 a).2.1 ≠ (TJ7 b).2.1 := by decide +kernel
theorem tyJ7_ok : ∀ k, k < 2 → parseFieldDescriptor (TJ7 k).2.2.1 = some (tyJ7 k) := by decide +kernel
abbrev cJ7_length : ByteArray := prog_22_method_54_code
def yJ7_length : MethodName := ⟨RJ7, "length", "()I"⟩
abbrev cJ7_coder : ByteArray := prog_22_method_152_code
def yJ7_coder : MethodName := ⟨RJ7, "coder", "()B"⟩
abbrev cJ7_charAt : ByteArray := prog_22_method_56_code
def yJ7_charAt : MethodName := ⟨RJ7, "charAt", "(I)C"⟩
abbrev cJ7_isLatin1 : ByteArray := prog_22_method_154_code
def yJ7_isLatin1 : MethodName := ⟨RJ7, "isLatin1", "()Z"⟩
abbrev cJ7_checkIndex : ByteArray := prog_22_method_155_code
def yJ7_checkIndex : MethodName := ⟨RJ7, "checkIndex", "(II)V"⟩
theorem q119 : (Jvm.Cond.initialized "java/lang/String") ∈ lw_all := lw_g (lw_at lw_m1 13 rfl) rfl
theorem q579 : (Jvm.Cond.instantiable "java/lang/String" (4 : Nat)) ∈ lw_all := lw_g (lw_at lw_m2 233 rfl) rfl
theorem q580 : (Jvm.Cond.laysFinal "java/lang/String" "java/lang/String" "value" "[B") ∈ lw_all := lw_g (lw_at lw_m2 234 rfl) rfl
theorem q581 : (Jvm.Cond.soleField "java/lang/String" "value") ∈ lw_all := lw_g (lw_at lw_m2 235 rfl) rfl
theorem q582 : (Jvm.Cond.laysFinal "java/lang/String" "java/lang/String" "coder" "B") ∈ lw_all := lw_g (lw_at lw_m2 236 rfl) rfl
theorem q583 : (Jvm.Cond.soleField "java/lang/String" "coder") ∈ lw_all := lw_g (lw_at lw_m2 237 rfl) rfl
theorem q780 : (Jvm.Cond.instanceMethod ({ cls := "java/lang/String", name := "length", desc := "()I" } : Jvm.MethodName)) ∈ lw_all := lw_g (lw_at lw_m3 194 rfl) rfl
theorem q781 : (Jvm.Cond.selects "java/lang/String" ({ cls := "java/lang/String", name := "length", desc := "()I" } : Jvm.MethodName) ({ cls := "java/lang/String", name := "length", desc := "()I" } : Jvm.MethodName)) ∈ lw_all := lw_g (lw_at lw_m3 195 rfl) rfl
theorem q782 : (Jvm.Cond.code ({ cls := "java/lang/String", name := "length", desc := "()I" } : Jvm.MethodName) prog_22_method_54_code (1 : Nat) (Option.some Jvm.ClassFile.FieldType.int)) ∈ lw_all := lw_g (lw_at lw_m3 196 rfl) rfl
theorem q783 : (Jvm.Cond.methodLink "java/lang/String" (335 : Nat) ({ cls := "java/lang/String", name := "coder", desc := "()B" } : Jvm.MethodName)) ∈ lw_all := lw_g (lw_at lw_m3 197 rfl) rfl
theorem q784 : (Jvm.Cond.instanceMethod ({ cls := "java/lang/String", name := "coder", desc := "()B" } : Jvm.MethodName)) ∈ lw_all := lw_g (lw_at lw_m3 198 rfl) rfl
theorem q785 : (Jvm.Cond.selects "java/lang/String" ({ cls := "java/lang/String", name := "coder", desc := "()B" } : Jvm.MethodName) ({ cls := "java/lang/String", name := "coder", desc := "()B" } : Jvm.MethodName)) ∈ lw_all := lw_g (lw_at lw_m3 199 rfl) rfl
theorem q786 : (Jvm.Cond.code ({ cls := "java/lang/String", name := "coder", desc := "()B" } : Jvm.MethodName) prog_22_method_152_code (1 : Nat) (Option.some Jvm.ClassFile.FieldType.byte)) ∈ lw_all := lw_g (lw_at lw_m3 200 rfl) rfl
theorem q787 : (Jvm.Cond.fieldLink "java/lang/String" (38 : Nat) "java/lang/String" "COMPACT_STRINGS" "Z") ∈ lw_all := lw_g (lw_at lw_m3 201 rfl) rfl
theorem q788 : (Jvm.Cond.laysStatic "java/lang/String" "COMPACT_STRINGS" "Z") ∈ lw_tbl := lw_at lw_m3 202 rfl
theorem q790 : (Jvm.Cond.instanceMethod ({ cls := "java/lang/String", name := "charAt", desc := "(I)C" } : Jvm.MethodName)) ∈ lw_all := lw_g (lw_at lw_m3 204 rfl) rfl
theorem q791 : (Jvm.Cond.selects "java/lang/String" ({ cls := "java/lang/String", name := "charAt", desc := "(I)C" } : Jvm.MethodName) ({ cls := "java/lang/String", name := "charAt", desc := "(I)C" } : Jvm.MethodName)) ∈ lw_all := lw_g (lw_at lw_m3 205 rfl) rfl
theorem q792 : (Jvm.Cond.code ({ cls := "java/lang/String", name := "charAt", desc := "(I)C" } : Jvm.MethodName) prog_22_method_56_code (2 : Nat) (Option.some Jvm.ClassFile.FieldType.char)) ∈ lw_all := lw_g (lw_at lw_m3 206 rfl) rfl
theorem q793 : (Jvm.Cond.methodLink "java/lang/String" (492 : Nat) ({ cls := "java/lang/String", name := "isLatin1", desc := "()Z" } : Jvm.MethodName)) ∈ lw_all := lw_g (lw_at lw_m3 207 rfl) rfl
theorem q794 : (Jvm.Cond.instanceMethod ({ cls := "java/lang/String", name := "isLatin1", desc := "()Z" } : Jvm.MethodName)) ∈ lw_all := lw_g (lw_at lw_m3 208 rfl) rfl
theorem q795 : (Jvm.Cond.selects "java/lang/String" ({ cls := "java/lang/String", name := "isLatin1", desc := "()Z" } : Jvm.MethodName) ({ cls := "java/lang/String", name := "isLatin1", desc := "()Z" } : Jvm.MethodName)) ∈ lw_all := lw_g (lw_at lw_m3 209 rfl) rfl
theorem q796 : (Jvm.Cond.code ({ cls := "java/lang/String", name := "isLatin1", desc := "()Z" } : Jvm.MethodName) prog_22_method_154_code (1 : Nat) (Option.some Jvm.ClassFile.FieldType.boolean)) ∈ lw_all := lw_g (lw_at lw_m3 210 rfl) rfl
theorem q797 : (Jvm.Cond.methodLink "java/lang/String" (495 : Nat) ({ cls := "java/lang/StringLatin1", name := "charAt", desc := "([BI)C" } : Jvm.MethodName)) ∈ lw_all := lw_g (lw_at lw_m3 211 rfl) rfl
theorem q801 : (Jvm.Cond.static ({ cls := "java/lang/String", name := "checkIndex", desc := "(II)V" } : Jvm.MethodName)) ∈ lw_all := lw_g (lw_at lw_m3 215 rfl) rfl
theorem q802 : (Jvm.Cond.code ({ cls := "java/lang/String", name := "checkIndex", desc := "(II)V" } : Jvm.MethodName) prog_22_method_155_code (2 : Nat) (Option.none : Option Jvm.ClassFile.FieldType)) ∈ lw_all := lw_g (lw_at lw_m3 216 rfl) rfl
theorem q803 : (Jvm.Cond.fieldLink "java/lang/String" (1053 : Nat) "jdk/internal/util/Preconditions" "SIOOBE_FORMATTER" "Ljava/util/function/BiFunction;") ∈ lw_all := lw_g (lw_at lw_m3 217 rfl) rfl
theorem q805 : (Jvm.Cond.methodLink "java/lang/String" (1059 : Nat) ({ cls := "jdk/internal/util/Preconditions", name := "checkIndex", desc := "(IILjava/util/function/BiFunction;)I" } : Jvm.MethodName)) ∈ lw_all := lw_g (lw_at lw_m3 219 rfl) rfl
theorem q808 : (Jvm.Cond.methodLink "java/lang/String" (498 : Nat) ({ cls := "java/lang/StringUTF16", name := "charAt", desc := "([BI)C" } : Jvm.MethodName)) ∈ lw_all := lw_g (lw_at lw_m3 222 rfl) rfl
theorem q2166 : (Jvm.Cond.fieldLink "java/lang/String" (9 : Nat) "java/lang/String" "value" "[B") ∈ lw_all := lw_g (lw_at lw_m9 140 rfl) rfl
theorem q2167 : (Jvm.Cond.fieldLink "java/lang/String" (15 : Nat) "java/lang/String" "coder" "B") ∈ lw_all := lw_g (lw_at lw_m9 141 rfl) rfl
theorem in_J7 : ∀ w ∈ wsJ70, w ∈ lw_all := lw_in wsJ70 [580, 582] (by decide +kernel) (by decide +kernel)
/-! java/lang/StringLatin1 -/
def RJ9 : String := "java/lang/StringLatin1"
abbrev cJ9_charAt : ByteArray := prog_23_method_2_code
def yJ9_charAt : MethodName := ⟨RJ9, "charAt", "([BI)C"⟩
theorem q123 : (Jvm.Cond.initialized "java/lang/StringLatin1") ∈ lw_all := lw_g (lw_at lw_m1 17 rfl) rfl
theorem q798 : (Jvm.Cond.static ({ cls := "java/lang/StringLatin1", name := "charAt", desc := "([BI)C" } : Jvm.MethodName)) ∈ lw_all := lw_g (lw_at lw_m3 212 rfl) rfl
theorem q799 : (Jvm.Cond.code ({ cls := "java/lang/StringLatin1", name := "charAt", desc := "([BI)C" } : Jvm.MethodName) prog_23_method_2_code (2 : Nat) (Option.some Jvm.ClassFile.FieldType.char)) ∈ lw_all := lw_g (lw_at lw_m3 213 rfl) rfl
theorem q800 : (Jvm.Cond.methodLink "java/lang/StringLatin1" (9 : Nat) ({ cls := "java/lang/String", name := "checkIndex", desc := "(II)V" } : Jvm.MethodName)) ∈ lw_all := lw_g (lw_at lw_m3 214 rfl) rfl
/-! jdk/internal/util/Preconditions -/
def RJ10 : String := "jdk/internal/util/Preconditions"
abbrev cJ10_checkIndex : ByteArray := prog_27_method_11_code
def yJ10_checkIndex : MethodName := ⟨RJ10, "checkIndex", "(IILjava/util/function/BiFunction;)I"⟩
theorem q124 : (Jvm.Cond.initialized "jdk/internal/util/Preconditions") ∈ lw_all := lw_g (lw_at lw_m1 18 rfl) rfl
theorem q804 : (Jvm.Cond.laysStatic "jdk/internal/util/Preconditions" "SIOOBE_FORMATTER" "Ljava/util/function/BiFunction;") ∈ lw_tbl := lw_at lw_m3 218 rfl
theorem q806 : (Jvm.Cond.static ({ cls := "jdk/internal/util/Preconditions", name := "checkIndex", desc := "(IILjava/util/function/BiFunction;)I" } : Jvm.MethodName)) ∈ lw_all := lw_g (lw_at lw_m3 220 rfl) rfl
theorem q807 : (Jvm.Cond.code ({ cls := "jdk/internal/util/Preconditions", name := "checkIndex", desc := "(IILjava/util/function/BiFunction;)I" } : Jvm.MethodName) prog_27_method_11_code (3 : Nat) (Option.some Jvm.ClassFile.FieldType.int)) ∈ lw_all := lw_g (lw_at lw_m3 221 rfl) rfl
/-! java/lang/StringUTF16 -/
def RJ11 : String := "java/lang/StringUTF16"
abbrev cJ11_charAt : ByteArray := prog_24_method_83_code
def yJ11_charAt : MethodName := ⟨RJ11, "charAt", "([BI)C"⟩
abbrev cJ11_checkIndex : ByteArray := prog_24_method_91_code
def yJ11_checkIndex : MethodName := ⟨RJ11, "checkIndex", "(I[B)V"⟩
abbrev cJ11_length : ByteArray := prog_24_method_6_code
def yJ11_length : MethodName := ⟨RJ11, "length", "([B)I"⟩
abbrev cJ11_getChar : ByteArray := prog_24_method_5_code
def yJ11_getChar : MethodName := ⟨RJ11, "getChar", "([BI)C"⟩
theorem q125 : (Jvm.Cond.initialized "java/lang/StringUTF16") ∈ lw_all := lw_g (lw_at lw_m1 19 rfl) rfl
theorem q809 : (Jvm.Cond.static ({ cls := "java/lang/StringUTF16", name := "charAt", desc := "([BI)C" } : Jvm.MethodName)) ∈ lw_all := lw_g (lw_at lw_m3 223 rfl) rfl
theorem q810 : (Jvm.Cond.code ({ cls := "java/lang/StringUTF16", name := "charAt", desc := "([BI)C" } : Jvm.MethodName) prog_24_method_83_code (2 : Nat) (Option.some Jvm.ClassFile.FieldType.char)) ∈ lw_all := lw_g (lw_at lw_m3 224 rfl) rfl
theorem q811 : (Jvm.Cond.methodLink "java/lang/StringUTF16" (67 : Nat) ({ cls := "java/lang/StringUTF16", name := "checkIndex", desc := "(I[B)V" } : Jvm.MethodName)) ∈ lw_all := lw_g (lw_at lw_m3 225 rfl) rfl
theorem q812 : (Jvm.Cond.static ({ cls := "java/lang/StringUTF16", name := "checkIndex", desc := "(I[B)V" } : Jvm.MethodName)) ∈ lw_all := lw_g (lw_at lw_m3 226 rfl) rfl
theorem q813 : (Jvm.Cond.code ({ cls := "java/lang/StringUTF16", name := "checkIndex", desc := "(I[B)V" } : Jvm.MethodName) prog_24_method_91_code (2 : Nat) (Option.none : Option Jvm.ClassFile.FieldType)) ∈ lw_all := lw_g (lw_at lw_m3 227 rfl) rfl
theorem q814 : (Jvm.Cond.methodLink "java/lang/StringUTF16" (48 : Nat) ({ cls := "java/lang/StringUTF16", name := "length", desc := "([B)I" } : Jvm.MethodName)) ∈ lw_all := lw_g (lw_at lw_m3 228 rfl) rfl
theorem q815 : (Jvm.Cond.static ({ cls := "java/lang/StringUTF16", name := "length", desc := "([B)I" } : Jvm.MethodName)) ∈ lw_all := lw_g (lw_at lw_m3 229 rfl) rfl
theorem q816 : (Jvm.Cond.code ({ cls := "java/lang/StringUTF16", name := "length", desc := "([B)I" } : Jvm.MethodName) prog_24_method_6_code (1 : Nat) (Option.some Jvm.ClassFile.FieldType.int)) ∈ lw_all := lw_g (lw_at lw_m3 230 rfl) rfl
theorem q817 : (Jvm.Cond.methodLink "java/lang/StringUTF16" (414 : Nat) ({ cls := "java/lang/String", name := "checkIndex", desc := "(II)V" } : Jvm.MethodName)) ∈ lw_all := lw_g (lw_at lw_m3 231 rfl) rfl
theorem q818 : (Jvm.Cond.methodLink "java/lang/StringUTF16" (71 : Nat) ({ cls := "java/lang/StringUTF16", name := "getChar", desc := "([BI)C" } : Jvm.MethodName)) ∈ lw_all := lw_g (lw_at lw_m3 232 rfl) rfl
theorem q819 : (Jvm.Cond.static ({ cls := "java/lang/StringUTF16", name := "getChar", desc := "([BI)C" } : Jvm.MethodName)) ∈ lw_all := lw_g (lw_at lw_m3 233 rfl) rfl
theorem q820 : (Jvm.Cond.code ({ cls := "java/lang/StringUTF16", name := "getChar", desc := "([BI)C" } : Jvm.MethodName) prog_24_method_5_code (2 : Nat) (Option.some Jvm.ClassFile.FieldType.char)) ∈ lw_all := lw_g (lw_at lw_m3 234 rfl) rfl
theorem q821 : (Jvm.Cond.fieldLink "java/lang/StringUTF16" (44 : Nat) "java/lang/StringUTF16" "$assertionsDisabled" "Z") ∈ lw_all := lw_g (lw_at lw_m3 235 rfl) rfl
theorem q822 : (Jvm.Cond.laysStatic "java/lang/StringUTF16" "$assertionsDisabled" "Z") ∈ lw_tbl := lw_at lw_m3 236 rfl
theorem q823 : (Jvm.Cond.fieldLink "java/lang/StringUTF16" (59 : Nat) "java/lang/StringUTF16" "HI_BYTE_SHIFT" "I") ∈ lw_all := lw_g (lw_at lw_m3 237 rfl) rfl
theorem q824 : (Jvm.Cond.laysStatic "java/lang/StringUTF16" "HI_BYTE_SHIFT" "I") ∈ lw_tbl := lw_at lw_m3 238 rfl
theorem q825 : (Jvm.Cond.fieldLink "java/lang/StringUTF16" (63 : Nat) "java/lang/StringUTF16" "LO_BYTE_SHIFT" "I") ∈ lw_all := lw_g (lw_at lw_m3 239 rfl) rfl
theorem q826 : (Jvm.Cond.laysStatic "java/lang/StringUTF16" "LO_BYTE_SHIFT" "I") ∈ lw_tbl := lw_at lw_m4 0 rfl
/-! CensusOffice$Form -/
def RX2 : String := "CensusOffice$Form"
def TX2 : u_T := fun k => match k with
  | 0 => ("CensusOffice$Form", "statements", "I", false)
  | 1 => ("CensusOffice$Form", "asks", "I", false)
  | 2 => ("CensusOffice$Form", "sort", "[I", true)
  | 3 => ("CensusOffice$Form", "low", "[I", true)
  | 4 => ("CensusOffice$Form", "high", "[I", true)
  | 5 => ("CensusOffice$Form", "cost", "[I", true)
  | 6 => ("CensusOffice$Form", "name", "[J", true)
  | 7 => ("CensusOffice$Form", "orders", "[I", true)
  | 8 => ("CensusOffice$Form", "ordered", "I", false)
  | 9 => ("CensusOffice$Form", "begin", "[I", true)
  | 10 => ("CensusOffice$Form", "middle", "[I", true)
  | 11 => ("CensusOffice$Form", "end", "[I", true)
  | 12 => ("CensusOffice$Form", "rules", "I", false)
  | 13 => ("CensusOffice$Form", "ruleA", "[I", true)
  | 14 => ("CensusOffice$Form", "ruleB", "[I", true)
  | _ => ("CensusOffice$Form", "ruleN", "[I", true)
def tyX2 : Nat → FieldType := fun k => match k with
  | 0 => .int
  | 1 => .int
  | 2 => .array .int
  | 3 => .array .int
  | 4 => .array .int
  | 5 => .array .int
  | 6 => .array .long
  | 7 => .array .int
  | 8 => .int
  | 9 => .array .int
  | 10 => .array .int
  | 11 => .array .int
  | 12 => .int
  | 13 => .array .int
  | 14 => .array .int
  | _ => .array .int
abbrev wsX20 : List Cond := u_ws RX2 TX2 16
set_option maxRecDepth 100000 in
theorem nmX2 : ∀ a, a < 16 → ∀ b, b < 16 → a ≠ b → (TX2 a).2.1 ≠ (TX2 b).2.1 := by decide +kernel
set_option maxRecDepth 100000 in
theorem tyX2_ok : ∀ k, k < 16 → parseFieldDescriptor (TX2 k).2.2.1 = some (tyX2 k) := by decide +kernel
abbrev cX2_init : ByteArray := prog_4_method_1_code
def yX2_init : MethodName := ⟨RX2, "<init>", "()V"⟩
abbrev cX2_begin : ByteArray := prog_4_method_4_code
def yX2_begin : MethodName := ⟨RX2, "begin", "()V"⟩
abbrev cX2_lay : ByteArray := prog_4_method_2_code
def yX2_lay : MethodName := ⟨RX2, "lay", "(II)V"⟩
abbrev cX2_isAsk : ByteArray := prog_4_method_3_code
def yX2_isAsk : MethodName := ⟨RX2, "isAsk", "(I)Z"⟩
theorem q108 : (Jvm.Cond.initialized "CensusOffice$Form") ∈ lw_all := lw_g (lw_at lw_m1 2 rfl) rfl
theorem q143 : (Jvm.Cond.instantiable "CensusOffice$Form" (16 : Nat)) ∈ lw_all := lw_g (lw_at lw_m1 37 rfl) rfl
theorem q145 : (Jvm.Cond.instanceMethod ({ cls := "CensusOffice$Form", name := "<init>", desc := "()V" } : Jvm.MethodName)) ∈ lw_all := lw_g (lw_at lw_m1 39 rfl) rfl
theorem q146 : (Jvm.Cond.code ({ cls := "CensusOffice$Form", name := "<init>", desc := "()V" } : Jvm.MethodName) prog_4_method_1_code (1 : Nat) (Option.none : Option Jvm.ClassFile.FieldType)) ∈ lw_all := lw_g (lw_at lw_m1 40 rfl) rfl
theorem q147 : (Jvm.Cond.methodLink "CensusOffice$Form" (3 : Nat) ({ cls := "java/lang/Object", name := "<init>", desc := "()V" } : Jvm.MethodName)) ∈ lw_all := lw_g (lw_at lw_m1 41 rfl) rfl
theorem q149 : (Jvm.Cond.fieldLink "CensusOffice$Form" (53 : Nat) "CensusOffice$Form" "statements" "I") ∈ lw_all := lw_g (lw_at lw_m1 43 rfl) rfl
theorem q152 : (Jvm.Cond.fieldLink "CensusOffice$Form" (56 : Nat) "CensusOffice$Form" "asks" "I") ∈ lw_all := lw_g (lw_at lw_m1 46 rfl) rfl
theorem q154 : (Jvm.Cond.fieldLink "CensusOffice$Form" (9 : Nat) "CensusOffice$Form" "sort" "[I") ∈ lw_all := lw_g (lw_at lw_m1 48 rfl) rfl
theorem q157 : (Jvm.Cond.fieldLink "CensusOffice$Form" (15 : Nat) "CensusOffice$Form" "low" "[I") ∈ lw_all := lw_g (lw_at lw_m1 51 rfl) rfl
theorem q161 : (Jvm.Cond.fieldLink "CensusOffice$Form" (18 : Nat) "CensusOffice$Form" "high" "[I") ∈ lw_all := lw_g (lw_at lw_m1 55 rfl) rfl
theorem q165 : (Jvm.Cond.fieldLink "CensusOffice$Form" (21 : Nat) "CensusOffice$Form" "cost" "[I") ∈ lw_all := lw_g (lw_at lw_m1 59 rfl) rfl
theorem q169 : (Jvm.Cond.fieldLink "CensusOffice$Form" (24 : Nat) "CensusOffice$Form" "name" "[J") ∈ lw_all := lw_g (lw_at lw_m1 63 rfl) rfl
theorem q171 : (Jvm.Cond.fieldLink "CensusOffice$Form" (28 : Nat) "CensusOffice$Form" "orders" "[I") ∈ lw_all := lw_g (lw_at lw_m1 65 rfl) rfl
theorem q173 : (Jvm.Cond.fieldLink "CensusOffice$Form" (49 : Nat) "CensusOffice$Form" "ordered" "I") ∈ lw_all := lw_g (lw_at lw_m1 67 rfl) rfl
theorem q175 : (Jvm.Cond.fieldLink "CensusOffice$Form" (31 : Nat) "CensusOffice$Form" "begin" "[I") ∈ lw_all := lw_g (lw_at lw_m1 69 rfl) rfl
theorem q178 : (Jvm.Cond.fieldLink "CensusOffice$Form" (34 : Nat) "CensusOffice$Form" "middle" "[I") ∈ lw_all := lw_g (lw_at lw_m1 72 rfl) rfl
theorem q181 : (Jvm.Cond.fieldLink "CensusOffice$Form" (37 : Nat) "CensusOffice$Form" "end" "[I") ∈ lw_all := lw_g (lw_at lw_m1 75 rfl) rfl
theorem q186 : (Jvm.Cond.fieldLink "CensusOffice$Form" (40 : Nat) "CensusOffice$Form" "ruleA" "[I") ∈ lw_all := lw_g (lw_at lw_m1 80 rfl) rfl
theorem q189 : (Jvm.Cond.fieldLink "CensusOffice$Form" (43 : Nat) "CensusOffice$Form" "ruleB" "[I") ∈ lw_all := lw_g (lw_at lw_m1 83 rfl) rfl
theorem q192 : (Jvm.Cond.fieldLink "CensusOffice$Form" (46 : Nat) "CensusOffice$Form" "ruleN" "[I") ∈ lw_all := lw_g (lw_at lw_m1 86 rfl) rfl
theorem q195 : (Jvm.Cond.lays "CensusOffice$Form" "CensusOffice$Form" "statements" "I") ∈ lw_all := lw_g (lw_at lw_m1 89 rfl) rfl
theorem q196 : (Jvm.Cond.soleField "CensusOffice$Form" "statements") ∈ lw_all := lw_g (lw_at lw_m1 90 rfl) rfl
theorem q197 : (Jvm.Cond.lays "CensusOffice$Form" "CensusOffice$Form" "asks" "I") ∈ lw_all := lw_g (lw_at lw_m1 91 rfl) rfl
theorem q198 : (Jvm.Cond.soleField "CensusOffice$Form" "asks") ∈ lw_all := lw_g (lw_at lw_m1 92 rfl) rfl
theorem q199 : (Jvm.Cond.laysFinal "CensusOffice$Form" "CensusOffice$Form" "sort" "[I") ∈ lw_all := lw_g (lw_at lw_m1 93 rfl) rfl
theorem q200 : (Jvm.Cond.soleField "CensusOffice$Form" "sort") ∈ lw_all := lw_g (lw_at lw_m1 94 rfl) rfl
theorem q201 : (Jvm.Cond.laysFinal "CensusOffice$Form" "CensusOffice$Form" "low" "[I") ∈ lw_all := lw_g (lw_at lw_m1 95 rfl) rfl
theorem q202 : (Jvm.Cond.soleField "CensusOffice$Form" "low") ∈ lw_all := lw_g (lw_at lw_m1 96 rfl) rfl
theorem q203 : (Jvm.Cond.laysFinal "CensusOffice$Form" "CensusOffice$Form" "high" "[I") ∈ lw_all := lw_g (lw_at lw_m1 97 rfl) rfl
theorem q204 : (Jvm.Cond.soleField "CensusOffice$Form" "high") ∈ lw_all := lw_g (lw_at lw_m1 98 rfl) rfl
theorem q205 : (Jvm.Cond.laysFinal "CensusOffice$Form" "CensusOffice$Form" "cost" "[I") ∈ lw_all := lw_g (lw_at lw_m1 99 rfl) rfl
theorem q206 : (Jvm.Cond.soleField "CensusOffice$Form" "cost") ∈ lw_all := lw_g (lw_at lw_m1 100 rfl) rfl
theorem q207 : (Jvm.Cond.laysFinal "CensusOffice$Form" "CensusOffice$Form" "name" "[J") ∈ lw_all := lw_g (lw_at lw_m1 101 rfl) rfl
theorem q208 : (Jvm.Cond.soleField "CensusOffice$Form" "name") ∈ lw_all := lw_g (lw_at lw_m1 102 rfl) rfl
theorem q209 : (Jvm.Cond.laysFinal "CensusOffice$Form" "CensusOffice$Form" "orders" "[I") ∈ lw_all := lw_g (lw_at lw_m1 103 rfl) rfl
theorem q210 : (Jvm.Cond.soleField "CensusOffice$Form" "orders") ∈ lw_all := lw_g (lw_at lw_m1 104 rfl) rfl
theorem q211 : (Jvm.Cond.lays "CensusOffice$Form" "CensusOffice$Form" "ordered" "I") ∈ lw_all := lw_g (lw_at lw_m1 105 rfl) rfl
theorem q212 : (Jvm.Cond.soleField "CensusOffice$Form" "ordered") ∈ lw_all := lw_g (lw_at lw_m1 106 rfl) rfl
theorem q213 : (Jvm.Cond.laysFinal "CensusOffice$Form" "CensusOffice$Form" "begin" "[I") ∈ lw_all := lw_g (lw_at lw_m1 107 rfl) rfl
theorem q214 : (Jvm.Cond.soleField "CensusOffice$Form" "begin") ∈ lw_all := lw_g (lw_at lw_m1 108 rfl) rfl
theorem q215 : (Jvm.Cond.laysFinal "CensusOffice$Form" "CensusOffice$Form" "middle" "[I") ∈ lw_all := lw_g (lw_at lw_m1 109 rfl) rfl
theorem q216 : (Jvm.Cond.soleField "CensusOffice$Form" "middle") ∈ lw_all := lw_g (lw_at lw_m1 110 rfl) rfl
theorem q217 : (Jvm.Cond.laysFinal "CensusOffice$Form" "CensusOffice$Form" "end" "[I") ∈ lw_all := lw_g (lw_at lw_m1 111 rfl) rfl
theorem q218 : (Jvm.Cond.soleField "CensusOffice$Form" "end") ∈ lw_all := lw_g (lw_at lw_m1 112 rfl) rfl
theorem q219 : (Jvm.Cond.lays "CensusOffice$Form" "CensusOffice$Form" "rules" "I") ∈ lw_all := lw_g (lw_at lw_m1 113 rfl) rfl
theorem q220 : (Jvm.Cond.soleField "CensusOffice$Form" "rules") ∈ lw_all := lw_g (lw_at lw_m1 114 rfl) rfl
theorem q221 : (Jvm.Cond.laysFinal "CensusOffice$Form" "CensusOffice$Form" "ruleA" "[I") ∈ lw_all := lw_g (lw_at lw_m1 115 rfl) rfl
theorem q222 : (Jvm.Cond.soleField "CensusOffice$Form" "ruleA") ∈ lw_all := lw_g (lw_at lw_m1 116 rfl) rfl
theorem q223 : (Jvm.Cond.laysFinal "CensusOffice$Form" "CensusOffice$Form" "ruleB" "[I") ∈ lw_all := lw_g (lw_at lw_m1 117 rfl) rfl
theorem q224 : (Jvm.Cond.soleField "CensusOffice$Form" "ruleB") ∈ lw_all := lw_g (lw_at lw_m1 118 rfl) rfl
theorem q225 : (Jvm.Cond.laysFinal "CensusOffice$Form" "CensusOffice$Form" "ruleN" "[I") ∈ lw_all := lw_g (lw_at lw_m1 119 rfl) rfl
theorem q226 : (Jvm.Cond.soleField "CensusOffice$Form" "ruleN") ∈ lw_all := lw_g (lw_at lw_m1 120 rfl) rfl
theorem q227 : (Jvm.Cond.superclass "CensusOffice$Form" "java/lang/Object") ∈ lw_all := lw_g (lw_at lw_m1 121 rfl) rfl
theorem q718 : (Jvm.Cond.instanceMethod ({ cls := "CensusOffice$Form", name := "begin", desc := "()V" } : Jvm.MethodName)) ∈ lw_all := lw_g (lw_at lw_m3 132 rfl) rfl
theorem q719 : (Jvm.Cond.selects "CensusOffice$Form" ({ cls := "CensusOffice$Form", name := "begin", desc := "()V" } : Jvm.MethodName) ({ cls := "CensusOffice$Form", name := "begin", desc := "()V" } : Jvm.MethodName)) ∈ lw_all := lw_g (lw_at lw_m3 133 rfl) rfl
theorem q720 : (Jvm.Cond.code ({ cls := "CensusOffice$Form", name := "begin", desc := "()V" } : Jvm.MethodName) prog_4_method_4_code (1 : Nat) (Option.none : Option Jvm.ClassFile.FieldType)) ∈ lw_all := lw_g (lw_at lw_m3 134 rfl) rfl
theorem q889 : (Jvm.Cond.instanceMethod ({ cls := "CensusOffice$Form", name := "lay", desc := "(II)V" } : Jvm.MethodName)) ∈ lw_all := lw_g (lw_at lw_m4 63 rfl) rfl
theorem q890 : (Jvm.Cond.selects "CensusOffice$Form" ({ cls := "CensusOffice$Form", name := "lay", desc := "(II)V" } : Jvm.MethodName) ({ cls := "CensusOffice$Form", name := "lay", desc := "(II)V" } : Jvm.MethodName)) ∈ lw_all := lw_g (lw_at lw_m4 64 rfl) rfl
theorem q891 : (Jvm.Cond.code ({ cls := "CensusOffice$Form", name := "lay", desc := "(II)V" } : Jvm.MethodName) prog_4_method_2_code (3 : Nat) (Option.none : Option Jvm.ClassFile.FieldType)) ∈ lw_all := lw_g (lw_at lw_m4 65 rfl) rfl
theorem q1113 : (Jvm.Cond.instanceMethod ({ cls := "CensusOffice$Form", name := "isAsk", desc := "(I)Z" } : Jvm.MethodName)) ∈ lw_all := lw_g (lw_at lw_m5 47 rfl) rfl
theorem q1114 : (Jvm.Cond.selects "CensusOffice$Form" ({ cls := "CensusOffice$Form", name := "isAsk", desc := "(I)Z" } : Jvm.MethodName) ({ cls := "CensusOffice$Form", name := "isAsk", desc := "(I)Z" } : Jvm.MethodName)) ∈ lw_all := lw_g (lw_at lw_m5 48 rfl) rfl
theorem q1115 : (Jvm.Cond.code ({ cls := "CensusOffice$Form", name := "isAsk", desc := "(I)Z" } : Jvm.MethodName) prog_4_method_3_code (2 : Nat) (Option.some Jvm.ClassFile.FieldType.boolean)) ∈ lw_all := lw_g (lw_at lw_m5 49 rfl) rfl
theorem in_X2 : ∀ w ∈ wsX20, w ∈ lw_all := lw_in wsX20 [195, 197, 199, 201, 203, 205, 207, 209, 211, 213, 215, 217, 219, 221, 223, 225] (by decide +kernel) (by decide +kernel)
/-! CensusOffice$Least -/
def RX3 : String := "CensusOffice$Least"
def TX3 : u_T := fun k => match k with
  | 0 => ("CensusOffice$Least", "head", "[I", true)
  | 1 => ("CensusOffice$Least", "tail", "[I", true)
  | 2 => ("CensusOffice$Least", "weight", "[J", true)
  | 3 => ("CensusOffice$Least", "own", "[I", true)
  | 4 => ("CensusOffice$Least", "arcs", "I", false)
  | 5 => ("CensusOffice$Least", "far", "[J", true)
  | 6 => ("CensusOffice$Least", "by", "[I", true)
  | 7 => ("CensusOffice$Least", "form", "LCensusOffice$Form;", false)
  | 8 => ("CensusOffice$Least", "items", "[I", false)
  | 9 => ("CensusOffice$Least", "bestSum", "I", false)
  | 10 => ("CensusOffice$Least", "bestBits", "I", false)
  | _ => ("CensusOffice$Least", "this$0", "LCensusOffice;", true)
def tyX3 : Nat → FieldType := fun k => match k with
  | 0 => .array .int
  | 1 => .array .int
  | 2 => .array .long
  | 3 => .array .int
  | 4 => .int
  | 5 => .array .long
  | 6 => .array .int
  | 7 => .object "CensusOffice$Form"
  | 8 => .array .int
  | 9 => .int
  | 10 => .int
  | _ => .object "CensusOffice"
abbrev wsX30 : List Cond := u_ws RX3 TX3 12
theorem nmX3 : ∀ a, a < 12 → ∀ b, b < 12 → a ≠ b → (TX3 a).2.1 ≠ (TX3 b).2.1 := by decide +kernel
theorem tyX3_ok : ∀ k, k < 12 → parseFieldDescriptor (TX3 k).2.2.1 = some (tyX3 k) := by decide +kernel
abbrev cX3_init : ByteArray := prog_5_method_1_code
def yX3_init : MethodName := ⟨RX3, "<init>", "(LCensusOffice;)V"⟩
abbrev cX3_find : ByteArray := prog_5_method_7_code
def yX3_find : MethodName := ⟨RX3, "find", "(LCensusOffice$Form;[I)Z"⟩
abbrev cX3_search : ByteArray := prog_5_method_6_code
def yX3_search : MethodName := ⟨RX3, "search", "(III)V"⟩
abbrev cX3_lay : ByteArray := prog_5_method_3_code
def yX3_lay : MethodName := ⟨RX3, "lay", "(I)V"⟩
abbrev cX3_arc : ByteArray := prog_5_method_2_code
def yX3_arc : MethodName := ⟨RX3, "arc", "(IIJI)V"⟩
abbrev cX3_settle : ByteArray := prog_5_method_4_code
def yX3_settle : MethodName := ⟨RX3, "settle", "()I"⟩
abbrev cX3_ring : ByteArray := prog_5_method_5_code
def yX3_ring : MethodName := ⟨RX3, "ring", "(I)I"⟩
abbrev cX3_greatest : ByteArray := prog_5_method_8_code
def yX3_greatest : MethodName := ⟨RX3, "greatest", "(I[I)V"⟩
theorem q109 : (Jvm.Cond.initialized "CensusOffice$Least") ∈ lw_all := lw_g (lw_at lw_m1 3 rfl) rfl
theorem q148 : (Jvm.Cond.fieldLinkNest "CensusOffice$Least" (43 : Nat) "CensusOffice$Form" "statements" "I" "CensusOffice") ∈ lw_tbl := lw_at lw_m1 42 rfl
theorem q158 : (Jvm.Cond.fieldLinkNest "CensusOffice$Least" (63 : Nat) "CensusOffice$Form" "low" "[I" "CensusOffice") ∈ lw_tbl := lw_at lw_m1 52 rfl
theorem q162 : (Jvm.Cond.fieldLinkNest "CensusOffice$Least" (56 : Nat) "CensusOffice$Form" "high" "[I" "CensusOffice") ∈ lw_tbl := lw_at lw_m1 56 rfl
theorem q166 : (Jvm.Cond.fieldLinkNest "CensusOffice$Least" (96 : Nat) "CensusOffice$Form" "cost" "[I" "CensusOffice") ∈ lw_tbl := lw_at lw_m1 60 rfl
theorem q184 : (Jvm.Cond.fieldLinkNest "CensusOffice$Least" (66 : Nat) "CensusOffice$Form" "rules" "I" "CensusOffice") ∈ lw_tbl := lw_at lw_m1 78 rfl
theorem q187 : (Jvm.Cond.fieldLinkNest "CensusOffice$Least" (69 : Nat) "CensusOffice$Form" "ruleA" "[I" "CensusOffice") ∈ lw_tbl := lw_at lw_m1 81 rfl
theorem q190 : (Jvm.Cond.fieldLinkNest "CensusOffice$Least" (72 : Nat) "CensusOffice$Form" "ruleB" "[I" "CensusOffice") ∈ lw_tbl := lw_at lw_m1 84 rfl
theorem q193 : (Jvm.Cond.fieldLinkNest "CensusOffice$Least" (75 : Nat) "CensusOffice$Form" "ruleN" "[I" "CensusOffice") ∈ lw_tbl := lw_at lw_m1 87 rfl
theorem q235 : (Jvm.Cond.instantiable "CensusOffice$Least" (12 : Nat)) ∈ lw_all := lw_g (lw_at lw_m1 129 rfl) rfl
theorem q237 : (Jvm.Cond.instanceMethod ({ cls := "CensusOffice$Least", name := "<init>", desc := "(LCensusOffice;)V" } : Jvm.MethodName)) ∈ lw_all := lw_g (lw_at lw_m1 131 rfl) rfl
theorem q238 : (Jvm.Cond.code ({ cls := "CensusOffice$Least", name := "<init>", desc := "(LCensusOffice;)V" } : Jvm.MethodName) prog_5_method_1_code (2 : Nat) (Option.none : Option Jvm.ClassFile.FieldType)) ∈ lw_all := lw_g (lw_at lw_m1 132 rfl) rfl
theorem q239 : (Jvm.Cond.methodLink "CensusOffice$Least" (9 : Nat) ({ cls := "java/lang/Object", name := "<init>", desc := "()V" } : Jvm.MethodName)) ∈ lw_all := lw_g (lw_at lw_m1 133 rfl) rfl
theorem q240 : (Jvm.Cond.fieldLink "CensusOffice$Least" (15 : Nat) "CensusOffice$Least" "head" "[I") ∈ lw_all := lw_g (lw_at lw_m1 134 rfl) rfl
theorem q241 : (Jvm.Cond.fieldLink "CensusOffice$Least" (19 : Nat) "CensusOffice$Least" "tail" "[I") ∈ lw_all := lw_g (lw_at lw_m1 135 rfl) rfl
theorem q242 : (Jvm.Cond.fieldLink "CensusOffice$Least" (22 : Nat) "CensusOffice$Least" "weight" "[J") ∈ lw_all := lw_g (lw_at lw_m1 136 rfl) rfl
theorem q243 : (Jvm.Cond.fieldLink "CensusOffice$Least" (26 : Nat) "CensusOffice$Least" "own" "[I") ∈ lw_all := lw_g (lw_at lw_m1 137 rfl) rfl
theorem q244 : (Jvm.Cond.fieldLink "CensusOffice$Least" (35 : Nat) "CensusOffice$Least" "arcs" "I") ∈ lw_all := lw_g (lw_at lw_m1 138 rfl) rfl
theorem q245 : (Jvm.Cond.fieldLink "CensusOffice$Least" (29 : Nat) "CensusOffice$Least" "far" "[J") ∈ lw_all := lw_g (lw_at lw_m1 139 rfl) rfl
theorem q246 : (Jvm.Cond.fieldLink "CensusOffice$Least" (32 : Nat) "CensusOffice$Least" "by" "[I") ∈ lw_all := lw_g (lw_at lw_m1 140 rfl) rfl
theorem q247 : (Jvm.Cond.fieldLink "CensusOffice$Least" (39 : Nat) "CensusOffice$Least" "form" "LCensusOffice$Form;") ∈ lw_all := lw_g (lw_at lw_m1 141 rfl) rfl
theorem q248 : (Jvm.Cond.fieldLink "CensusOffice$Least" (52 : Nat) "CensusOffice$Least" "items" "[I") ∈ lw_all := lw_g (lw_at lw_m1 142 rfl) rfl
theorem q249 : (Jvm.Cond.fieldLink "CensusOffice$Least" (78 : Nat) "CensusOffice$Least" "bestSum" "I") ∈ lw_all := lw_g (lw_at lw_m1 143 rfl) rfl
theorem q251 : (Jvm.Cond.fieldLink "CensusOffice$Least" (89 : Nat) "CensusOffice$Least" "bestBits" "I") ∈ lw_all := lw_g (lw_at lw_m1 145 rfl) rfl
theorem q253 : (Jvm.Cond.fieldLink "CensusOffice$Least" (3 : Nat) "CensusOffice$Least" "this$0" "LCensusOffice;") ∈ lw_all := lw_g (lw_at lw_m1 147 rfl) rfl
theorem q254 : (Jvm.Cond.laysFinal "CensusOffice$Least" "CensusOffice$Least" "head" "[I") ∈ lw_all := lw_g (lw_at lw_m1 148 rfl) rfl
theorem q255 : (Jvm.Cond.soleField "CensusOffice$Least" "head") ∈ lw_all := lw_g (lw_at lw_m1 149 rfl) rfl
theorem q256 : (Jvm.Cond.laysFinal "CensusOffice$Least" "CensusOffice$Least" "tail" "[I") ∈ lw_all := lw_g (lw_at lw_m1 150 rfl) rfl
theorem q257 : (Jvm.Cond.soleField "CensusOffice$Least" "tail") ∈ lw_all := lw_g (lw_at lw_m1 151 rfl) rfl
theorem q258 : (Jvm.Cond.laysFinal "CensusOffice$Least" "CensusOffice$Least" "weight" "[J") ∈ lw_all := lw_g (lw_at lw_m1 152 rfl) rfl
theorem q259 : (Jvm.Cond.soleField "CensusOffice$Least" "weight") ∈ lw_all := lw_g (lw_at lw_m1 153 rfl) rfl
theorem q260 : (Jvm.Cond.laysFinal "CensusOffice$Least" "CensusOffice$Least" "own" "[I") ∈ lw_all := lw_g (lw_at lw_m1 154 rfl) rfl
theorem q261 : (Jvm.Cond.soleField "CensusOffice$Least" "own") ∈ lw_all := lw_g (lw_at lw_m1 155 rfl) rfl
theorem q262 : (Jvm.Cond.lays "CensusOffice$Least" "CensusOffice$Least" "arcs" "I") ∈ lw_all := lw_g (lw_at lw_m1 156 rfl) rfl
theorem q263 : (Jvm.Cond.soleField "CensusOffice$Least" "arcs") ∈ lw_all := lw_g (lw_at lw_m1 157 rfl) rfl
theorem q264 : (Jvm.Cond.laysFinal "CensusOffice$Least" "CensusOffice$Least" "far" "[J") ∈ lw_all := lw_g (lw_at lw_m1 158 rfl) rfl
theorem q265 : (Jvm.Cond.soleField "CensusOffice$Least" "far") ∈ lw_all := lw_g (lw_at lw_m1 159 rfl) rfl
theorem q266 : (Jvm.Cond.laysFinal "CensusOffice$Least" "CensusOffice$Least" "by" "[I") ∈ lw_all := lw_g (lw_at lw_m1 160 rfl) rfl
theorem q267 : (Jvm.Cond.soleField "CensusOffice$Least" "by") ∈ lw_all := lw_g (lw_at lw_m1 161 rfl) rfl
theorem q268 : (Jvm.Cond.lays "CensusOffice$Least" "CensusOffice$Least" "form" "LCensusOffice$Form;") ∈ lw_all := lw_g (lw_at lw_m1 162 rfl) rfl
theorem q269 : (Jvm.Cond.soleField "CensusOffice$Least" "form") ∈ lw_all := lw_g (lw_at lw_m1 163 rfl) rfl
theorem q270 : (Jvm.Cond.lays "CensusOffice$Least" "CensusOffice$Least" "items" "[I") ∈ lw_all := lw_g (lw_at lw_m1 164 rfl) rfl
theorem q271 : (Jvm.Cond.soleField "CensusOffice$Least" "items") ∈ lw_all := lw_g (lw_at lw_m1 165 rfl) rfl
theorem q272 : (Jvm.Cond.lays "CensusOffice$Least" "CensusOffice$Least" "bestSum" "I") ∈ lw_all := lw_g (lw_at lw_m1 166 rfl) rfl
theorem q273 : (Jvm.Cond.soleField "CensusOffice$Least" "bestSum") ∈ lw_all := lw_g (lw_at lw_m1 167 rfl) rfl
theorem q274 : (Jvm.Cond.lays "CensusOffice$Least" "CensusOffice$Least" "bestBits" "I") ∈ lw_all := lw_g (lw_at lw_m1 168 rfl) rfl
theorem q275 : (Jvm.Cond.soleField "CensusOffice$Least" "bestBits") ∈ lw_all := lw_g (lw_at lw_m1 169 rfl) rfl
theorem q276 : (Jvm.Cond.laysFinal "CensusOffice$Least" "CensusOffice$Least" "this$0" "LCensusOffice;") ∈ lw_all := lw_g (lw_at lw_m1 170 rfl) rfl
theorem q277 : (Jvm.Cond.soleField "CensusOffice$Least" "this$0") ∈ lw_all := lw_g (lw_at lw_m1 171 rfl) rfl
theorem q278 : (Jvm.Cond.superclass "CensusOffice$Least" "java/lang/Object") ∈ lw_all := lw_g (lw_at lw_m1 172 rfl) rfl
theorem q1147 : (Jvm.Cond.instanceMethod ({ cls := "CensusOffice$Least", name := "find", desc := "(LCensusOffice$Form;[I)Z" } : Jvm.MethodName)) ∈ lw_all := lw_g (lw_at lw_m5 81 rfl) rfl
theorem q1148 : (Jvm.Cond.selects "CensusOffice$Least" ({ cls := "CensusOffice$Least", name := "find", desc := "(LCensusOffice$Form;[I)Z" } : Jvm.MethodName) ({ cls := "CensusOffice$Least", name := "find", desc := "(LCensusOffice$Form;[I)Z" } : Jvm.MethodName)) ∈ lw_all := lw_g (lw_at lw_m5 82 rfl) rfl
theorem q1149 : (Jvm.Cond.code ({ cls := "CensusOffice$Least", name := "find", desc := "(LCensusOffice$Form;[I)Z" } : Jvm.MethodName) prog_5_method_7_code (3 : Nat) (Option.some Jvm.ClassFile.FieldType.boolean)) ∈ lw_all := lw_g (lw_at lw_m5 83 rfl) rfl
theorem q1150 : (Jvm.Cond.constant "CensusOffice$Least" (105 : Nat) (2147483647 : Int32)) ∈ lw_all := lw_g (lw_at lw_m5 84 rfl) rfl
theorem q1151 : (Jvm.Cond.methodLink "CensusOffice$Least" (99 : Nat) ({ cls := "CensusOffice$Least", name := "search", desc := "(III)V" } : Jvm.MethodName)) ∈ lw_all := lw_g (lw_at lw_m5 85 rfl) rfl
theorem q1152 : (Jvm.Cond.privateMethod ({ cls := "CensusOffice$Least", name := "search", desc := "(III)V" } : Jvm.MethodName)) ∈ lw_tbl := lw_at lw_m5 86 rfl
theorem q1153 : (Jvm.Cond.instanceMethod ({ cls := "CensusOffice$Least", name := "search", desc := "(III)V" } : Jvm.MethodName)) ∈ lw_all := lw_g (lw_at lw_m5 87 rfl) rfl
theorem q1154 : (Jvm.Cond.code ({ cls := "CensusOffice$Least", name := "search", desc := "(III)V" } : Jvm.MethodName) prog_5_method_6_code (8 : Nat) (Option.none : Option Jvm.ClassFile.FieldType)) ∈ lw_all := lw_g (lw_at lw_m5 88 rfl) rfl
theorem q1155 : (Jvm.Cond.methodLink "CensusOffice$Least" (81 : Nat) ({ cls := "CensusOffice$Least", name := "lay", desc := "(I)V" } : Jvm.MethodName)) ∈ lw_all := lw_g (lw_at lw_m5 89 rfl) rfl
theorem q1156 : (Jvm.Cond.privateMethod ({ cls := "CensusOffice$Least", name := "lay", desc := "(I)V" } : Jvm.MethodName)) ∈ lw_tbl := lw_at lw_m5 90 rfl
theorem q1157 : (Jvm.Cond.instanceMethod ({ cls := "CensusOffice$Least", name := "lay", desc := "(I)V" } : Jvm.MethodName)) ∈ lw_all := lw_g (lw_at lw_m5 91 rfl) rfl
theorem q1158 : (Jvm.Cond.code ({ cls := "CensusOffice$Least", name := "lay", desc := "(I)V" } : Jvm.MethodName) prog_5_method_3_code (5 : Nat) (Option.none : Option Jvm.ClassFile.FieldType)) ∈ lw_all := lw_g (lw_at lw_m5 92 rfl) rfl
theorem q1159 : (Jvm.Cond.methodLink "CensusOffice$Least" (48 : Nat) ({ cls := "CensusOffice$Form", name := "isAsk", desc := "(I)Z" } : Jvm.MethodName)) ∈ lw_all := lw_g (lw_at lw_m5 93 rfl) rfl
theorem q1160 : (Jvm.Cond.constant "CensusOffice$Least" (55 : Nat) (-2000000 : Int32)) ∈ lw_all := lw_g (lw_at lw_m5 94 rfl) rfl
theorem q1161 : (Jvm.Cond.methodLink "CensusOffice$Least" (59 : Nat) ({ cls := "CensusOffice$Least", name := "arc", desc := "(IIJI)V" } : Jvm.MethodName)) ∈ lw_all := lw_g (lw_at lw_m5 95 rfl) rfl
theorem q1162 : (Jvm.Cond.privateMethod ({ cls := "CensusOffice$Least", name := "arc", desc := "(IIJI)V" } : Jvm.MethodName)) ∈ lw_tbl := lw_at lw_m5 96 rfl
theorem q1163 : (Jvm.Cond.instanceMethod ({ cls := "CensusOffice$Least", name := "arc", desc := "(IIJI)V" } : Jvm.MethodName)) ∈ lw_all := lw_g (lw_at lw_m5 97 rfl) rfl
theorem q1164 : (Jvm.Cond.code ({ cls := "CensusOffice$Least", name := "arc", desc := "(IIJI)V" } : Jvm.MethodName) prog_5_method_2_code (6 : Nat) (Option.none : Option Jvm.ClassFile.FieldType)) ∈ lw_all := lw_g (lw_at lw_m5 98 rfl) rfl
theorem q1165 : (Jvm.Cond.methodLink "CensusOffice$Least" (85 : Nat) ({ cls := "CensusOffice$Least", name := "settle", desc := "()I" } : Jvm.MethodName)) ∈ lw_all := lw_g (lw_at lw_m5 99 rfl) rfl
theorem q1166 : (Jvm.Cond.privateMethod ({ cls := "CensusOffice$Least", name := "settle", desc := "()I" } : Jvm.MethodName)) ∈ lw_tbl := lw_at lw_m5 100 rfl
theorem q1167 : (Jvm.Cond.instanceMethod ({ cls := "CensusOffice$Least", name := "settle", desc := "()I" } : Jvm.MethodName)) ∈ lw_all := lw_g (lw_at lw_m5 101 rfl) rfl
theorem q1168 : (Jvm.Cond.code ({ cls := "CensusOffice$Least", name := "settle", desc := "()I" } : Jvm.MethodName) prog_5_method_4_code (4 : Nat) (Option.some Jvm.ClassFile.FieldType.int)) ∈ lw_all := lw_g (lw_at lw_m5 102 rfl) rfl
theorem q1169 : (Jvm.Cond.methodLink "CensusOffice$Least" (92 : Nat) ({ cls := "CensusOffice$Least", name := "ring", desc := "(I)I" } : Jvm.MethodName)) ∈ lw_all := lw_g (lw_at lw_m5 103 rfl) rfl
theorem q1170 : (Jvm.Cond.privateMethod ({ cls := "CensusOffice$Least", name := "ring", desc := "(I)I" } : Jvm.MethodName)) ∈ lw_tbl := lw_at lw_m5 104 rfl
theorem q1171 : (Jvm.Cond.instanceMethod ({ cls := "CensusOffice$Least", name := "ring", desc := "(I)I" } : Jvm.MethodName)) ∈ lw_all := lw_g (lw_at lw_m5 105 rfl) rfl
theorem q1172 : (Jvm.Cond.code ({ cls := "CensusOffice$Least", name := "ring", desc := "(I)I" } : Jvm.MethodName) prog_5_method_5_code (5 : Nat) (Option.some Jvm.ClassFile.FieldType.int)) ∈ lw_all := lw_g (lw_at lw_m5 106 rfl) rfl
theorem q1194 : (Jvm.Cond.instanceMethod ({ cls := "CensusOffice$Least", name := "greatest", desc := "(I[I)V" } : Jvm.MethodName)) ∈ lw_all := lw_g (lw_at lw_m5 128 rfl) rfl
theorem q1195 : (Jvm.Cond.selects "CensusOffice$Least" ({ cls := "CensusOffice$Least", name := "greatest", desc := "(I[I)V" } : Jvm.MethodName) ({ cls := "CensusOffice$Least", name := "greatest", desc := "(I[I)V" } : Jvm.MethodName)) ∈ lw_all := lw_g (lw_at lw_m5 129 rfl) rfl
theorem q1196 : (Jvm.Cond.code ({ cls := "CensusOffice$Least", name := "greatest", desc := "(I[I)V" } : Jvm.MethodName) prog_5_method_8_code (5 : Nat) (Option.none : Option Jvm.ClassFile.FieldType)) ∈ lw_all := lw_g (lw_at lw_m5 130 rfl) rfl
theorem q1197 : (Jvm.Cond.constantLong "CensusOffice$Least" (108 : Nat) (4611686018427387903 : Int64)) ∈ lw_all := lw_g (lw_at lw_m5 131 rfl) rfl
theorem q1198 : (Jvm.Cond.methodLink "CensusOffice$Least" (110 : Nat) ({ cls := "java/lang/Math", name := "min", desc := "(JJ)J" } : Jvm.MethodName)) ∈ lw_all := lw_g (lw_at lw_m5 132 rfl) rfl
theorem in_X3 : ∀ w ∈ wsX30, w ∈ lw_all := lw_in wsX30 [254, 256, 258, 260, 262, 264, 266, 268, 270, 272, 274, 276] (by decide +kernel) (by decide +kernel)
/-! CensusOffice$Flow -/
def RX4 : String := "CensusOffice$Flow"
def TX4 : u_T := fun k => match k with
  | 0 => ("CensusOffice$Flow", "room", "[I", true)
  | 1 => ("CensusOffice$Flow", "by", "[I", true)
  | 2 => ("CensusOffice$Flow", "row", "[I", true)
  | _ => ("CensusOffice$Flow", "this$0", "LCensusOffice;", true)
def tyX4 : Nat → FieldType := fun k => match k with
  | 0 => .array .int
  | 1 => .array .int
  | 2 => .array .int
  | _ => .object "CensusOffice"
abbrev wsX40 : List Cond := u_ws RX4 TX4 4
theorem nmX4 : ∀ a, a < 4 → ∀ b, b < 4 → a ≠ b → (TX4 a).2.1 ≠ (TX4 b).2.1 := by decide +kernel
theorem tyX4_ok : ∀ k, k < 4 → parseFieldDescriptor (TX4 k).2.2.1 = some (tyX4 k) := by decide +kernel
abbrev cX4_init : ByteArray := prog_3_method_1_code
def yX4_init : MethodName := ⟨RX4, "<init>", "(LCensusOffice;)V"⟩
abbrev cX4_clear : ByteArray := prog_3_method_2_code
def yX4_clear : MethodName := ⟨RX4, "clear", "()V"⟩
abbrev cX4_let : ByteArray := prog_3_method_3_code
def yX4_let : MethodName := ⟨RX4, "let", "(III)V"⟩
abbrev cX4_go : ByteArray := prog_3_method_4_code
def yX4_go : MethodName := ⟨RX4, "go", "(III)I"⟩
abbrev cX4_reach : ByteArray := prog_3_method_5_code
def yX4_reach : MethodName := ⟨RX4, "reach", "(II)Z"⟩
theorem q110 : (Jvm.Cond.initialized "CensusOffice$Flow") ∈ lw_all := lw_g (lw_at lw_m1 4 rfl) rfl
theorem q283 : (Jvm.Cond.instantiable "CensusOffice$Flow" (4 : Nat)) ∈ lw_all := lw_g (lw_at lw_m1 177 rfl) rfl
theorem q285 : (Jvm.Cond.instanceMethod ({ cls := "CensusOffice$Flow", name := "<init>", desc := "(LCensusOffice;)V" } : Jvm.MethodName)) ∈ lw_all := lw_g (lw_at lw_m1 179 rfl) rfl
theorem q286 : (Jvm.Cond.code ({ cls := "CensusOffice$Flow", name := "<init>", desc := "(LCensusOffice;)V" } : Jvm.MethodName) prog_3_method_1_code (2 : Nat) (Option.none : Option Jvm.ClassFile.FieldType)) ∈ lw_all := lw_g (lw_at lw_m1 180 rfl) rfl
theorem q287 : (Jvm.Cond.methodLink "CensusOffice$Flow" (11 : Nat) ({ cls := "java/lang/Object", name := "<init>", desc := "()V" } : Jvm.MethodName)) ∈ lw_all := lw_g (lw_at lw_m1 181 rfl) rfl
theorem q288 : (Jvm.Cond.fieldLink "CensusOffice$Flow" (17 : Nat) "CensusOffice$Flow" "room" "[I") ∈ lw_all := lw_g (lw_at lw_m1 182 rfl) rfl
theorem q289 : (Jvm.Cond.fieldLink "CensusOffice$Flow" (21 : Nat) "CensusOffice$Flow" "by" "[I") ∈ lw_all := lw_g (lw_at lw_m1 183 rfl) rfl
theorem q290 : (Jvm.Cond.fieldLink "CensusOffice$Flow" (24 : Nat) "CensusOffice$Flow" "row" "[I") ∈ lw_all := lw_g (lw_at lw_m1 184 rfl) rfl
theorem q291 : (Jvm.Cond.fieldLink "CensusOffice$Flow" (5 : Nat) "CensusOffice$Flow" "this$0" "LCensusOffice;") ∈ lw_all := lw_g (lw_at lw_m1 185 rfl) rfl
theorem q292 : (Jvm.Cond.laysFinal "CensusOffice$Flow" "CensusOffice$Flow" "room" "[I") ∈ lw_all := lw_g (lw_at lw_m1 186 rfl) rfl
theorem q293 : (Jvm.Cond.soleField "CensusOffice$Flow" "room") ∈ lw_all := lw_g (lw_at lw_m1 187 rfl) rfl
theorem q294 : (Jvm.Cond.laysFinal "CensusOffice$Flow" "CensusOffice$Flow" "by" "[I") ∈ lw_all := lw_g (lw_at lw_m1 188 rfl) rfl
theorem q295 : (Jvm.Cond.soleField "CensusOffice$Flow" "by") ∈ lw_all := lw_g (lw_at lw_m1 189 rfl) rfl
theorem q296 : (Jvm.Cond.laysFinal "CensusOffice$Flow" "CensusOffice$Flow" "row" "[I") ∈ lw_all := lw_g (lw_at lw_m1 190 rfl) rfl
theorem q297 : (Jvm.Cond.soleField "CensusOffice$Flow" "row") ∈ lw_all := lw_g (lw_at lw_m1 191 rfl) rfl
theorem q298 : (Jvm.Cond.laysFinal "CensusOffice$Flow" "CensusOffice$Flow" "this$0" "LCensusOffice;") ∈ lw_all := lw_g (lw_at lw_m1 192 rfl) rfl
theorem q299 : (Jvm.Cond.soleField "CensusOffice$Flow" "this$0") ∈ lw_all := lw_g (lw_at lw_m1 193 rfl) rfl
theorem q300 : (Jvm.Cond.superclass "CensusOffice$Flow" "java/lang/Object") ∈ lw_all := lw_g (lw_at lw_m1 194 rfl) rfl
theorem q1368 : (Jvm.Cond.instanceMethod ({ cls := "CensusOffice$Flow", name := "clear", desc := "()V" } : Jvm.MethodName)) ∈ lw_all := lw_g (lw_at lw_m6 62 rfl) rfl
theorem q1369 : (Jvm.Cond.selects "CensusOffice$Flow" ({ cls := "CensusOffice$Flow", name := "clear", desc := "()V" } : Jvm.MethodName) ({ cls := "CensusOffice$Flow", name := "clear", desc := "()V" } : Jvm.MethodName)) ∈ lw_all := lw_g (lw_at lw_m6 63 rfl) rfl
theorem q1370 : (Jvm.Cond.code ({ cls := "CensusOffice$Flow", name := "clear", desc := "()V" } : Jvm.MethodName) prog_3_method_2_code (2 : Nat) (Option.none : Option Jvm.ClassFile.FieldType)) ∈ lw_all := lw_g (lw_at lw_m6 64 rfl) rfl
theorem q1372 : (Jvm.Cond.instanceMethod ({ cls := "CensusOffice$Flow", name := "let", desc := "(III)V" } : Jvm.MethodName)) ∈ lw_all := lw_g (lw_at lw_m6 66 rfl) rfl
theorem q1373 : (Jvm.Cond.selects "CensusOffice$Flow" ({ cls := "CensusOffice$Flow", name := "let", desc := "(III)V" } : Jvm.MethodName) ({ cls := "CensusOffice$Flow", name := "let", desc := "(III)V" } : Jvm.MethodName)) ∈ lw_all := lw_g (lw_at lw_m6 67 rfl) rfl
theorem q1374 : (Jvm.Cond.code ({ cls := "CensusOffice$Flow", name := "let", desc := "(III)V" } : Jvm.MethodName) prog_3_method_3_code (4 : Nat) (Option.none : Option Jvm.ClassFile.FieldType)) ∈ lw_all := lw_g (lw_at lw_m6 68 rfl) rfl
theorem q1377 : (Jvm.Cond.instanceMethod ({ cls := "CensusOffice$Flow", name := "go", desc := "(III)I" } : Jvm.MethodName)) ∈ lw_all := lw_g (lw_at lw_m6 71 rfl) rfl
theorem q1378 : (Jvm.Cond.selects "CensusOffice$Flow" ({ cls := "CensusOffice$Flow", name := "go", desc := "(III)I" } : Jvm.MethodName) ({ cls := "CensusOffice$Flow", name := "go", desc := "(III)I" } : Jvm.MethodName)) ∈ lw_all := lw_g (lw_at lw_m6 72 rfl) rfl
theorem q1379 : (Jvm.Cond.code ({ cls := "CensusOffice$Flow", name := "go", desc := "(III)I" } : Jvm.MethodName) prog_3_method_4_code (7 : Nat) (Option.some Jvm.ClassFile.FieldType.int)) ∈ lw_all := lw_g (lw_at lw_m6 73 rfl) rfl
theorem q1380 : (Jvm.Cond.methodLink "CensusOffice$Flow" (27 : Nat) ({ cls := "CensusOffice$Flow", name := "reach", desc := "(II)Z" } : Jvm.MethodName)) ∈ lw_all := lw_g (lw_at lw_m6 74 rfl) rfl
theorem q1381 : (Jvm.Cond.privateMethod ({ cls := "CensusOffice$Flow", name := "reach", desc := "(II)Z" } : Jvm.MethodName)) ∈ lw_tbl := lw_at lw_m6 75 rfl
theorem q1382 : (Jvm.Cond.instanceMethod ({ cls := "CensusOffice$Flow", name := "reach", desc := "(II)Z" } : Jvm.MethodName)) ∈ lw_all := lw_g (lw_at lw_m6 76 rfl) rfl
theorem q1383 : (Jvm.Cond.code ({ cls := "CensusOffice$Flow", name := "reach", desc := "(II)Z" } : Jvm.MethodName) prog_3_method_5_code (7 : Nat) (Option.some Jvm.ClassFile.FieldType.boolean)) ∈ lw_all := lw_g (lw_at lw_m6 77 rfl) rfl
theorem q1384 : (Jvm.Cond.methodLink "CensusOffice$Flow" (31 : Nat) ({ cls := "java/lang/Math", name := "min", desc := "(II)I" } : Jvm.MethodName)) ∈ lw_all := lw_g (lw_at lw_m6 78 rfl) rfl
theorem in_X4 : ∀ w ∈ wsX40, w ∈ lw_all := lw_in wsX40 [292, 294, 296, 298] (by decide +kernel) (by decide +kernel)
/-! CensusOfficeModel -/
def RX5 : String := "CensusOfficeModel"
def TX5 : u_T := fun k => match k with
  | 0 => ("CensusOfficeModel", "thrown", "I", false)
  | 1 => ("CensusOfficeModel", "minute", "I", false)
  | 2 => ("CensusOfficeModel", "units", "I", false)
  | 3 => ("CensusOfficeModel", "into", "[I", true)
  | 4 => ("CensusOfficeModel", "intoDay", "[I", true)
  | 5 => ("CensusOfficeModel", "merges", "I", false)
  | 6 => ("CensusOfficeModel", "tellings", "I", false)
  | 7 => ("CensusOfficeModel", "tUnit", "[I", true)
  | 8 => ("CensusOfficeModel", "tField", "[I", true)
  | 9 => ("CensusOfficeModel", "tDay", "[I", true)
  | 10 => ("CensusOfficeModel", "tValue", "[I", true)
  | 11 => ("CensusOfficeModel", "tTold", "[I", true)
  | 12 => ("CensusOfficeModel", "tape", "[I", true)
  | 13 => ("CensusOfficeModel", "taped", "I", false)
  | 14 => ("CensusOfficeModel", "forms", "I", false)
  | 15 => ("CensusOfficeModel", "many", "[I", true)
  | 16 => ("CensusOfficeModel", "sort", "[I", true)
  | 17 => ("CensusOfficeModel", "name", "[J", true)
  | 18 => ("CensusOfficeModel", "least", "[I", true)
  | 19 => ("CensusOfficeModel", "most", "[I", true)
  | 20 => ("CensusOfficeModel", "cost", "[I", true)
  | 21 => ("CensusOfficeModel", "exprFrom", "[I", true)
  | 22 => ("CensusOfficeModel", "exprTo", "[I", true)
  | 23 => ("CensusOfficeModel", "condFrom", "[I", true)
  | 24 => ("CensusOfficeModel", "condTo", "[I", true)
  | 25 => ("CensusOfficeModel", "thing", "[I", true)
  | 26 => ("CensusOfficeModel", "what", "[I", true)
  | 27 => ("CensusOfficeModel", "things", "I", false)
  | 28 => ("CensusOfficeModel", "at", "I", false)
  | 29 => ("CensusOfficeModel", "kind", "I", false)
  | 30 => ("CensusOfficeModel", "place", "I", false)
  | 31 => ("CensusOfficeModel", "word", "J", false)
  | 32 => ("CensusOfficeModel", "number", "I", false)
  | 33 => ("CensusOfficeModel", "bound", "I", false)
  | 34 => ("CensusOfficeModel", "item", "[I", true)
  | 35 => ("CensusOfficeModel", "field", "[I", true)
  | 36 => ("CensusOfficeModel", "pos", "I", false)
  | 37 => ("CensusOfficeModel", "missing", "Z", false)
  | 38 => ("CensusOfficeModel", "sessions", "I", false)
  | 39 => ("CensusOfficeModel", "sForm", "[I", true)
  | 40 => ("CensusOfficeModel", "sUnit", "[I", true)
  | 41 => ("CensusOfficeModel", "sField", "[I", true)
  | 42 => ("CensusOfficeModel", "closed", "[Z", true)
  | 43 => ("CensusOfficeModel", "given", "[Z", true)
  | 44 => ("CensusOfficeModel", "givenAs", "[I", true)
  | 45 => ("CensusOfficeModel", "aside", "[Z", true)
  | 46 => ("CensusOfficeModel", "asideAs", "[I", true)
  | 47 => ("CensusOfficeModel", "noted", "[Z", true)
  | 48 => ("CensusOfficeModel", "noteQuestion", "[I", true)
  | 49 => ("CensusOfficeModel", "noteNumber", "[I", true)
  | 50 => ("CensusOfficeModel", "end", "I", false)
  | 51 => ("CensusOfficeModel", "badMust", "I", false)
  | 52 => ("CensusOfficeModel", "badWarn", "I", false)
  | 53 => ("CensusOfficeModel", "records", "I", false)
  | 54 => ("CensusOfficeModel", "rSession", "[I", true)
  | 55 => ("CensusOfficeModel", "items", "[I", true)
  | 56 => ("CensusOfficeModel", "marks", "[I", true)
  | 57 => ("CensusOfficeModel", "rules", "[I", true)
  | 58 => ("CensusOfficeModel", "ruleA", "[I", true)
  | 59 => ("CensusOfficeModel", "ruleB", "[I", true)
  | 60 => ("CensusOfficeModel", "ruleN", "[I", true)
  | 61 => ("CensusOfficeModel", "tried", "[I", true)
  | 62 => ("CensusOfficeModel", "bestSum", "I", false)
  | 63 => ("CensusOfficeModel", "bestSet", "I", false)
  | 64 => ("CensusOfficeModel", "samples", "I", false)
  | 65 => ("CensusOfficeModel", "got", "[I", true)
  | 66 => ("CensusOfficeModel", "had", "[I", true)
  | 67 => ("CensusOfficeModel", "drawn", "[Z", true)
  | 68 => ("CensusOfficeModel", "stratum", "[I", true)
  | 69 => ("CensusOfficeModel", "tables", "I", false)
  | 70 => ("CensusOfficeModel", "rows", "[I", true)
  | 71 => ("CensusOfficeModel", "columns", "[I", true)
  | 72 => ("CensusOfficeModel", "cell", "[I", true)
  | 73 => ("CensusOfficeModel", "parts", "[I", true)
  | 74 => ("CensusOfficeModel", "greatest", "[I", true)
  | 75 => ("CensusOfficeModel", "rounded", "[I", true)
  | 76 => ("CensusOfficeModel", "isRounded", "[Z", true)
  | 77 => ("CensusOfficeModel", "secrets", "[I", true)
  | 78 => ("CensusOfficeModel", "firsts", "[I", true)
  | 79 => ("CensusOfficeModel", "base", "I", false)
  | 80 => ("CensusOfficeModel", "persons", "I", false)
  | 81 => ("CensusOfficeModel", "roles", "[I", true)
  | 82 => ("CensusOfficeModel", "releases", "I", false)
  | 83 => ("CensusOfficeModel", "made", "[I", true)
  | 84 => ("CensusOfficeModel", "from", "[I", true)
  | 85 => ("CensusOfficeModel", "relRows", "[I", true)
  | 86 => ("CensusOfficeModel", "relColumns", "[I", true)
  | 87 => ("CensusOfficeModel", "relSecrets", "[I", true)
  | 88 => ("CensusOfficeModel", "relCell", "[I", true)
  | 89 => ("CensusOfficeModel", "looks", "I", false)
  | _ => ("CensusOfficeModel", "lookRow", "[I", true)
def tyX5 : Nat → FieldType := fun k => match k with
  | 0 => .int
  | 1 => .int
  | 2 => .int
  | 3 => .array .int
  | 4 => .array .int
  | 5 => .int
  | 6 => .int
  | 7 => .array .int
  | 8 => .array .int
  | 9 => .array .int
  | 10 => .array .int
  | 11 => .array .int
  | 12 => .array .int
  | 13 => .int
  | 14 => .int
  | 15 => .array .int
  | 16 => .array .int
  | 17 => .array .long
  | 18 => .array .int
  | 19 => .array .int
  | 20 => .array .int
  | 21 => .array .int
  | 22 => .array .int
  | 23 => .array .int
  | 24 => .array .int
  | 25 => .array .int
  | 26 => .array .int
  | 27 => .int
  | 28 => .int
  | 29 => .int
  | 30 => .int
  | 31 => .long
  | 32 => .int
  | 33 => .int
  | 34 => .array .int
  | 35 => .array .int
  | 36 => .int
  | 37 => .boolean
  | 38 => .int
  | 39 => .array .int
  | 40 => .array .int
  | 41 => .array .int
  | 42 => .array .boolean
  | 43 => .array .boolean
  | 44 => .array .int
  | 45 => .array .boolean
  | 46 => .array .int
  | 47 => .array .boolean
  | 48 => .array .int
  | 49 => .array .int
  | 50 => .int
  | 51 => .int
  | 52 => .int
  | 53 => .int
  | 54 => .array .int
  | 55 => .array .int
  | 56 => .array .int
  | 57 => .array .int
  | 58 => .array .int
  | 59 => .array .int
  | 60 => .array .int
  | 61 => .array .int
  | 62 => .int
  | 63 => .int
  | 64 => .int
  | 65 => .array .int
  | 66 => .array .int
  | 67 => .array .boolean
  | 68 => .array .int
  | 69 => .int
  | 70 => .array .int
  | 71 => .array .int
  | 72 => .array .int
  | 73 => .array .int
  | 74 => .array .int
  | 75 => .array .int
  | 76 => .array .boolean
  | 77 => .array .int
  | 78 => .array .int
  | 79 => .int
  | 80 => .int
  | 81 => .array .int
  | 82 => .int
  | 83 => .array .int
  | 84 => .array .int
  | 85 => .array .int
  | 86 => .array .int
  | 87 => .array .int
  | 88 => .array .int
  | 89 => .int
  | _ => .array .int
abbrev wsX50 : List Cond := u_ws RX5 TX5 91
set_option maxRecDepth 100000 in
theorem nmX5 : ∀ a, a < 91 → ∀ b, b < 91 → a ≠ b → (TX5 a).2.1 ≠ (TX5 b).2.1 := by decide +kernel
set_option maxRecDepth 100000 in
theorem tyX5_ok : ∀ k, k < 91 → parseFieldDescriptor (TX5 k).2.2.1 = some (tyX5 k) := by decide +kernel
abbrev cX5_init : ByteArray := prog_13_method_1_code
def yX5_init : MethodName := ⟨RX5, "<init>", "()V"⟩
abbrev cX5_thrown : ByteArray := prog_13_method_2_code
def yX5_thrown : MethodName := ⟨RX5, "thrown", "()I"⟩
abbrev cX5_tick : ByteArray := prog_13_method_6_code
def yX5_tick : MethodName := ⟨RX5, "tick", "(I)I"⟩
abbrev cX5_isIn : ByteArray := prog_13_method_4_code
def yX5_isIn : MethodName := ⟨RX5, "isIn", "(JJJ)Z"⟩
abbrev cX5_fail : ByteArray := prog_13_method_3_code
def yX5_fail : MethodName := ⟨RX5, "fail", "(I)I"⟩
abbrev cX5_unit : ByteArray := prog_13_method_8_code
def yX5_unit : MethodName := ⟨RX5, "unit", "()I"⟩
abbrev cX5_tell : ByteArray := prog_13_method_9_code
def yX5_tell : MethodName := ⟨RX5, "tell", "(IIII)I"⟩
abbrev cX5_isUnit : ByteArray := prog_13_method_7_code
def yX5_isUnit : MethodName := ⟨RX5, "isUnit", "(I)Z"⟩
abbrev cX5_today : ByteArray := prog_13_method_5_code
def yX5_today : MethodName := ⟨RX5, "today", "()I"⟩
abbrev cX5_merge : ByteArray := prog_13_method_11_code
def yX5_merge : MethodName := ⟨RX5, "merge", "(II)I"⟩
abbrev cX5_lastAs : ByteArray := prog_13_method_10_code
def yX5_lastAs : MethodName := ⟨RX5, "lastAs", "(II)I"⟩
abbrev cX5_value : ByteArray := prog_13_method_13_code
def yX5_value : MethodName := ⟨RX5, "value", "(IIII)I"⟩
abbrev cX5_valueOf : ByteArray := prog_13_method_12_code
def yX5_valueOf : MethodName := ⟨RX5, "valueOf", "(IIII)I"⟩
abbrev cX5_last : ByteArray := prog_13_method_14_code
def yX5_last : MethodName := ⟨RX5, "last", "(I)I"⟩
abbrev cX5_feed : ByteArray := prog_13_method_15_code
def yX5_feed : MethodName := ⟨RX5, "feed", "(IIIII)I"⟩
abbrev cX5_trim : ByteArray := prog_13_method_16_code
def yX5_trim : MethodName := ⟨RX5, "trim", "(I)I"⟩
abbrev cX5_form : ByteArray := prog_13_method_31_code
def yX5_form : MethodName := ⟨RX5, "form", "()I"⟩
abbrev cX5_next : ByteArray := prog_13_method_19_code
def yX5_next : MethodName := ⟨RX5, "next", "()V"⟩
abbrev cX5_byteAt : ByteArray := prog_13_method_18_code
def yX5_byteAt : MethodName := ⟨RX5, "byteAt", "(I)I"⟩
abbrev cX5_letters : ByteArray := prog_13_method_17_code
def yX5_letters : MethodName := ⟨RX5, "letters", "(JI)J"⟩
abbrev cX5_nextSign : ByteArray := prog_13_method_20_code
def yX5_nextSign : MethodName := ⟨RX5, "nextSign", "(I)V"⟩
abbrev cX5_isStatement : ByteArray := prog_13_method_29_code
def yX5_isStatement : MethodName := ⟨RX5, "isStatement", "()Z"⟩
abbrev cX5_isKept : ByteArray := prog_13_method_21_code
def yX5_isKept : MethodName := ⟨RX5, "isKept", "(J)Z"⟩
abbrev cX5_nameOf : ByteArray := prog_13_method_24_code
def yX5_nameOf : MethodName := ⟨RX5, "nameOf", "(IJ)I"⟩
abbrev cX5_isBounds : ByteArray := prog_13_method_30_code
def yX5_isBounds : MethodName := ⟨RX5, "isBounds", "(I)Z"⟩
abbrev cX5_isBound : ByteArray := prog_13_method_28_code
def yX5_isBound : MethodName := ⟨RX5, "isBound", "()Z"⟩
abbrev cX5_expr : ByteArray := prog_13_method_26_code
def yX5_expr : MethodName := ⟨RX5, "expr", "()Z"⟩
abbrev cX5_term : ByteArray := prog_13_method_25_code
def yX5_term : MethodName := ⟨RX5, "term", "()Z"⟩
abbrev cX5_lay : ByteArray := prog_13_method_23_code
def yX5_lay : MethodName := ⟨RX5, "lay", "(II)V"⟩
abbrev cX5_isWord : ByteArray := prog_13_method_22_code
def yX5_isWord : MethodName := ⟨RX5, "isWord", "(J)Z"⟩
abbrev cX5_cond : ByteArray := prog_13_method_27_code
def yX5_cond : MethodName := ⟨RX5, "cond", "()Z"⟩
abbrev cX5_statement : ByteArray := prog_13_method_34_code
def yX5_statement : MethodName := ⟨RX5, "statement", "(III)I"⟩
abbrev cX5_isStatementOf : ByteArray := prog_13_method_33_code
def yX5_isStatementOf : MethodName := ⟨RX5, "isStatementOf", "(II)Z"⟩
abbrev cX5_isForm : ByteArray := prog_13_method_32_code
def yX5_isForm : MethodName := ⟨RX5, "isForm", "(I)Z"⟩
abbrev cX5_open : ByteArray := prog_13_method_38_code
def yX5_open : MethodName := ⟨RX5, "open", "(II)I"⟩
abbrev cX5_question : ByteArray := prog_13_method_41_code
def yX5_question : MethodName := ⟨RX5, "question", "(I)I"⟩
abbrev cX5_isSession : ByteArray := prog_13_method_37_code
def yX5_isSession : MethodName := ⟨RX5, "isSession", "(I)Z"⟩
abbrev cX5_questionOf : ByteArray := prog_13_method_40_code
def yX5_questionOf : MethodName := ⟨RX5, "questionOf", "(I)I"⟩
abbrev cX5_walk : ByteArray := prog_13_method_39_code
def yX5_walk : MethodName := ⟨RX5, "walk", "(II)V"⟩
abbrev cX5_holds : ByteArray := prog_13_method_36_code
def yX5_holds : MethodName := ⟨RX5, "holds", "(II)Z"⟩
abbrev cX5_sum : ByteArray := prog_13_method_35_code
def yX5_sum : MethodName := ⟨RX5, "sum", "(II)I"⟩
abbrev cX5_answer : ByteArray := prog_13_method_43_code
def yX5_answer : MethodName := ⟨RX5, "answer", "(II)I"⟩
abbrev cX5_forgetNotes : ByteArray := prog_13_method_42_code
def yX5_forgetNotes : MethodName := ⟨RX5, "forgetNotes", "(I)V"⟩
abbrev cX5_takeUp : ByteArray := prog_13_method_44_code
def yX5_takeUp : MethodName := ⟨RX5, "takeUp", "(I)V"⟩
abbrev cX5_back : ByteArray := prog_13_method_45_code
def yX5_back : MethodName := ⟨RX5, "back", "(I)I"⟩
abbrev cX5_given : ByteArray := prog_13_method_46_code
def yX5_given : MethodName := ⟨RX5, "given", "(IIZ)I"⟩
abbrev cX5_close : ByteArray := prog_13_method_47_code
def yX5_close : MethodName := ⟨RX5, "close", "(I)I"⟩
abbrev cX5_item : ByteArray := prog_13_method_50_code
def yX5_item : MethodName := ⟨RX5, "item", "(II)I"⟩
abbrev cX5_isItem : ByteArray := prog_13_method_49_code
def yX5_isItem : MethodName := ⟨RX5, "isItem", "(II)Z"⟩
abbrev cX5_formOf : ByteArray := prog_13_method_48_code
def yX5_formOf : MethodName := ⟨RX5, "formOf", "(I)I"⟩
abbrev cX5_mark : ByteArray := prog_13_method_51_code
def yX5_mark : MethodName := ⟨RX5, "mark", "(II)I"⟩
abbrev cX5_rule : ByteArray := prog_13_method_53_code
def yX5_rule : MethodName := ⟨RX5, "rule", "(IIII)I"⟩
abbrev cX5_isAsk : ByteArray := prog_13_method_52_code
def yX5_isAsk : MethodName := ⟨RX5, "isAsk", "(II)Z"⟩
abbrev cX5_cost : ByteArray := prog_13_method_54_code
def yX5_cost : MethodName := ⟨RX5, "cost", "(III)I"⟩
abbrev cX5_broken : ByteArray := prog_13_method_56_code
def yX5_broken : MethodName := ⟨RX5, "broken", "(II)I"⟩
abbrev cX5_breaks : ByteArray := prog_13_method_55_code
def yX5_breaks : MethodName := ⟨RX5, "breaks", "(II)Z"⟩
abbrev cX5_least : ByteArray := prog_13_method_61_code
def yX5_least : MethodName := ⟨RX5, "least", "(IZ)I"⟩
abbrev cX5_find : ByteArray := prog_13_method_60_code
def yX5_find : MethodName := ⟨RX5, "find", "(I)V"⟩
abbrev cX5_fits : ByteArray := prog_13_method_59_code
def yX5_fits : MethodName := ⟨RX5, "fits", "(II)Z"⟩
abbrev cX5_side : ByteArray := prog_13_method_58_code
def yX5_side : MethodName := ⟨RX5, "side", "(III)I"⟩
abbrev cX5_impute : ByteArray := prog_13_method_64_code
def yX5_impute : MethodName := ⟨RX5, "impute", "(II)I"⟩
abbrev cX5_mayGive : ByteArray := prog_13_method_63_code
def yX5_mayGive : MethodName := ⟨RX5, "mayGive", "(III)Z"⟩
abbrev cX5_isClean : ByteArray := prog_13_method_57_code
def yX5_isClean : MethodName := ⟨RX5, "isClean", "(I)Z"⟩
abbrev cX5_distance : ByteArray := prog_13_method_62_code
def yX5_distance : MethodName := ⟨RX5, "distance", "(III)J"⟩
abbrev cX5_letsOf : ByteArray := prog_13_method_65_code
def yX5_letsOf : MethodName := ⟨RX5, "letsOf", "(I)V"⟩
abbrev cX5_sample : ByteArray := prog_13_method_68_code
def yX5_sample : MethodName := ⟨RX5, "sample", "(IIIIII)I"⟩
abbrev cX5_isFirst : ByteArray := prog_13_method_69_code
def yX5_isFirst : MethodName := ⟨RX5, "isFirst", "(I)Z"⟩
abbrev cX5_isBefore : ByteArray := prog_13_method_67_code
def yX5_isBefore : MethodName := ⟨RX5, "isBefore", "(III)Z"⟩
abbrev cX5_keyOf : ByteArray := prog_13_method_66_code
def yX5_keyOf : MethodName := ⟨RX5, "keyOf", "(II)I"⟩
abbrev cX5_drawn : ByteArray := prog_13_method_71_code
def yX5_drawn : MethodName := ⟨RX5, "drawn", "(II)I"⟩
abbrev cX5_isSample : ByteArray := prog_13_method_70_code
def yX5_isSample : MethodName := ⟨RX5, "isSample", "(I)Z"⟩
abbrev cX5_chance : ByteArray := prog_13_method_73_code
def yX5_chance : MethodName := ⟨RX5, "chance", "(IIZ)I"⟩
abbrev cX5_divisor : ByteArray := prog_13_method_72_code
def yX5_divisor : MethodName := ⟨RX5, "divisor", "(II)I"⟩
abbrev cX5_overlap : ByteArray := prog_13_method_74_code
def yX5_overlap : MethodName := ⟨RX5, "overlap", "(II)I"⟩
abbrev cX5_table : ByteArray := prog_13_method_75_code
def yX5_table : MethodName := ⟨RX5, "table", "(IIIII)I"⟩
abbrev cX5_cell : ByteArray := prog_13_method_78_code
def yX5_cell : MethodName := ⟨RX5, "cell", "(IIII)I"⟩
abbrev cX5_isTable : ByteArray := prog_13_method_76_code
def yX5_isTable : MethodName := ⟨RX5, "isTable", "(I)Z"⟩
abbrev cX5_now : ByteArray := prog_13_method_77_code
def yX5_now : MethodName := ⟨RX5, "now", "(III)I"⟩
abbrev cX5_secrecy : ByteArray := prog_13_method_81_code
def yX5_secrecy : MethodName := ⟨RX5, "secrecy", "(IIII)I"⟩
abbrev cX5_isGood : ByteArray := prog_13_method_80_code
def yX5_isGood : MethodName := ⟨RX5, "isGood", "(III)Z"⟩
abbrev cX5_most : ByteArray := prog_13_method_79_code
def yX5_most : MethodName := ⟨RX5, "most", "(IIIZ)I"⟩
abbrev cX5_secret : ByteArray := prog_13_method_83_code
def yX5_secret : MethodName := ⟨RX5, "secret", "(III)I"⟩
abbrev cX5_isCell : ByteArray := prog_13_method_82_code
def yX5_isCell : MethodName := ⟨RX5, "isCell", "(III)Z"⟩
abbrev cX5_interval : ByteArray := prog_13_method_84_code
def yX5_interval : MethodName := ⟨RX5, "interval", "(IIIZ)I"⟩
abbrev cX5_round : ByteArray := prog_13_method_87_code
def yX5_round : MethodName := ⟨RX5, "round", "(II)I"⟩
abbrev cX5_isWay : ByteArray := prog_13_method_86_code
def yX5_isWay : MethodName := ⟨RX5, "isWay", "(II)Z"⟩
abbrev cX5_isNext : ByteArray := prog_13_method_85_code
def yX5_isNext : MethodName := ⟨RX5, "isNext", "(JJ)Z"⟩
abbrev cX5_person : ByteArray := prog_13_method_88_code
def yX5_person : MethodName := ⟨RX5, "person", "(I)I"⟩
abbrev cX5_release : ByteArray := prog_13_method_89_code
def yX5_release : MethodName := ⟨RX5, "release", "(III)I"⟩
abbrev cX5_look : ByteArray := prog_13_method_90_code
def yX5_look : MethodName := ⟨RX5, "look", "(IIII)I"⟩
abbrev cX5_looked : ByteArray := prog_13_method_91_code
def yX5_looked : MethodName := ⟨RX5, "looked", "(II)I"⟩
abbrev cX5_told : ByteArray := prog_13_method_92_code
def yX5_told : MethodName := ⟨RX5, "told", "(I)I"⟩
theorem q111 : (Jvm.Cond.initialized "CensusOfficeModel") ∈ lw_all := lw_g (lw_at lw_m1 5 rfl) rfl
theorem q1498 : (Jvm.Cond.instantiable "CensusOfficeModel" (91 : Nat)) ∈ lw_all := lw_g (lw_at lw_m6 192 rfl) rfl
theorem q1500 : (Jvm.Cond.instanceMethod ({ cls := "CensusOfficeModel", name := "<init>", desc := "()V" } : Jvm.MethodName)) ∈ lw_all := lw_g (lw_at lw_m6 194 rfl) rfl
theorem q1501 : (Jvm.Cond.code ({ cls := "CensusOfficeModel", name := "<init>", desc := "()V" } : Jvm.MethodName) prog_13_method_1_code (1 : Nat) (Option.none : Option Jvm.ClassFile.FieldType)) ∈ lw_all := lw_g (lw_at lw_m6 195 rfl) rfl
theorem q1502 : (Jvm.Cond.methodLink "CensusOfficeModel" (1 : Nat) ({ cls := "java/lang/Object", name := "<init>", desc := "()V" } : Jvm.MethodName)) ∈ lw_all := lw_g (lw_at lw_m6 196 rfl) rfl
theorem q1503 : (Jvm.Cond.fieldLink "CensusOfficeModel" (198 : Nat) "CensusOfficeModel" "thrown" "I") ∈ lw_all := lw_g (lw_at lw_m6 197 rfl) rfl
theorem q1504 : (Jvm.Cond.fieldLink "CensusOfficeModel" (202 : Nat) "CensusOfficeModel" "minute" "I") ∈ lw_all := lw_g (lw_at lw_m6 198 rfl) rfl
theorem q1505 : (Jvm.Cond.fieldLink "CensusOfficeModel" (217 : Nat) "CensusOfficeModel" "units" "I") ∈ lw_all := lw_g (lw_at lw_m6 199 rfl) rfl
theorem q1506 : (Jvm.Cond.fieldLink "CensusOfficeModel" (7 : Nat) "CensusOfficeModel" "into" "[I") ∈ lw_all := lw_g (lw_at lw_m6 200 rfl) rfl
theorem q1507 : (Jvm.Cond.fieldLink "CensusOfficeModel" (13 : Nat) "CensusOfficeModel" "intoDay" "[I") ∈ lw_all := lw_g (lw_at lw_m6 201 rfl) rfl
theorem q1508 : (Jvm.Cond.fieldLink "CensusOfficeModel" (241 : Nat) "CensusOfficeModel" "merges" "I") ∈ lw_all := lw_g (lw_at lw_m6 202 rfl) rfl
theorem q1509 : (Jvm.Cond.fieldLink "CensusOfficeModel" (230 : Nat) "CensusOfficeModel" "tellings" "I") ∈ lw_all := lw_g (lw_at lw_m6 203 rfl) rfl
theorem q1510 : (Jvm.Cond.fieldLink "CensusOfficeModel" (16 : Nat) "CensusOfficeModel" "tUnit" "[I") ∈ lw_all := lw_g (lw_at lw_m6 204 rfl) rfl
theorem q1511 : (Jvm.Cond.fieldLink "CensusOfficeModel" (19 : Nat) "CensusOfficeModel" "tField" "[I") ∈ lw_all := lw_g (lw_at lw_m6 205 rfl) rfl
theorem q1512 : (Jvm.Cond.fieldLink "CensusOfficeModel" (22 : Nat) "CensusOfficeModel" "tDay" "[I") ∈ lw_all := lw_g (lw_at lw_m6 206 rfl) rfl
theorem q1513 : (Jvm.Cond.fieldLink "CensusOfficeModel" (25 : Nat) "CensusOfficeModel" "tValue" "[I") ∈ lw_all := lw_g (lw_at lw_m6 207 rfl) rfl
theorem q1514 : (Jvm.Cond.fieldLink "CensusOfficeModel" (28 : Nat) "CensusOfficeModel" "tTold" "[I") ∈ lw_all := lw_g (lw_at lw_m6 208 rfl) rfl
theorem q1515 : (Jvm.Cond.fieldLink "CensusOfficeModel" (31 : Nat) "CensusOfficeModel" "tape" "[I") ∈ lw_all := lw_g (lw_at lw_m6 209 rfl) rfl
theorem q1516 : (Jvm.Cond.fieldLink "CensusOfficeModel" (249 : Nat) "CensusOfficeModel" "taped" "I") ∈ lw_all := lw_g (lw_at lw_m6 210 rfl) rfl
theorem q1517 : (Jvm.Cond.fieldLink "CensusOfficeModel" (320 : Nat) "CensusOfficeModel" "forms" "I") ∈ lw_all := lw_g (lw_at lw_m6 211 rfl) rfl
theorem q1518 : (Jvm.Cond.fieldLink "CensusOfficeModel" (34 : Nat) "CensusOfficeModel" "many" "[I") ∈ lw_all := lw_g (lw_at lw_m6 212 rfl) rfl
theorem q1519 : (Jvm.Cond.fieldLink "CensusOfficeModel" (37 : Nat) "CensusOfficeModel" "sort" "[I") ∈ lw_all := lw_g (lw_at lw_m6 213 rfl) rfl
theorem q1520 : (Jvm.Cond.fieldLink "CensusOfficeModel" (40 : Nat) "CensusOfficeModel" "name" "[J") ∈ lw_all := lw_g (lw_at lw_m6 214 rfl) rfl
theorem q1521 : (Jvm.Cond.fieldLink "CensusOfficeModel" (44 : Nat) "CensusOfficeModel" "least" "[I") ∈ lw_all := lw_g (lw_at lw_m6 215 rfl) rfl
theorem q1522 : (Jvm.Cond.fieldLink "CensusOfficeModel" (47 : Nat) "CensusOfficeModel" "most" "[I") ∈ lw_all := lw_g (lw_at lw_m6 216 rfl) rfl
theorem q1523 : (Jvm.Cond.fieldLink "CensusOfficeModel" (50 : Nat) "CensusOfficeModel" "cost" "[I") ∈ lw_all := lw_g (lw_at lw_m6 217 rfl) rfl
theorem q1524 : (Jvm.Cond.fieldLink "CensusOfficeModel" (53 : Nat) "CensusOfficeModel" "exprFrom" "[I") ∈ lw_all := lw_g (lw_at lw_m6 218 rfl) rfl
theorem q1525 : (Jvm.Cond.fieldLink "CensusOfficeModel" (56 : Nat) "CensusOfficeModel" "exprTo" "[I") ∈ lw_all := lw_g (lw_at lw_m6 219 rfl) rfl
theorem q1526 : (Jvm.Cond.fieldLink "CensusOfficeModel" (59 : Nat) "CensusOfficeModel" "condFrom" "[I") ∈ lw_all := lw_g (lw_at lw_m6 220 rfl) rfl
theorem q1527 : (Jvm.Cond.fieldLink "CensusOfficeModel" (62 : Nat) "CensusOfficeModel" "condTo" "[I") ∈ lw_all := lw_g (lw_at lw_m6 221 rfl) rfl
theorem q1528 : (Jvm.Cond.fieldLink "CensusOfficeModel" (65 : Nat) "CensusOfficeModel" "thing" "[I") ∈ lw_all := lw_g (lw_at lw_m6 222 rfl) rfl
theorem q1529 : (Jvm.Cond.fieldLink "CensusOfficeModel" (68 : Nat) "CensusOfficeModel" "what" "[I") ∈ lw_all := lw_g (lw_at lw_m6 223 rfl) rfl
theorem q1530 : (Jvm.Cond.fieldLink "CensusOfficeModel" (303 : Nat) "CensusOfficeModel" "things" "I") ∈ lw_all := lw_g (lw_at lw_m6 224 rfl) rfl
theorem q1531 : (Jvm.Cond.fieldLink "CensusOfficeModel" (252 : Nat) "CensusOfficeModel" "at" "I") ∈ lw_all := lw_g (lw_at lw_m6 225 rfl) rfl
theorem q1532 : (Jvm.Cond.fieldLink "CensusOfficeModel" (261 : Nat) "CensusOfficeModel" "kind" "I") ∈ lw_all := lw_g (lw_at lw_m6 226 rfl) rfl
theorem q1533 : (Jvm.Cond.fieldLink "CensusOfficeModel" (255 : Nat) "CensusOfficeModel" "place" "I") ∈ lw_all := lw_g (lw_at lw_m6 227 rfl) rfl
theorem q1534 : (Jvm.Cond.fieldLink "CensusOfficeModel" (268 : Nat) "CensusOfficeModel" "word" "J") ∈ lw_all := lw_g (lw_at lw_m6 228 rfl) rfl
theorem q1535 : (Jvm.Cond.fieldLink "CensusOfficeModel" (280 : Nat) "CensusOfficeModel" "number" "I") ∈ lw_all := lw_g (lw_at lw_m6 229 rfl) rfl
theorem q1536 : (Jvm.Cond.fieldLink "CensusOfficeModel" (334 : Nat) "CensusOfficeModel" "bound" "I") ∈ lw_all := lw_g (lw_at lw_m6 230 rfl) rfl
theorem q1537 : (Jvm.Cond.fieldLink "CensusOfficeModel" (71 : Nat) "CensusOfficeModel" "item" "[I") ∈ lw_all := lw_g (lw_at lw_m6 231 rfl) rfl
theorem q1538 : (Jvm.Cond.fieldLink "CensusOfficeModel" (74 : Nat) "CensusOfficeModel" "field" "[I") ∈ lw_all := lw_g (lw_at lw_m6 232 rfl) rfl
theorem q1539 : (Jvm.Cond.fieldLink "CensusOfficeModel" (358 : Nat) "CensusOfficeModel" "pos" "I") ∈ lw_all := lw_g (lw_at lw_m6 233 rfl) rfl
theorem q1540 : (Jvm.Cond.fieldLink "CensusOfficeModel" (361 : Nat) "CensusOfficeModel" "missing" "Z") ∈ lw_all := lw_g (lw_at lw_m6 234 rfl) rfl
theorem q1541 : (Jvm.Cond.fieldLink "CensusOfficeModel" (368 : Nat) "CensusOfficeModel" "sessions" "I") ∈ lw_all := lw_g (lw_at lw_m6 235 rfl) rfl
theorem q1542 : (Jvm.Cond.fieldLink "CensusOfficeModel" (77 : Nat) "CensusOfficeModel" "sForm" "[I") ∈ lw_all := lw_g (lw_at lw_m6 236 rfl) rfl
theorem q1543 : (Jvm.Cond.fieldLink "CensusOfficeModel" (80 : Nat) "CensusOfficeModel" "sUnit" "[I") ∈ lw_all := lw_g (lw_at lw_m6 237 rfl) rfl
theorem q1544 : (Jvm.Cond.fieldLink "CensusOfficeModel" (83 : Nat) "CensusOfficeModel" "sField" "[I") ∈ lw_all := lw_g (lw_at lw_m6 238 rfl) rfl
theorem q1545 : (Jvm.Cond.fieldLink "CensusOfficeModel" (86 : Nat) "CensusOfficeModel" "closed" "[Z") ∈ lw_all := lw_g (lw_at lw_m6 239 rfl) rfl
theorem q1546 : (Jvm.Cond.fieldLink "CensusOfficeModel" (90 : Nat) "CensusOfficeModel" "given" "[Z") ∈ lw_all := lw_g (lw_at lw_m7 0 rfl) rfl
theorem q1547 : (Jvm.Cond.fieldLink "CensusOfficeModel" (93 : Nat) "CensusOfficeModel" "givenAs" "[I") ∈ lw_all := lw_g (lw_at lw_m7 1 rfl) rfl
theorem q1548 : (Jvm.Cond.fieldLink "CensusOfficeModel" (96 : Nat) "CensusOfficeModel" "aside" "[Z") ∈ lw_all := lw_g (lw_at lw_m7 2 rfl) rfl
theorem q1549 : (Jvm.Cond.fieldLink "CensusOfficeModel" (99 : Nat) "CensusOfficeModel" "asideAs" "[I") ∈ lw_all := lw_g (lw_at lw_m7 3 rfl) rfl
theorem q1550 : (Jvm.Cond.fieldLink "CensusOfficeModel" (102 : Nat) "CensusOfficeModel" "noted" "[Z") ∈ lw_all := lw_g (lw_at lw_m7 4 rfl) rfl
theorem q1551 : (Jvm.Cond.fieldLink "CensusOfficeModel" (105 : Nat) "CensusOfficeModel" "noteQuestion" "[I") ∈ lw_all := lw_g (lw_at lw_m7 5 rfl) rfl
theorem q1552 : (Jvm.Cond.fieldLink "CensusOfficeModel" (108 : Nat) "CensusOfficeModel" "noteNumber" "[I") ∈ lw_all := lw_g (lw_at lw_m7 6 rfl) rfl
theorem q1553 : (Jvm.Cond.fieldLink "CensusOfficeModel" (377 : Nat) "CensusOfficeModel" "end" "I") ∈ lw_all := lw_g (lw_at lw_m7 7 rfl) rfl
theorem q1554 : (Jvm.Cond.fieldLink "CensusOfficeModel" (371 : Nat) "CensusOfficeModel" "badMust" "I") ∈ lw_all := lw_g (lw_at lw_m7 8 rfl) rfl
theorem q1555 : (Jvm.Cond.fieldLink "CensusOfficeModel" (374 : Nat) "CensusOfficeModel" "badWarn" "I") ∈ lw_all := lw_g (lw_at lw_m7 9 rfl) rfl
theorem q1556 : (Jvm.Cond.fieldLink "CensusOfficeModel" (398 : Nat) "CensusOfficeModel" "records" "I") ∈ lw_all := lw_g (lw_at lw_m7 10 rfl) rfl
theorem q1557 : (Jvm.Cond.fieldLink "CensusOfficeModel" (111 : Nat) "CensusOfficeModel" "rSession" "[I") ∈ lw_all := lw_g (lw_at lw_m7 11 rfl) rfl
theorem q1558 : (Jvm.Cond.fieldLink "CensusOfficeModel" (114 : Nat) "CensusOfficeModel" "items" "[I") ∈ lw_all := lw_g (lw_at lw_m7 12 rfl) rfl
theorem q1559 : (Jvm.Cond.fieldLink "CensusOfficeModel" (117 : Nat) "CensusOfficeModel" "marks" "[I") ∈ lw_all := lw_g (lw_at lw_m7 13 rfl) rfl
theorem q1560 : (Jvm.Cond.fieldLink "CensusOfficeModel" (120 : Nat) "CensusOfficeModel" "rules" "[I") ∈ lw_all := lw_g (lw_at lw_m7 14 rfl) rfl
theorem q1561 : (Jvm.Cond.fieldLink "CensusOfficeModel" (123 : Nat) "CensusOfficeModel" "ruleA" "[I") ∈ lw_all := lw_g (lw_at lw_m7 15 rfl) rfl
theorem q1562 : (Jvm.Cond.fieldLink "CensusOfficeModel" (126 : Nat) "CensusOfficeModel" "ruleB" "[I") ∈ lw_all := lw_g (lw_at lw_m7 16 rfl) rfl
theorem q1563 : (Jvm.Cond.fieldLink "CensusOfficeModel" (129 : Nat) "CensusOfficeModel" "ruleN" "[I") ∈ lw_all := lw_g (lw_at lw_m7 17 rfl) rfl
theorem q1564 : (Jvm.Cond.fieldLink "CensusOfficeModel" (132 : Nat) "CensusOfficeModel" "tried" "[I") ∈ lw_all := lw_g (lw_at lw_m7 18 rfl) rfl
theorem q1565 : (Jvm.Cond.fieldLink "CensusOfficeModel" (423 : Nat) "CensusOfficeModel" "bestSum" "I") ∈ lw_all := lw_g (lw_at lw_m7 19 rfl) rfl
theorem q1566 : (Jvm.Cond.fieldLink "CensusOfficeModel" (426 : Nat) "CensusOfficeModel" "bestSet" "I") ∈ lw_all := lw_g (lw_at lw_m7 20 rfl) rfl
theorem q1567 : (Jvm.Cond.fieldLink "CensusOfficeModel" (455 : Nat) "CensusOfficeModel" "samples" "I") ∈ lw_all := lw_g (lw_at lw_m7 21 rfl) rfl
theorem q1568 : (Jvm.Cond.fieldLink "CensusOfficeModel" (135 : Nat) "CensusOfficeModel" "got" "[I") ∈ lw_all := lw_g (lw_at lw_m7 22 rfl) rfl
theorem q1569 : (Jvm.Cond.fieldLink "CensusOfficeModel" (138 : Nat) "CensusOfficeModel" "had" "[I") ∈ lw_all := lw_g (lw_at lw_m7 23 rfl) rfl
theorem q1570 : (Jvm.Cond.fieldLink "CensusOfficeModel" (141 : Nat) "CensusOfficeModel" "drawn" "[Z") ∈ lw_all := lw_g (lw_at lw_m7 24 rfl) rfl
theorem q1571 : (Jvm.Cond.fieldLink "CensusOfficeModel" (144 : Nat) "CensusOfficeModel" "stratum" "[I") ∈ lw_all := lw_g (lw_at lw_m7 25 rfl) rfl
theorem q1572 : (Jvm.Cond.fieldLink "CensusOfficeModel" (470 : Nat) "CensusOfficeModel" "tables" "I") ∈ lw_all := lw_g (lw_at lw_m7 26 rfl) rfl
theorem q1573 : (Jvm.Cond.fieldLink "CensusOfficeModel" (147 : Nat) "CensusOfficeModel" "rows" "[I") ∈ lw_all := lw_g (lw_at lw_m7 27 rfl) rfl
theorem q1574 : (Jvm.Cond.fieldLink "CensusOfficeModel" (150 : Nat) "CensusOfficeModel" "columns" "[I") ∈ lw_all := lw_g (lw_at lw_m7 28 rfl) rfl
theorem q1575 : (Jvm.Cond.fieldLink "CensusOfficeModel" (153 : Nat) "CensusOfficeModel" "cell" "[I") ∈ lw_all := lw_g (lw_at lw_m7 29 rfl) rfl
theorem q1576 : (Jvm.Cond.fieldLink "CensusOfficeModel" (156 : Nat) "CensusOfficeModel" "parts" "[I") ∈ lw_all := lw_g (lw_at lw_m7 30 rfl) rfl
theorem q1577 : (Jvm.Cond.fieldLink "CensusOfficeModel" (159 : Nat) "CensusOfficeModel" "greatest" "[I") ∈ lw_all := lw_g (lw_at lw_m7 31 rfl) rfl
theorem q1578 : (Jvm.Cond.fieldLink "CensusOfficeModel" (162 : Nat) "CensusOfficeModel" "rounded" "[I") ∈ lw_all := lw_g (lw_at lw_m7 32 rfl) rfl
theorem q1579 : (Jvm.Cond.fieldLink "CensusOfficeModel" (165 : Nat) "CensusOfficeModel" "isRounded" "[Z") ∈ lw_all := lw_g (lw_at lw_m7 33 rfl) rfl
theorem q1580 : (Jvm.Cond.fieldLink "CensusOfficeModel" (168 : Nat) "CensusOfficeModel" "secrets" "[I") ∈ lw_all := lw_g (lw_at lw_m7 34 rfl) rfl
theorem q1581 : (Jvm.Cond.fieldLink "CensusOfficeModel" (171 : Nat) "CensusOfficeModel" "firsts" "[I") ∈ lw_all := lw_g (lw_at lw_m7 35 rfl) rfl
theorem q1582 : (Jvm.Cond.fieldLink "CensusOfficeModel" (490 : Nat) "CensusOfficeModel" "base" "I") ∈ lw_all := lw_g (lw_at lw_m7 36 rfl) rfl
theorem q1583 : (Jvm.Cond.fieldLink "CensusOfficeModel" (504 : Nat) "CensusOfficeModel" "persons" "I") ∈ lw_all := lw_g (lw_at lw_m7 37 rfl) rfl
theorem q1584 : (Jvm.Cond.fieldLink "CensusOfficeModel" (174 : Nat) "CensusOfficeModel" "roles" "[I") ∈ lw_all := lw_g (lw_at lw_m7 38 rfl) rfl
theorem q1585 : (Jvm.Cond.fieldLink "CensusOfficeModel" (507 : Nat) "CensusOfficeModel" "releases" "I") ∈ lw_all := lw_g (lw_at lw_m7 39 rfl) rfl
theorem q1586 : (Jvm.Cond.fieldLink "CensusOfficeModel" (177 : Nat) "CensusOfficeModel" "made" "[I") ∈ lw_all := lw_g (lw_at lw_m7 40 rfl) rfl
theorem q1587 : (Jvm.Cond.fieldLink "CensusOfficeModel" (180 : Nat) "CensusOfficeModel" "from" "[I") ∈ lw_all := lw_g (lw_at lw_m7 41 rfl) rfl
theorem q1588 : (Jvm.Cond.fieldLink "CensusOfficeModel" (183 : Nat) "CensusOfficeModel" "relRows" "[I") ∈ lw_all := lw_g (lw_at lw_m7 42 rfl) rfl
theorem q1589 : (Jvm.Cond.fieldLink "CensusOfficeModel" (186 : Nat) "CensusOfficeModel" "relColumns" "[I") ∈ lw_all := lw_g (lw_at lw_m7 43 rfl) rfl
theorem q1590 : (Jvm.Cond.fieldLink "CensusOfficeModel" (189 : Nat) "CensusOfficeModel" "relSecrets" "[I") ∈ lw_all := lw_g (lw_at lw_m7 44 rfl) rfl
theorem q1591 : (Jvm.Cond.fieldLink "CensusOfficeModel" (192 : Nat) "CensusOfficeModel" "relCell" "[I") ∈ lw_all := lw_g (lw_at lw_m7 45 rfl) rfl
theorem q1592 : (Jvm.Cond.fieldLink "CensusOfficeModel" (510 : Nat) "CensusOfficeModel" "looks" "I") ∈ lw_all := lw_g (lw_at lw_m7 46 rfl) rfl
theorem q1593 : (Jvm.Cond.fieldLink "CensusOfficeModel" (195 : Nat) "CensusOfficeModel" "lookRow" "[I") ∈ lw_all := lw_g (lw_at lw_m7 47 rfl) rfl
theorem q1594 : (Jvm.Cond.lays "CensusOfficeModel" "CensusOfficeModel" "thrown" "I") ∈ lw_all := lw_g (lw_at lw_m7 48 rfl) rfl
theorem q1595 : (Jvm.Cond.soleField "CensusOfficeModel" "thrown") ∈ lw_all := lw_g (lw_at lw_m7 49 rfl) rfl
theorem q1596 : (Jvm.Cond.lays "CensusOfficeModel" "CensusOfficeModel" "minute" "I") ∈ lw_all := lw_g (lw_at lw_m7 50 rfl) rfl
theorem q1597 : (Jvm.Cond.soleField "CensusOfficeModel" "minute") ∈ lw_all := lw_g (lw_at lw_m7 51 rfl) rfl
theorem q1598 : (Jvm.Cond.lays "CensusOfficeModel" "CensusOfficeModel" "units" "I") ∈ lw_all := lw_g (lw_at lw_m7 52 rfl) rfl
theorem q1599 : (Jvm.Cond.soleField "CensusOfficeModel" "units") ∈ lw_all := lw_g (lw_at lw_m7 53 rfl) rfl
theorem q1600 : (Jvm.Cond.laysFinal "CensusOfficeModel" "CensusOfficeModel" "into" "[I") ∈ lw_all := lw_g (lw_at lw_m7 54 rfl) rfl
theorem q1601 : (Jvm.Cond.soleField "CensusOfficeModel" "into") ∈ lw_all := lw_g (lw_at lw_m7 55 rfl) rfl
theorem q1602 : (Jvm.Cond.laysFinal "CensusOfficeModel" "CensusOfficeModel" "intoDay" "[I") ∈ lw_all := lw_g (lw_at lw_m7 56 rfl) rfl
theorem q1603 : (Jvm.Cond.soleField "CensusOfficeModel" "intoDay") ∈ lw_all := lw_g (lw_at lw_m7 57 rfl) rfl
theorem q1604 : (Jvm.Cond.lays "CensusOfficeModel" "CensusOfficeModel" "merges" "I") ∈ lw_all := lw_g (lw_at lw_m7 58 rfl) rfl
theorem q1605 : (Jvm.Cond.soleField "CensusOfficeModel" "merges") ∈ lw_all := lw_g (lw_at lw_m7 59 rfl) rfl
theorem q1606 : (Jvm.Cond.lays "CensusOfficeModel" "CensusOfficeModel" "tellings" "I") ∈ lw_all := lw_g (lw_at lw_m7 60 rfl) rfl
theorem q1607 : (Jvm.Cond.soleField "CensusOfficeModel" "tellings") ∈ lw_all := lw_g (lw_at lw_m7 61 rfl) rfl
theorem q1608 : (Jvm.Cond.laysFinal "CensusOfficeModel" "CensusOfficeModel" "tUnit" "[I") ∈ lw_all := lw_g (lw_at lw_m7 62 rfl) rfl
theorem q1609 : (Jvm.Cond.soleField "CensusOfficeModel" "tUnit") ∈ lw_all := lw_g (lw_at lw_m7 63 rfl) rfl
theorem q1610 : (Jvm.Cond.laysFinal "CensusOfficeModel" "CensusOfficeModel" "tField" "[I") ∈ lw_all := lw_g (lw_at lw_m7 64 rfl) rfl
theorem q1611 : (Jvm.Cond.soleField "CensusOfficeModel" "tField") ∈ lw_all := lw_g (lw_at lw_m7 65 rfl) rfl
theorem q1612 : (Jvm.Cond.laysFinal "CensusOfficeModel" "CensusOfficeModel" "tDay" "[I") ∈ lw_all := lw_g (lw_at lw_m7 66 rfl) rfl
theorem q1613 : (Jvm.Cond.soleField "CensusOfficeModel" "tDay") ∈ lw_all := lw_g (lw_at lw_m7 67 rfl) rfl
theorem q1614 : (Jvm.Cond.laysFinal "CensusOfficeModel" "CensusOfficeModel" "tValue" "[I") ∈ lw_all := lw_g (lw_at lw_m7 68 rfl) rfl
theorem q1615 : (Jvm.Cond.soleField "CensusOfficeModel" "tValue") ∈ lw_all := lw_g (lw_at lw_m7 69 rfl) rfl
theorem q1616 : (Jvm.Cond.laysFinal "CensusOfficeModel" "CensusOfficeModel" "tTold" "[I") ∈ lw_all := lw_g (lw_at lw_m7 70 rfl) rfl
theorem q1617 : (Jvm.Cond.soleField "CensusOfficeModel" "tTold") ∈ lw_all := lw_g (lw_at lw_m7 71 rfl) rfl
theorem q1618 : (Jvm.Cond.laysFinal "CensusOfficeModel" "CensusOfficeModel" "tape" "[I") ∈ lw_all := lw_g (lw_at lw_m7 72 rfl) rfl
theorem q1619 : (Jvm.Cond.soleField "CensusOfficeModel" "tape") ∈ lw_all := lw_g (lw_at lw_m7 73 rfl) rfl
theorem q1620 : (Jvm.Cond.lays "CensusOfficeModel" "CensusOfficeModel" "taped" "I") ∈ lw_all := lw_g (lw_at lw_m7 74 rfl) rfl
theorem q1621 : (Jvm.Cond.soleField "CensusOfficeModel" "taped") ∈ lw_all := lw_g (lw_at lw_m7 75 rfl) rfl
theorem q1622 : (Jvm.Cond.lays "CensusOfficeModel" "CensusOfficeModel" "forms" "I") ∈ lw_all := lw_g (lw_at lw_m7 76 rfl) rfl
theorem q1623 : (Jvm.Cond.soleField "CensusOfficeModel" "forms") ∈ lw_all := lw_g (lw_at lw_m7 77 rfl) rfl
theorem q1624 : (Jvm.Cond.laysFinal "CensusOfficeModel" "CensusOfficeModel" "many" "[I") ∈ lw_all := lw_g (lw_at lw_m7 78 rfl) rfl
theorem q1625 : (Jvm.Cond.soleField "CensusOfficeModel" "many") ∈ lw_all := lw_g (lw_at lw_m7 79 rfl) rfl
theorem q1626 : (Jvm.Cond.laysFinal "CensusOfficeModel" "CensusOfficeModel" "sort" "[I") ∈ lw_all := lw_g (lw_at lw_m7 80 rfl) rfl
theorem q1627 : (Jvm.Cond.soleField "CensusOfficeModel" "sort") ∈ lw_all := lw_g (lw_at lw_m7 81 rfl) rfl
theorem q1628 : (Jvm.Cond.laysFinal "CensusOfficeModel" "CensusOfficeModel" "name" "[J") ∈ lw_all := lw_g (lw_at lw_m7 82 rfl) rfl
theorem q1629 : (Jvm.Cond.soleField "CensusOfficeModel" "name") ∈ lw_all := lw_g (lw_at lw_m7 83 rfl) rfl
theorem q1630 : (Jvm.Cond.laysFinal "CensusOfficeModel" "CensusOfficeModel" "least" "[I") ∈ lw_all := lw_g (lw_at lw_m7 84 rfl) rfl
theorem q1631 : (Jvm.Cond.soleField "CensusOfficeModel" "least") ∈ lw_all := lw_g (lw_at lw_m7 85 rfl) rfl
theorem q1632 : (Jvm.Cond.laysFinal "CensusOfficeModel" "CensusOfficeModel" "most" "[I") ∈ lw_all := lw_g (lw_at lw_m7 86 rfl) rfl
theorem q1633 : (Jvm.Cond.soleField "CensusOfficeModel" "most") ∈ lw_all := lw_g (lw_at lw_m7 87 rfl) rfl
theorem q1634 : (Jvm.Cond.laysFinal "CensusOfficeModel" "CensusOfficeModel" "cost" "[I") ∈ lw_all := lw_g (lw_at lw_m7 88 rfl) rfl
theorem q1635 : (Jvm.Cond.soleField "CensusOfficeModel" "cost") ∈ lw_all := lw_g (lw_at lw_m7 89 rfl) rfl
theorem q1636 : (Jvm.Cond.laysFinal "CensusOfficeModel" "CensusOfficeModel" "exprFrom" "[I") ∈ lw_all := lw_g (lw_at lw_m7 90 rfl) rfl
theorem q1637 : (Jvm.Cond.soleField "CensusOfficeModel" "exprFrom") ∈ lw_all := lw_g (lw_at lw_m7 91 rfl) rfl
theorem q1638 : (Jvm.Cond.laysFinal "CensusOfficeModel" "CensusOfficeModel" "exprTo" "[I") ∈ lw_all := lw_g (lw_at lw_m7 92 rfl) rfl
theorem q1639 : (Jvm.Cond.soleField "CensusOfficeModel" "exprTo") ∈ lw_all := lw_g (lw_at lw_m7 93 rfl) rfl
theorem q1640 : (Jvm.Cond.laysFinal "CensusOfficeModel" "CensusOfficeModel" "condFrom" "[I") ∈ lw_all := lw_g (lw_at lw_m7 94 rfl) rfl
theorem q1641 : (Jvm.Cond.soleField "CensusOfficeModel" "condFrom") ∈ lw_all := lw_g (lw_at lw_m7 95 rfl) rfl
theorem q1642 : (Jvm.Cond.laysFinal "CensusOfficeModel" "CensusOfficeModel" "condTo" "[I") ∈ lw_all := lw_g (lw_at lw_m7 96 rfl) rfl
theorem q1643 : (Jvm.Cond.soleField "CensusOfficeModel" "condTo") ∈ lw_all := lw_g (lw_at lw_m7 97 rfl) rfl
theorem q1644 : (Jvm.Cond.laysFinal "CensusOfficeModel" "CensusOfficeModel" "thing" "[I") ∈ lw_all := lw_g (lw_at lw_m7 98 rfl) rfl
theorem q1645 : (Jvm.Cond.soleField "CensusOfficeModel" "thing") ∈ lw_all := lw_g (lw_at lw_m7 99 rfl) rfl
theorem q1646 : (Jvm.Cond.laysFinal "CensusOfficeModel" "CensusOfficeModel" "what" "[I") ∈ lw_all := lw_g (lw_at lw_m7 100 rfl) rfl
theorem q1647 : (Jvm.Cond.soleField "CensusOfficeModel" "what") ∈ lw_all := lw_g (lw_at lw_m7 101 rfl) rfl
theorem q1648 : (Jvm.Cond.lays "CensusOfficeModel" "CensusOfficeModel" "things" "I") ∈ lw_all := lw_g (lw_at lw_m7 102 rfl) rfl
theorem q1649 : (Jvm.Cond.soleField "CensusOfficeModel" "things") ∈ lw_all := lw_g (lw_at lw_m7 103 rfl) rfl
theorem q1650 : (Jvm.Cond.lays "CensusOfficeModel" "CensusOfficeModel" "at" "I") ∈ lw_all := lw_g (lw_at lw_m7 104 rfl) rfl
theorem q1651 : (Jvm.Cond.soleField "CensusOfficeModel" "at") ∈ lw_all := lw_g (lw_at lw_m7 105 rfl) rfl
theorem q1652 : (Jvm.Cond.lays "CensusOfficeModel" "CensusOfficeModel" "kind" "I") ∈ lw_all := lw_g (lw_at lw_m7 106 rfl) rfl
theorem q1653 : (Jvm.Cond.soleField "CensusOfficeModel" "kind") ∈ lw_all := lw_g (lw_at lw_m7 107 rfl) rfl
theorem q1654 : (Jvm.Cond.lays "CensusOfficeModel" "CensusOfficeModel" "place" "I") ∈ lw_all := lw_g (lw_at lw_m7 108 rfl) rfl
theorem q1655 : (Jvm.Cond.soleField "CensusOfficeModel" "place") ∈ lw_all := lw_g (lw_at lw_m7 109 rfl) rfl
theorem q1656 : (Jvm.Cond.lays "CensusOfficeModel" "CensusOfficeModel" "word" "J") ∈ lw_all := lw_g (lw_at lw_m7 110 rfl) rfl
theorem q1657 : (Jvm.Cond.soleField "CensusOfficeModel" "word") ∈ lw_all := lw_g (lw_at lw_m7 111 rfl) rfl
theorem q1658 : (Jvm.Cond.lays "CensusOfficeModel" "CensusOfficeModel" "number" "I") ∈ lw_all := lw_g (lw_at lw_m7 112 rfl) rfl
theorem q1659 : (Jvm.Cond.soleField "CensusOfficeModel" "number") ∈ lw_all := lw_g (lw_at lw_m7 113 rfl) rfl
theorem q1660 : (Jvm.Cond.lays "CensusOfficeModel" "CensusOfficeModel" "bound" "I") ∈ lw_all := lw_g (lw_at lw_m7 114 rfl) rfl
theorem q1661 : (Jvm.Cond.soleField "CensusOfficeModel" "bound") ∈ lw_all := lw_g (lw_at lw_m7 115 rfl) rfl
theorem q1662 : (Jvm.Cond.laysFinal "CensusOfficeModel" "CensusOfficeModel" "item" "[I") ∈ lw_all := lw_g (lw_at lw_m7 116 rfl) rfl
theorem q1663 : (Jvm.Cond.soleField "CensusOfficeModel" "item") ∈ lw_all := lw_g (lw_at lw_m7 117 rfl) rfl
theorem q1664 : (Jvm.Cond.laysFinal "CensusOfficeModel" "CensusOfficeModel" "field" "[I") ∈ lw_all := lw_g (lw_at lw_m7 118 rfl) rfl
theorem q1665 : (Jvm.Cond.soleField "CensusOfficeModel" "field") ∈ lw_all := lw_g (lw_at lw_m7 119 rfl) rfl
theorem q1666 : (Jvm.Cond.lays "CensusOfficeModel" "CensusOfficeModel" "pos" "I") ∈ lw_all := lw_g (lw_at lw_m7 120 rfl) rfl
theorem q1667 : (Jvm.Cond.soleField "CensusOfficeModel" "pos") ∈ lw_all := lw_g (lw_at lw_m7 121 rfl) rfl
theorem q1668 : (Jvm.Cond.lays "CensusOfficeModel" "CensusOfficeModel" "missing" "Z") ∈ lw_all := lw_g (lw_at lw_m7 122 rfl) rfl
theorem q1669 : (Jvm.Cond.soleField "CensusOfficeModel" "missing") ∈ lw_all := lw_g (lw_at lw_m7 123 rfl) rfl
theorem q1670 : (Jvm.Cond.lays "CensusOfficeModel" "CensusOfficeModel" "sessions" "I") ∈ lw_all := lw_g (lw_at lw_m7 124 rfl) rfl
theorem q1671 : (Jvm.Cond.soleField "CensusOfficeModel" "sessions") ∈ lw_all := lw_g (lw_at lw_m7 125 rfl) rfl
theorem q1672 : (Jvm.Cond.laysFinal "CensusOfficeModel" "CensusOfficeModel" "sForm" "[I") ∈ lw_all := lw_g (lw_at lw_m7 126 rfl) rfl
theorem q1673 : (Jvm.Cond.soleField "CensusOfficeModel" "sForm") ∈ lw_all := lw_g (lw_at lw_m7 127 rfl) rfl
theorem q1674 : (Jvm.Cond.laysFinal "CensusOfficeModel" "CensusOfficeModel" "sUnit" "[I") ∈ lw_all := lw_g (lw_at lw_m7 128 rfl) rfl
theorem q1675 : (Jvm.Cond.soleField "CensusOfficeModel" "sUnit") ∈ lw_all := lw_g (lw_at lw_m7 129 rfl) rfl
theorem q1676 : (Jvm.Cond.laysFinal "CensusOfficeModel" "CensusOfficeModel" "sField" "[I") ∈ lw_all := lw_g (lw_at lw_m7 130 rfl) rfl
theorem q1677 : (Jvm.Cond.soleField "CensusOfficeModel" "sField") ∈ lw_all := lw_g (lw_at lw_m7 131 rfl) rfl
theorem q1678 : (Jvm.Cond.laysFinal "CensusOfficeModel" "CensusOfficeModel" "closed" "[Z") ∈ lw_all := lw_g (lw_at lw_m7 132 rfl) rfl
theorem q1679 : (Jvm.Cond.soleField "CensusOfficeModel" "closed") ∈ lw_all := lw_g (lw_at lw_m7 133 rfl) rfl
theorem q1680 : (Jvm.Cond.laysFinal "CensusOfficeModel" "CensusOfficeModel" "given" "[Z") ∈ lw_all := lw_g (lw_at lw_m7 134 rfl) rfl
theorem q1681 : (Jvm.Cond.soleField "CensusOfficeModel" "given") ∈ lw_all := lw_g (lw_at lw_m7 135 rfl) rfl
theorem q1682 : (Jvm.Cond.laysFinal "CensusOfficeModel" "CensusOfficeModel" "givenAs" "[I") ∈ lw_all := lw_g (lw_at lw_m7 136 rfl) rfl
theorem q1683 : (Jvm.Cond.soleField "CensusOfficeModel" "givenAs") ∈ lw_all := lw_g (lw_at lw_m7 137 rfl) rfl
theorem q1684 : (Jvm.Cond.laysFinal "CensusOfficeModel" "CensusOfficeModel" "aside" "[Z") ∈ lw_all := lw_g (lw_at lw_m7 138 rfl) rfl
theorem q1685 : (Jvm.Cond.soleField "CensusOfficeModel" "aside") ∈ lw_all := lw_g (lw_at lw_m7 139 rfl) rfl
theorem q1686 : (Jvm.Cond.laysFinal "CensusOfficeModel" "CensusOfficeModel" "asideAs" "[I") ∈ lw_all := lw_g (lw_at lw_m7 140 rfl) rfl
theorem q1687 : (Jvm.Cond.soleField "CensusOfficeModel" "asideAs") ∈ lw_all := lw_g (lw_at lw_m7 141 rfl) rfl
theorem q1688 : (Jvm.Cond.laysFinal "CensusOfficeModel" "CensusOfficeModel" "noted" "[Z") ∈ lw_all := lw_g (lw_at lw_m7 142 rfl) rfl
theorem q1689 : (Jvm.Cond.soleField "CensusOfficeModel" "noted") ∈ lw_all := lw_g (lw_at lw_m7 143 rfl) rfl
theorem q1690 : (Jvm.Cond.laysFinal "CensusOfficeModel" "CensusOfficeModel" "noteQuestion" "[I") ∈ lw_all := lw_g (lw_at lw_m7 144 rfl) rfl
theorem q1691 : (Jvm.Cond.soleField "CensusOfficeModel" "noteQuestion") ∈ lw_all := lw_g (lw_at lw_m7 145 rfl) rfl
theorem q1692 : (Jvm.Cond.laysFinal "CensusOfficeModel" "CensusOfficeModel" "noteNumber" "[I") ∈ lw_all := lw_g (lw_at lw_m7 146 rfl) rfl
theorem q1693 : (Jvm.Cond.soleField "CensusOfficeModel" "noteNumber") ∈ lw_all := lw_g (lw_at lw_m7 147 rfl) rfl
theorem q1694 : (Jvm.Cond.lays "CensusOfficeModel" "CensusOfficeModel" "end" "I") ∈ lw_all := lw_g (lw_at lw_m7 148 rfl) rfl
theorem q1695 : (Jvm.Cond.soleField "CensusOfficeModel" "end") ∈ lw_all := lw_g (lw_at lw_m7 149 rfl) rfl
theorem q1696 : (Jvm.Cond.lays "CensusOfficeModel" "CensusOfficeModel" "badMust" "I") ∈ lw_all := lw_g (lw_at lw_m7 150 rfl) rfl
theorem q1697 : (Jvm.Cond.soleField "CensusOfficeModel" "badMust") ∈ lw_all := lw_g (lw_at lw_m7 151 rfl) rfl
theorem q1698 : (Jvm.Cond.lays "CensusOfficeModel" "CensusOfficeModel" "badWarn" "I") ∈ lw_all := lw_g (lw_at lw_m7 152 rfl) rfl
theorem q1699 : (Jvm.Cond.soleField "CensusOfficeModel" "badWarn") ∈ lw_all := lw_g (lw_at lw_m7 153 rfl) rfl
theorem q1700 : (Jvm.Cond.lays "CensusOfficeModel" "CensusOfficeModel" "records" "I") ∈ lw_all := lw_g (lw_at lw_m7 154 rfl) rfl
theorem q1701 : (Jvm.Cond.soleField "CensusOfficeModel" "records") ∈ lw_all := lw_g (lw_at lw_m7 155 rfl) rfl
theorem q1702 : (Jvm.Cond.laysFinal "CensusOfficeModel" "CensusOfficeModel" "rSession" "[I") ∈ lw_all := lw_g (lw_at lw_m7 156 rfl) rfl
theorem q1703 : (Jvm.Cond.soleField "CensusOfficeModel" "rSession") ∈ lw_all := lw_g (lw_at lw_m7 157 rfl) rfl
theorem q1704 : (Jvm.Cond.laysFinal "CensusOfficeModel" "CensusOfficeModel" "items" "[I") ∈ lw_all := lw_g (lw_at lw_m7 158 rfl) rfl
theorem q1705 : (Jvm.Cond.soleField "CensusOfficeModel" "items") ∈ lw_all := lw_g (lw_at lw_m7 159 rfl) rfl
theorem q1706 : (Jvm.Cond.laysFinal "CensusOfficeModel" "CensusOfficeModel" "marks" "[I") ∈ lw_all := lw_g (lw_at lw_m7 160 rfl) rfl
theorem q1707 : (Jvm.Cond.soleField "CensusOfficeModel" "marks") ∈ lw_all := lw_g (lw_at lw_m7 161 rfl) rfl
theorem q1708 : (Jvm.Cond.laysFinal "CensusOfficeModel" "CensusOfficeModel" "rules" "[I") ∈ lw_all := lw_g (lw_at lw_m7 162 rfl) rfl
theorem q1709 : (Jvm.Cond.soleField "CensusOfficeModel" "rules") ∈ lw_all := lw_g (lw_at lw_m7 163 rfl) rfl
theorem q1710 : (Jvm.Cond.laysFinal "CensusOfficeModel" "CensusOfficeModel" "ruleA" "[I") ∈ lw_all := lw_g (lw_at lw_m7 164 rfl) rfl
theorem q1711 : (Jvm.Cond.soleField "CensusOfficeModel" "ruleA") ∈ lw_all := lw_g (lw_at lw_m7 165 rfl) rfl
theorem q1712 : (Jvm.Cond.laysFinal "CensusOfficeModel" "CensusOfficeModel" "ruleB" "[I") ∈ lw_all := lw_g (lw_at lw_m7 166 rfl) rfl
theorem q1713 : (Jvm.Cond.soleField "CensusOfficeModel" "ruleB") ∈ lw_all := lw_g (lw_at lw_m7 167 rfl) rfl
theorem q1714 : (Jvm.Cond.laysFinal "CensusOfficeModel" "CensusOfficeModel" "ruleN" "[I") ∈ lw_all := lw_g (lw_at lw_m7 168 rfl) rfl
theorem q1715 : (Jvm.Cond.soleField "CensusOfficeModel" "ruleN") ∈ lw_all := lw_g (lw_at lw_m7 169 rfl) rfl
theorem q1716 : (Jvm.Cond.laysFinal "CensusOfficeModel" "CensusOfficeModel" "tried" "[I") ∈ lw_all := lw_g (lw_at lw_m7 170 rfl) rfl
theorem q1717 : (Jvm.Cond.soleField "CensusOfficeModel" "tried") ∈ lw_all := lw_g (lw_at lw_m7 171 rfl) rfl
theorem q1718 : (Jvm.Cond.lays "CensusOfficeModel" "CensusOfficeModel" "bestSum" "I") ∈ lw_all := lw_g (lw_at lw_m7 172 rfl) rfl
theorem q1719 : (Jvm.Cond.soleField "CensusOfficeModel" "bestSum") ∈ lw_all := lw_g (lw_at lw_m7 173 rfl) rfl
theorem q1720 : (Jvm.Cond.lays "CensusOfficeModel" "CensusOfficeModel" "bestSet" "I") ∈ lw_all := lw_g (lw_at lw_m7 174 rfl) rfl
theorem q1721 : (Jvm.Cond.soleField "CensusOfficeModel" "bestSet") ∈ lw_all := lw_g (lw_at lw_m7 175 rfl) rfl
theorem q1722 : (Jvm.Cond.lays "CensusOfficeModel" "CensusOfficeModel" "samples" "I") ∈ lw_all := lw_g (lw_at lw_m7 176 rfl) rfl
theorem q1723 : (Jvm.Cond.soleField "CensusOfficeModel" "samples") ∈ lw_all := lw_g (lw_at lw_m7 177 rfl) rfl
theorem q1724 : (Jvm.Cond.laysFinal "CensusOfficeModel" "CensusOfficeModel" "got" "[I") ∈ lw_all := lw_g (lw_at lw_m7 178 rfl) rfl
theorem q1725 : (Jvm.Cond.soleField "CensusOfficeModel" "got") ∈ lw_all := lw_g (lw_at lw_m7 179 rfl) rfl
theorem q1726 : (Jvm.Cond.laysFinal "CensusOfficeModel" "CensusOfficeModel" "had" "[I") ∈ lw_all := lw_g (lw_at lw_m7 180 rfl) rfl
theorem q1727 : (Jvm.Cond.soleField "CensusOfficeModel" "had") ∈ lw_all := lw_g (lw_at lw_m7 181 rfl) rfl
theorem q1728 : (Jvm.Cond.laysFinal "CensusOfficeModel" "CensusOfficeModel" "drawn" "[Z") ∈ lw_all := lw_g (lw_at lw_m7 182 rfl) rfl
theorem q1729 : (Jvm.Cond.soleField "CensusOfficeModel" "drawn") ∈ lw_all := lw_g (lw_at lw_m7 183 rfl) rfl
theorem q1730 : (Jvm.Cond.laysFinal "CensusOfficeModel" "CensusOfficeModel" "stratum" "[I") ∈ lw_all := lw_g (lw_at lw_m7 184 rfl) rfl
theorem q1731 : (Jvm.Cond.soleField "CensusOfficeModel" "stratum") ∈ lw_all := lw_g (lw_at lw_m7 185 rfl) rfl
theorem q1732 : (Jvm.Cond.lays "CensusOfficeModel" "CensusOfficeModel" "tables" "I") ∈ lw_all := lw_g (lw_at lw_m7 186 rfl) rfl
theorem q1733 : (Jvm.Cond.soleField "CensusOfficeModel" "tables") ∈ lw_all := lw_g (lw_at lw_m7 187 rfl) rfl
theorem q1734 : (Jvm.Cond.laysFinal "CensusOfficeModel" "CensusOfficeModel" "rows" "[I") ∈ lw_all := lw_g (lw_at lw_m7 188 rfl) rfl
theorem q1735 : (Jvm.Cond.soleField "CensusOfficeModel" "rows") ∈ lw_all := lw_g (lw_at lw_m7 189 rfl) rfl
theorem q1736 : (Jvm.Cond.laysFinal "CensusOfficeModel" "CensusOfficeModel" "columns" "[I") ∈ lw_all := lw_g (lw_at lw_m7 190 rfl) rfl
theorem q1737 : (Jvm.Cond.soleField "CensusOfficeModel" "columns") ∈ lw_all := lw_g (lw_at lw_m7 191 rfl) rfl
theorem q1738 : (Jvm.Cond.laysFinal "CensusOfficeModel" "CensusOfficeModel" "cell" "[I") ∈ lw_all := lw_g (lw_at lw_m7 192 rfl) rfl
theorem q1739 : (Jvm.Cond.soleField "CensusOfficeModel" "cell") ∈ lw_all := lw_g (lw_at lw_m7 193 rfl) rfl
theorem q1740 : (Jvm.Cond.laysFinal "CensusOfficeModel" "CensusOfficeModel" "parts" "[I") ∈ lw_all := lw_g (lw_at lw_m7 194 rfl) rfl
theorem q1741 : (Jvm.Cond.soleField "CensusOfficeModel" "parts") ∈ lw_all := lw_g (lw_at lw_m7 195 rfl) rfl
theorem q1742 : (Jvm.Cond.laysFinal "CensusOfficeModel" "CensusOfficeModel" "greatest" "[I") ∈ lw_all := lw_g (lw_at lw_m7 196 rfl) rfl
theorem q1743 : (Jvm.Cond.soleField "CensusOfficeModel" "greatest") ∈ lw_all := lw_g (lw_at lw_m7 197 rfl) rfl
theorem q1744 : (Jvm.Cond.laysFinal "CensusOfficeModel" "CensusOfficeModel" "rounded" "[I") ∈ lw_all := lw_g (lw_at lw_m7 198 rfl) rfl
theorem q1745 : (Jvm.Cond.soleField "CensusOfficeModel" "rounded") ∈ lw_all := lw_g (lw_at lw_m7 199 rfl) rfl
theorem q1746 : (Jvm.Cond.laysFinal "CensusOfficeModel" "CensusOfficeModel" "isRounded" "[Z") ∈ lw_all := lw_g (lw_at lw_m7 200 rfl) rfl
theorem q1747 : (Jvm.Cond.soleField "CensusOfficeModel" "isRounded") ∈ lw_all := lw_g (lw_at lw_m7 201 rfl) rfl
theorem q1748 : (Jvm.Cond.laysFinal "CensusOfficeModel" "CensusOfficeModel" "secrets" "[I") ∈ lw_all := lw_g (lw_at lw_m7 202 rfl) rfl
theorem q1749 : (Jvm.Cond.soleField "CensusOfficeModel" "secrets") ∈ lw_all := lw_g (lw_at lw_m7 203 rfl) rfl
theorem q1750 : (Jvm.Cond.laysFinal "CensusOfficeModel" "CensusOfficeModel" "firsts" "[I") ∈ lw_all := lw_g (lw_at lw_m7 204 rfl) rfl
theorem q1751 : (Jvm.Cond.soleField "CensusOfficeModel" "firsts") ∈ lw_all := lw_g (lw_at lw_m7 205 rfl) rfl
theorem q1752 : (Jvm.Cond.lays "CensusOfficeModel" "CensusOfficeModel" "base" "I") ∈ lw_all := lw_g (lw_at lw_m7 206 rfl) rfl
theorem q1753 : (Jvm.Cond.soleField "CensusOfficeModel" "base") ∈ lw_all := lw_g (lw_at lw_m7 207 rfl) rfl
theorem q1754 : (Jvm.Cond.lays "CensusOfficeModel" "CensusOfficeModel" "persons" "I") ∈ lw_all := lw_g (lw_at lw_m7 208 rfl) rfl
theorem q1755 : (Jvm.Cond.soleField "CensusOfficeModel" "persons") ∈ lw_all := lw_g (lw_at lw_m7 209 rfl) rfl
theorem q1756 : (Jvm.Cond.laysFinal "CensusOfficeModel" "CensusOfficeModel" "roles" "[I") ∈ lw_all := lw_g (lw_at lw_m7 210 rfl) rfl
theorem q1757 : (Jvm.Cond.soleField "CensusOfficeModel" "roles") ∈ lw_all := lw_g (lw_at lw_m7 211 rfl) rfl
theorem q1758 : (Jvm.Cond.lays "CensusOfficeModel" "CensusOfficeModel" "releases" "I") ∈ lw_all := lw_g (lw_at lw_m7 212 rfl) rfl
theorem q1759 : (Jvm.Cond.soleField "CensusOfficeModel" "releases") ∈ lw_all := lw_g (lw_at lw_m7 213 rfl) rfl
theorem q1760 : (Jvm.Cond.laysFinal "CensusOfficeModel" "CensusOfficeModel" "made" "[I") ∈ lw_all := lw_g (lw_at lw_m7 214 rfl) rfl
theorem q1761 : (Jvm.Cond.soleField "CensusOfficeModel" "made") ∈ lw_all := lw_g (lw_at lw_m7 215 rfl) rfl
theorem q1762 : (Jvm.Cond.laysFinal "CensusOfficeModel" "CensusOfficeModel" "from" "[I") ∈ lw_all := lw_g (lw_at lw_m7 216 rfl) rfl
theorem q1763 : (Jvm.Cond.soleField "CensusOfficeModel" "from") ∈ lw_all := lw_g (lw_at lw_m7 217 rfl) rfl
theorem q1764 : (Jvm.Cond.laysFinal "CensusOfficeModel" "CensusOfficeModel" "relRows" "[I") ∈ lw_all := lw_g (lw_at lw_m7 218 rfl) rfl
theorem q1765 : (Jvm.Cond.soleField "CensusOfficeModel" "relRows") ∈ lw_all := lw_g (lw_at lw_m7 219 rfl) rfl
theorem q1766 : (Jvm.Cond.laysFinal "CensusOfficeModel" "CensusOfficeModel" "relColumns" "[I") ∈ lw_all := lw_g (lw_at lw_m7 220 rfl) rfl
theorem q1767 : (Jvm.Cond.soleField "CensusOfficeModel" "relColumns") ∈ lw_all := lw_g (lw_at lw_m7 221 rfl) rfl
theorem q1768 : (Jvm.Cond.laysFinal "CensusOfficeModel" "CensusOfficeModel" "relSecrets" "[I") ∈ lw_all := lw_g (lw_at lw_m7 222 rfl) rfl
theorem q1769 : (Jvm.Cond.soleField "CensusOfficeModel" "relSecrets") ∈ lw_all := lw_g (lw_at lw_m7 223 rfl) rfl
theorem q1770 : (Jvm.Cond.laysFinal "CensusOfficeModel" "CensusOfficeModel" "relCell" "[I") ∈ lw_all := lw_g (lw_at lw_m7 224 rfl) rfl
theorem q1771 : (Jvm.Cond.soleField "CensusOfficeModel" "relCell") ∈ lw_all := lw_g (lw_at lw_m7 225 rfl) rfl
theorem q1772 : (Jvm.Cond.lays "CensusOfficeModel" "CensusOfficeModel" "looks" "I") ∈ lw_all := lw_g (lw_at lw_m7 226 rfl) rfl
theorem q1773 : (Jvm.Cond.soleField "CensusOfficeModel" "looks") ∈ lw_all := lw_g (lw_at lw_m7 227 rfl) rfl
theorem q1774 : (Jvm.Cond.laysFinal "CensusOfficeModel" "CensusOfficeModel" "lookRow" "[I") ∈ lw_all := lw_g (lw_at lw_m7 228 rfl) rfl
theorem q1775 : (Jvm.Cond.soleField "CensusOfficeModel" "lookRow") ∈ lw_all := lw_g (lw_at lw_m7 229 rfl) rfl
theorem q1776 : (Jvm.Cond.superclass "CensusOfficeModel" "java/lang/Object") ∈ lw_all := lw_g (lw_at lw_m7 230 rfl) rfl
theorem q1778 : (Jvm.Cond.instanceMethod ({ cls := "CensusOfficeModel", name := "thrown", desc := "()I" } : Jvm.MethodName)) ∈ lw_all := lw_g (lw_at lw_m7 232 rfl) rfl
theorem q1779 : (Jvm.Cond.selects "CensusOfficeModel" ({ cls := "CensusOfficeModel", name := "thrown", desc := "()I" } : Jvm.MethodName) ({ cls := "CensusOfficeModel", name := "thrown", desc := "()I" } : Jvm.MethodName)) ∈ lw_all := lw_g (lw_at lw_m7 233 rfl) rfl
theorem q1780 : (Jvm.Cond.code ({ cls := "CensusOfficeModel", name := "thrown", desc := "()I" } : Jvm.MethodName) prog_13_method_2_code (1 : Nat) (Option.some Jvm.ClassFile.FieldType.int)) ∈ lw_all := lw_g (lw_at lw_m7 234 rfl) rfl
theorem q1782 : (Jvm.Cond.instanceMethod ({ cls := "CensusOfficeModel", name := "tick", desc := "(I)I" } : Jvm.MethodName)) ∈ lw_all := lw_g (lw_at lw_m7 236 rfl) rfl
theorem q1783 : (Jvm.Cond.selects "CensusOfficeModel" ({ cls := "CensusOfficeModel", name := "tick", desc := "(I)I" } : Jvm.MethodName) ({ cls := "CensusOfficeModel", name := "tick", desc := "(I)I" } : Jvm.MethodName)) ∈ lw_all := lw_g (lw_at lw_m7 237 rfl) rfl
theorem q1784 : (Jvm.Cond.code ({ cls := "CensusOfficeModel", name := "tick", desc := "(I)I" } : Jvm.MethodName) prog_13_method_6_code (2 : Nat) (Option.some Jvm.ClassFile.FieldType.int)) ∈ lw_all := lw_g (lw_at lw_m7 238 rfl) rfl
theorem q1785 : (Jvm.Cond.constantLong "CensusOfficeModel" (205 : Nat) (1000000 : Int64)) ∈ lw_all := lw_g (lw_at lw_m7 239 rfl) rfl
theorem q1786 : (Jvm.Cond.methodLink "CensusOfficeModel" (207 : Nat) ({ cls := "CensusOfficeModel", name := "isIn", desc := "(JJJ)Z" } : Jvm.MethodName)) ∈ lw_all := lw_g (lw_at lw_m8 0 rfl) rfl
theorem q1787 : (Jvm.Cond.static ({ cls := "CensusOfficeModel", name := "isIn", desc := "(JJJ)Z" } : Jvm.MethodName)) ∈ lw_all := lw_g (lw_at lw_m8 1 rfl) rfl
theorem q1788 : (Jvm.Cond.code ({ cls := "CensusOfficeModel", name := "isIn", desc := "(JJJ)Z" } : Jvm.MethodName) prog_13_method_4_code (6 : Nat) (Option.some Jvm.ClassFile.FieldType.boolean)) ∈ lw_all := lw_g (lw_at lw_m8 2 rfl) rfl
theorem q1789 : (Jvm.Cond.constantLong "CensusOfficeModel" (211 : Nat) (100000000 : Int64)) ∈ lw_all := lw_g (lw_at lw_m8 3 rfl) rfl
theorem q1790 : (Jvm.Cond.methodLink "CensusOfficeModel" (213 : Nat) ({ cls := "CensusOfficeModel", name := "fail", desc := "(I)I" } : Jvm.MethodName)) ∈ lw_all := lw_g (lw_at lw_m8 4 rfl) rfl
theorem q1791 : (Jvm.Cond.privateMethod ({ cls := "CensusOfficeModel", name := "fail", desc := "(I)I" } : Jvm.MethodName)) ∈ lw_tbl := lw_at lw_m8 5 rfl
theorem q1792 : (Jvm.Cond.instanceMethod ({ cls := "CensusOfficeModel", name := "fail", desc := "(I)I" } : Jvm.MethodName)) ∈ lw_all := lw_g (lw_at lw_m8 6 rfl) rfl
theorem q1793 : (Jvm.Cond.code ({ cls := "CensusOfficeModel", name := "fail", desc := "(I)I" } : Jvm.MethodName) prog_13_method_3_code (2 : Nat) (Option.some Jvm.ClassFile.FieldType.int)) ∈ lw_all := lw_g (lw_at lw_m8 7 rfl) rfl
theorem q1795 : (Jvm.Cond.instanceMethod ({ cls := "CensusOfficeModel", name := "unit", desc := "()I" } : Jvm.MethodName)) ∈ lw_all := lw_g (lw_at lw_m8 9 rfl) rfl
theorem q1796 : (Jvm.Cond.selects "CensusOfficeModel" ({ cls := "CensusOfficeModel", name := "unit", desc := "()I" } : Jvm.MethodName) ({ cls := "CensusOfficeModel", name := "unit", desc := "()I" } : Jvm.MethodName)) ∈ lw_all := lw_g (lw_at lw_m8 10 rfl) rfl
theorem q1797 : (Jvm.Cond.code ({ cls := "CensusOfficeModel", name := "unit", desc := "()I" } : Jvm.MethodName) prog_13_method_8_code (1 : Nat) (Option.some Jvm.ClassFile.FieldType.int)) ∈ lw_all := lw_g (lw_at lw_m8 11 rfl) rfl
theorem q1799 : (Jvm.Cond.instanceMethod ({ cls := "CensusOfficeModel", name := "tell", desc := "(IIII)I" } : Jvm.MethodName)) ∈ lw_all := lw_g (lw_at lw_m8 13 rfl) rfl
theorem q1800 : (Jvm.Cond.selects "CensusOfficeModel" ({ cls := "CensusOfficeModel", name := "tell", desc := "(IIII)I" } : Jvm.MethodName) ({ cls := "CensusOfficeModel", name := "tell", desc := "(IIII)I" } : Jvm.MethodName)) ∈ lw_all := lw_g (lw_at lw_m8 14 rfl) rfl
theorem q1801 : (Jvm.Cond.code ({ cls := "CensusOfficeModel", name := "tell", desc := "(IIII)I" } : Jvm.MethodName) prog_13_method_9_code (5 : Nat) (Option.some Jvm.ClassFile.FieldType.int)) ∈ lw_all := lw_g (lw_at lw_m8 15 rfl) rfl
theorem q1802 : (Jvm.Cond.methodLink "CensusOfficeModel" (220 : Nat) ({ cls := "CensusOfficeModel", name := "isUnit", desc := "(I)Z" } : Jvm.MethodName)) ∈ lw_all := lw_g (lw_at lw_m8 16 rfl) rfl
theorem q1803 : (Jvm.Cond.privateMethod ({ cls := "CensusOfficeModel", name := "isUnit", desc := "(I)Z" } : Jvm.MethodName)) ∈ lw_tbl := lw_at lw_m8 17 rfl
theorem q1804 : (Jvm.Cond.instanceMethod ({ cls := "CensusOfficeModel", name := "isUnit", desc := "(I)Z" } : Jvm.MethodName)) ∈ lw_all := lw_g (lw_at lw_m8 18 rfl) rfl
theorem q1805 : (Jvm.Cond.code ({ cls := "CensusOfficeModel", name := "isUnit", desc := "(I)Z" } : Jvm.MethodName) prog_13_method_7_code (2 : Nat) (Option.some Jvm.ClassFile.FieldType.boolean)) ∈ lw_all := lw_g (lw_at lw_m8 19 rfl) rfl
theorem q1806 : (Jvm.Cond.constantLong "CensusOfficeModel" (224 : Nat) (5 : Int64)) ∈ lw_all := lw_g (lw_at lw_m8 20 rfl) rfl
theorem q1807 : (Jvm.Cond.constantLong "CensusOfficeModel" (226 : Nat) (100000 : Int64)) ∈ lw_all := lw_g (lw_at lw_m8 21 rfl) rfl
theorem q1808 : (Jvm.Cond.constantLong "CensusOfficeModel" (228 : Nat) (-1000000 : Int64)) ∈ lw_all := lw_g (lw_at lw_m8 22 rfl) rfl
theorem q1809 : (Jvm.Cond.methodLink "CensusOfficeModel" (233 : Nat) ({ cls := "CensusOfficeModel", name := "today", desc := "()I" } : Jvm.MethodName)) ∈ lw_all := lw_g (lw_at lw_m8 23 rfl) rfl
theorem q1810 : (Jvm.Cond.privateMethod ({ cls := "CensusOfficeModel", name := "today", desc := "()I" } : Jvm.MethodName)) ∈ lw_tbl := lw_at lw_m8 24 rfl
theorem q1811 : (Jvm.Cond.instanceMethod ({ cls := "CensusOfficeModel", name := "today", desc := "()I" } : Jvm.MethodName)) ∈ lw_all := lw_g (lw_at lw_m8 25 rfl) rfl
theorem q1812 : (Jvm.Cond.code ({ cls := "CensusOfficeModel", name := "today", desc := "()I" } : Jvm.MethodName) prog_13_method_5_code (1 : Nat) (Option.some Jvm.ClassFile.FieldType.int)) ∈ lw_all := lw_g (lw_at lw_m8 26 rfl) rfl
theorem q1814 : (Jvm.Cond.instanceMethod ({ cls := "CensusOfficeModel", name := "merge", desc := "(II)I" } : Jvm.MethodName)) ∈ lw_all := lw_g (lw_at lw_m8 28 rfl) rfl
theorem q1815 : (Jvm.Cond.selects "CensusOfficeModel" ({ cls := "CensusOfficeModel", name := "merge", desc := "(II)I" } : Jvm.MethodName) ({ cls := "CensusOfficeModel", name := "merge", desc := "(II)I" } : Jvm.MethodName)) ∈ lw_all := lw_g (lw_at lw_m8 29 rfl) rfl
theorem q1816 : (Jvm.Cond.code ({ cls := "CensusOfficeModel", name := "merge", desc := "(II)I" } : Jvm.MethodName) prog_13_method_11_code (3 : Nat) (Option.some Jvm.ClassFile.FieldType.int)) ∈ lw_all := lw_g (lw_at lw_m8 30 rfl) rfl
theorem q1817 : (Jvm.Cond.methodLink "CensusOfficeModel" (237 : Nat) ({ cls := "CensusOfficeModel", name := "lastAs", desc := "(II)I" } : Jvm.MethodName)) ∈ lw_all := lw_g (lw_at lw_m8 31 rfl) rfl
theorem q1818 : (Jvm.Cond.privateMethod ({ cls := "CensusOfficeModel", name := "lastAs", desc := "(II)I" } : Jvm.MethodName)) ∈ lw_tbl := lw_at lw_m8 32 rfl
theorem q1819 : (Jvm.Cond.instanceMethod ({ cls := "CensusOfficeModel", name := "lastAs", desc := "(II)I" } : Jvm.MethodName)) ∈ lw_all := lw_g (lw_at lw_m8 33 rfl) rfl
theorem q1820 : (Jvm.Cond.code ({ cls := "CensusOfficeModel", name := "lastAs", desc := "(II)I" } : Jvm.MethodName) prog_13_method_10_code (4 : Nat) (Option.some Jvm.ClassFile.FieldType.int)) ∈ lw_all := lw_g (lw_at lw_m8 34 rfl) rfl
theorem q1822 : (Jvm.Cond.instanceMethod ({ cls := "CensusOfficeModel", name := "value", desc := "(IIII)I" } : Jvm.MethodName)) ∈ lw_all := lw_g (lw_at lw_m8 36 rfl) rfl
theorem q1823 : (Jvm.Cond.selects "CensusOfficeModel" ({ cls := "CensusOfficeModel", name := "value", desc := "(IIII)I" } : Jvm.MethodName) ({ cls := "CensusOfficeModel", name := "value", desc := "(IIII)I" } : Jvm.MethodName)) ∈ lw_all := lw_g (lw_at lw_m8 37 rfl) rfl
theorem q1824 : (Jvm.Cond.code ({ cls := "CensusOfficeModel", name := "value", desc := "(IIII)I" } : Jvm.MethodName) prog_13_method_13_code (5 : Nat) (Option.some Jvm.ClassFile.FieldType.int)) ∈ lw_all := lw_g (lw_at lw_m8 38 rfl) rfl
theorem q1825 : (Jvm.Cond.methodLink "CensusOfficeModel" (245 : Nat) ({ cls := "CensusOfficeModel", name := "valueOf", desc := "(IIII)I" } : Jvm.MethodName)) ∈ lw_all := lw_g (lw_at lw_m8 39 rfl) rfl
theorem q1826 : (Jvm.Cond.privateMethod ({ cls := "CensusOfficeModel", name := "valueOf", desc := "(IIII)I" } : Jvm.MethodName)) ∈ lw_tbl := lw_at lw_m8 40 rfl
theorem q1827 : (Jvm.Cond.instanceMethod ({ cls := "CensusOfficeModel", name := "valueOf", desc := "(IIII)I" } : Jvm.MethodName)) ∈ lw_all := lw_g (lw_at lw_m8 41 rfl) rfl
theorem q1828 : (Jvm.Cond.code ({ cls := "CensusOfficeModel", name := "valueOf", desc := "(IIII)I" } : Jvm.MethodName) prog_13_method_12_code (8 : Nat) (Option.some Jvm.ClassFile.FieldType.int)) ∈ lw_all := lw_g (lw_at lw_m8 42 rfl) rfl
theorem q1829 : (Jvm.Cond.constant "CensusOfficeModel" (244 : Nat) (-2000000 : Int32)) ∈ lw_all := lw_g (lw_at lw_m8 43 rfl) rfl
theorem q1831 : (Jvm.Cond.instanceMethod ({ cls := "CensusOfficeModel", name := "last", desc := "(I)I" } : Jvm.MethodName)) ∈ lw_all := lw_g (lw_at lw_m8 45 rfl) rfl
theorem q1832 : (Jvm.Cond.selects "CensusOfficeModel" ({ cls := "CensusOfficeModel", name := "last", desc := "(I)I" } : Jvm.MethodName) ({ cls := "CensusOfficeModel", name := "last", desc := "(I)I" } : Jvm.MethodName)) ∈ lw_all := lw_g (lw_at lw_m8 46 rfl) rfl
theorem q1833 : (Jvm.Cond.code ({ cls := "CensusOfficeModel", name := "last", desc := "(I)I" } : Jvm.MethodName) prog_13_method_14_code (2 : Nat) (Option.some Jvm.ClassFile.FieldType.int)) ∈ lw_all := lw_g (lw_at lw_m8 47 rfl) rfl
theorem q1835 : (Jvm.Cond.instanceMethod ({ cls := "CensusOfficeModel", name := "feed", desc := "(IIIII)I" } : Jvm.MethodName)) ∈ lw_all := lw_g (lw_at lw_m8 49 rfl) rfl
theorem q1836 : (Jvm.Cond.selects "CensusOfficeModel" ({ cls := "CensusOfficeModel", name := "feed", desc := "(IIIII)I" } : Jvm.MethodName) ({ cls := "CensusOfficeModel", name := "feed", desc := "(IIIII)I" } : Jvm.MethodName)) ∈ lw_all := lw_g (lw_at lw_m8 50 rfl) rfl
theorem q1837 : (Jvm.Cond.code ({ cls := "CensusOfficeModel", name := "feed", desc := "(IIIII)I" } : Jvm.MethodName) prog_13_method_15_code (8 : Nat) (Option.some Jvm.ClassFile.FieldType.int)) ∈ lw_all := lw_g (lw_at lw_m8 51 rfl) rfl
theorem q1839 : (Jvm.Cond.instanceMethod ({ cls := "CensusOfficeModel", name := "trim", desc := "(I)I" } : Jvm.MethodName)) ∈ lw_all := lw_g (lw_at lw_m8 53 rfl) rfl
theorem q1840 : (Jvm.Cond.selects "CensusOfficeModel" ({ cls := "CensusOfficeModel", name := "trim", desc := "(I)I" } : Jvm.MethodName) ({ cls := "CensusOfficeModel", name := "trim", desc := "(I)I" } : Jvm.MethodName)) ∈ lw_all := lw_g (lw_at lw_m8 54 rfl) rfl
theorem q1841 : (Jvm.Cond.code ({ cls := "CensusOfficeModel", name := "trim", desc := "(I)I" } : Jvm.MethodName) prog_13_method_16_code (3 : Nat) (Option.some Jvm.ClassFile.FieldType.int)) ∈ lw_all := lw_g (lw_at lw_m8 55 rfl) rfl
theorem q1843 : (Jvm.Cond.instanceMethod ({ cls := "CensusOfficeModel", name := "form", desc := "()I" } : Jvm.MethodName)) ∈ lw_all := lw_g (lw_at lw_m8 57 rfl) rfl
theorem q1844 : (Jvm.Cond.selects "CensusOfficeModel" ({ cls := "CensusOfficeModel", name := "form", desc := "()I" } : Jvm.MethodName) ({ cls := "CensusOfficeModel", name := "form", desc := "()I" } : Jvm.MethodName)) ∈ lw_all := lw_g (lw_at lw_m8 58 rfl) rfl
theorem q1845 : (Jvm.Cond.code ({ cls := "CensusOfficeModel", name := "form", desc := "()I" } : Jvm.MethodName) prog_13_method_31_code (3 : Nat) (Option.some Jvm.ClassFile.FieldType.int)) ∈ lw_all := lw_g (lw_at lw_m8 59 rfl) rfl
theorem q1846 : (Jvm.Cond.methodLink "CensusOfficeModel" (310 : Nat) ({ cls := "CensusOfficeModel", name := "next", desc := "()V" } : Jvm.MethodName)) ∈ lw_all := lw_g (lw_at lw_m8 60 rfl) rfl
theorem q1847 : (Jvm.Cond.privateMethod ({ cls := "CensusOfficeModel", name := "next", desc := "()V" } : Jvm.MethodName)) ∈ lw_tbl := lw_at lw_m8 61 rfl
theorem q1848 : (Jvm.Cond.instanceMethod ({ cls := "CensusOfficeModel", name := "next", desc := "()V" } : Jvm.MethodName)) ∈ lw_all := lw_g (lw_at lw_m8 62 rfl) rfl
theorem q1849 : (Jvm.Cond.code ({ cls := "CensusOfficeModel", name := "next", desc := "()V" } : Jvm.MethodName) prog_13_method_19_code (2 : Nat) (Option.none : Option Jvm.ClassFile.FieldType)) ∈ lw_all := lw_g (lw_at lw_m8 63 rfl) rfl
theorem q1850 : (Jvm.Cond.methodLink "CensusOfficeModel" (258 : Nat) ({ cls := "CensusOfficeModel", name := "byteAt", desc := "(I)I" } : Jvm.MethodName)) ∈ lw_all := lw_g (lw_at lw_m8 64 rfl) rfl
theorem q1851 : (Jvm.Cond.privateMethod ({ cls := "CensusOfficeModel", name := "byteAt", desc := "(I)I" } : Jvm.MethodName)) ∈ lw_tbl := lw_at lw_m8 65 rfl
theorem q1852 : (Jvm.Cond.instanceMethod ({ cls := "CensusOfficeModel", name := "byteAt", desc := "(I)I" } : Jvm.MethodName)) ∈ lw_all := lw_g (lw_at lw_m8 66 rfl) rfl
theorem q1853 : (Jvm.Cond.code ({ cls := "CensusOfficeModel", name := "byteAt", desc := "(I)I" } : Jvm.MethodName) prog_13_method_18_code (2 : Nat) (Option.some Jvm.ClassFile.FieldType.int)) ∈ lw_all := lw_g (lw_at lw_m8 67 rfl) rfl
theorem q1854 : (Jvm.Cond.constantLong "CensusOfficeModel" (264 : Nat) (97 : Int64)) ∈ lw_all := lw_g (lw_at lw_m8 68 rfl) rfl
theorem q1855 : (Jvm.Cond.constantLong "CensusOfficeModel" (266 : Nat) (122 : Int64)) ∈ lw_all := lw_g (lw_at lw_m8 69 rfl) rfl
theorem q1856 : (Jvm.Cond.methodLink "CensusOfficeModel" (272 : Nat) ({ cls := "CensusOfficeModel", name := "letters", desc := "(JI)J" } : Jvm.MethodName)) ∈ lw_all := lw_g (lw_at lw_m8 70 rfl) rfl
theorem q1857 : (Jvm.Cond.static ({ cls := "CensusOfficeModel", name := "letters", desc := "(JI)J" } : Jvm.MethodName)) ∈ lw_all := lw_g (lw_at lw_m8 71 rfl) rfl
theorem q1858 : (Jvm.Cond.code ({ cls := "CensusOfficeModel", name := "letters", desc := "(JI)J" } : Jvm.MethodName) prog_13_method_17_code (3 : Nat) (Option.some Jvm.ClassFile.FieldType.long)) ∈ lw_all := lw_g (lw_at lw_m8 72 rfl) rfl
theorem q1859 : (Jvm.Cond.constantLong "CensusOfficeModel" (276 : Nat) (48 : Int64)) ∈ lw_all := lw_g (lw_at lw_m8 73 rfl) rfl
theorem q1860 : (Jvm.Cond.constantLong "CensusOfficeModel" (278 : Nat) (57 : Int64)) ∈ lw_all := lw_g (lw_at lw_m8 74 rfl) rfl
theorem q1861 : (Jvm.Cond.methodLink "CensusOfficeModel" (283 : Nat) ({ cls := "CensusOfficeModel", name := "nextSign", desc := "(I)V" } : Jvm.MethodName)) ∈ lw_all := lw_g (lw_at lw_m8 75 rfl) rfl
theorem q1862 : (Jvm.Cond.privateMethod ({ cls := "CensusOfficeModel", name := "nextSign", desc := "(I)V" } : Jvm.MethodName)) ∈ lw_tbl := lw_at lw_m8 76 rfl
theorem q1863 : (Jvm.Cond.instanceMethod ({ cls := "CensusOfficeModel", name := "nextSign", desc := "(I)V" } : Jvm.MethodName)) ∈ lw_all := lw_g (lw_at lw_m8 77 rfl) rfl
theorem q1864 : (Jvm.Cond.code ({ cls := "CensusOfficeModel", name := "nextSign", desc := "(I)V" } : Jvm.MethodName) prog_13_method_20_code (4 : Nat) (Option.none : Option Jvm.ClassFile.FieldType)) ∈ lw_all := lw_g (lw_at lw_m8 78 rfl) rfl
theorem q1865 : (Jvm.Cond.methodLink "CensusOfficeModel" (346 : Nat) ({ cls := "CensusOfficeModel", name := "isStatement", desc := "()Z" } : Jvm.MethodName)) ∈ lw_all := lw_g (lw_at lw_m8 79 rfl) rfl
theorem q1866 : (Jvm.Cond.privateMethod ({ cls := "CensusOfficeModel", name := "isStatement", desc := "()Z" } : Jvm.MethodName)) ∈ lw_tbl := lw_at lw_m8 80 rfl
theorem q1867 : (Jvm.Cond.instanceMethod ({ cls := "CensusOfficeModel", name := "isStatement", desc := "()Z" } : Jvm.MethodName)) ∈ lw_all := lw_g (lw_at lw_m8 81 rfl) rfl
theorem q1868 : (Jvm.Cond.code ({ cls := "CensusOfficeModel", name := "isStatement", desc := "()Z" } : Jvm.MethodName) prog_13_method_29_code (5 : Nat) (Option.some Jvm.ClassFile.FieldType.boolean)) ∈ lw_all := lw_g (lw_at lw_m8 82 rfl) rfl
theorem q1869 : (Jvm.Cond.constantLong "CensusOfficeModel" (287 : Nat) (6386539 : Int64)) ∈ lw_all := lw_g (lw_at lw_m8 83 rfl) rfl
theorem q1870 : (Jvm.Cond.constantLong "CensusOfficeModel" (289 : Nat) (7103860 : Int64)) ∈ lw_all := lw_g (lw_at lw_m8 84 rfl) rfl
theorem q1871 : (Jvm.Cond.constantLong "CensusOfficeModel" (291 : Nat) (1836413812 : Int64)) ∈ lw_all := lw_g (lw_at lw_m8 85 rfl) rfl
theorem q1872 : (Jvm.Cond.constantLong "CensusOfficeModel" (293 : Nat) (2002874990 : Int64)) ∈ lw_all := lw_g (lw_at lw_m8 86 rfl) rfl
theorem q1873 : (Jvm.Cond.methodLink "CensusOfficeModel" (317 : Nat) ({ cls := "CensusOfficeModel", name := "isKept", desc := "(J)Z" } : Jvm.MethodName)) ∈ lw_all := lw_g (lw_at lw_m8 87 rfl) rfl
theorem q1874 : (Jvm.Cond.static ({ cls := "CensusOfficeModel", name := "isKept", desc := "(J)Z" } : Jvm.MethodName)) ∈ lw_all := lw_g (lw_at lw_m8 88 rfl) rfl
theorem q1875 : (Jvm.Cond.code ({ cls := "CensusOfficeModel", name := "isKept", desc := "(J)Z" } : Jvm.MethodName) prog_13_method_21_code (2 : Nat) (Option.some Jvm.ClassFile.FieldType.boolean)) ∈ lw_all := lw_g (lw_at lw_m8 89 rfl) rfl
theorem q1876 : (Jvm.Cond.constantLong "CensusOfficeModel" (295 : Nat) (26982 : Int64)) ∈ lw_all := lw_g (lw_at lw_m8 90 rfl) rfl
theorem q1877 : (Jvm.Cond.constantLong "CensusOfficeModel" (297 : Nat) (6385252 : Int64)) ∈ lw_all := lw_g (lw_at lw_m8 91 rfl) rfl
theorem q1878 : (Jvm.Cond.constantLong "CensusOfficeModel" (299 : Nat) (28530 : Int64)) ∈ lw_all := lw_g (lw_at lw_m8 92 rfl) rfl
theorem q1879 : (Jvm.Cond.constantLong "CensusOfficeModel" (301 : Nat) (7497063 : Int64)) ∈ lw_all := lw_g (lw_at lw_m8 93 rfl) rfl
theorem q1880 : (Jvm.Cond.methodLink "CensusOfficeModel" (323 : Nat) ({ cls := "CensusOfficeModel", name := "nameOf", desc := "(IJ)I" } : Jvm.MethodName)) ∈ lw_all := lw_g (lw_at lw_m8 94 rfl) rfl
theorem q1881 : (Jvm.Cond.privateMethod ({ cls := "CensusOfficeModel", name := "nameOf", desc := "(IJ)I" } : Jvm.MethodName)) ∈ lw_tbl := lw_at lw_m8 95 rfl
theorem q1882 : (Jvm.Cond.instanceMethod ({ cls := "CensusOfficeModel", name := "nameOf", desc := "(IJ)I" } : Jvm.MethodName)) ∈ lw_all := lw_g (lw_at lw_m8 96 rfl) rfl
theorem q1883 : (Jvm.Cond.code ({ cls := "CensusOfficeModel", name := "nameOf", desc := "(IJ)I" } : Jvm.MethodName) prog_13_method_24_code (5 : Nat) (Option.some Jvm.ClassFile.FieldType.int)) ∈ lw_all := lw_g (lw_at lw_m8 97 rfl) rfl
theorem q1884 : (Jvm.Cond.methodLink "CensusOfficeModel" (337 : Nat) ({ cls := "CensusOfficeModel", name := "isBounds", desc := "(I)Z" } : Jvm.MethodName)) ∈ lw_all := lw_g (lw_at lw_m8 98 rfl) rfl
theorem q1885 : (Jvm.Cond.privateMethod ({ cls := "CensusOfficeModel", name := "isBounds", desc := "(I)Z" } : Jvm.MethodName)) ∈ lw_tbl := lw_at lw_m8 99 rfl
theorem q1886 : (Jvm.Cond.instanceMethod ({ cls := "CensusOfficeModel", name := "isBounds", desc := "(I)Z" } : Jvm.MethodName)) ∈ lw_all := lw_g (lw_at lw_m8 100 rfl) rfl
theorem q1887 : (Jvm.Cond.code ({ cls := "CensusOfficeModel", name := "isBounds", desc := "(I)Z" } : Jvm.MethodName) prog_13_method_30_code (3 : Nat) (Option.some Jvm.ClassFile.FieldType.boolean)) ∈ lw_all := lw_g (lw_at lw_m8 101 rfl) rfl
theorem q1888 : (Jvm.Cond.methodLink "CensusOfficeModel" (343 : Nat) ({ cls := "CensusOfficeModel", name := "isBound", desc := "()Z" } : Jvm.MethodName)) ∈ lw_all := lw_g (lw_at lw_m8 102 rfl) rfl
theorem q1889 : (Jvm.Cond.privateMethod ({ cls := "CensusOfficeModel", name := "isBound", desc := "()Z" } : Jvm.MethodName)) ∈ lw_tbl := lw_at lw_m8 103 rfl
theorem q1890 : (Jvm.Cond.instanceMethod ({ cls := "CensusOfficeModel", name := "isBound", desc := "()Z" } : Jvm.MethodName)) ∈ lw_all := lw_g (lw_at lw_m8 104 rfl) rfl
theorem q1891 : (Jvm.Cond.code ({ cls := "CensusOfficeModel", name := "isBound", desc := "()Z" } : Jvm.MethodName) prog_13_method_28_code (2 : Nat) (Option.some Jvm.ClassFile.FieldType.boolean)) ∈ lw_all := lw_g (lw_at lw_m8 105 rfl) rfl
theorem q1892 : (Jvm.Cond.methodLink "CensusOfficeModel" (331 : Nat) ({ cls := "CensusOfficeModel", name := "expr", desc := "()Z" } : Jvm.MethodName)) ∈ lw_all := lw_g (lw_at lw_m8 106 rfl) rfl
theorem q1893 : (Jvm.Cond.privateMethod ({ cls := "CensusOfficeModel", name := "expr", desc := "()Z" } : Jvm.MethodName)) ∈ lw_tbl := lw_at lw_m8 107 rfl
theorem q1894 : (Jvm.Cond.instanceMethod ({ cls := "CensusOfficeModel", name := "expr", desc := "()Z" } : Jvm.MethodName)) ∈ lw_all := lw_g (lw_at lw_m8 108 rfl) rfl
theorem q1895 : (Jvm.Cond.code ({ cls := "CensusOfficeModel", name := "expr", desc := "()Z" } : Jvm.MethodName) prog_13_method_26_code (1 : Nat) (Option.some Jvm.ClassFile.FieldType.boolean)) ∈ lw_all := lw_g (lw_at lw_m8 109 rfl) rfl
theorem q1896 : (Jvm.Cond.methodLink "CensusOfficeModel" (327 : Nat) ({ cls := "CensusOfficeModel", name := "term", desc := "()Z" } : Jvm.MethodName)) ∈ lw_all := lw_g (lw_at lw_m8 110 rfl) rfl
theorem q1897 : (Jvm.Cond.privateMethod ({ cls := "CensusOfficeModel", name := "term", desc := "()Z" } : Jvm.MethodName)) ∈ lw_tbl := lw_at lw_m8 111 rfl
theorem q1898 : (Jvm.Cond.instanceMethod ({ cls := "CensusOfficeModel", name := "term", desc := "()Z" } : Jvm.MethodName)) ∈ lw_all := lw_g (lw_at lw_m8 112 rfl) rfl
theorem q1899 : (Jvm.Cond.code ({ cls := "CensusOfficeModel", name := "term", desc := "()Z" } : Jvm.MethodName) prog_13_method_25_code (1 : Nat) (Option.some Jvm.ClassFile.FieldType.boolean)) ∈ lw_all := lw_g (lw_at lw_m8 113 rfl) rfl
theorem q1900 : (Jvm.Cond.methodLink "CensusOfficeModel" (306 : Nat) ({ cls := "CensusOfficeModel", name := "lay", desc := "(II)V" } : Jvm.MethodName)) ∈ lw_all := lw_g (lw_at lw_m8 114 rfl) rfl
theorem q1901 : (Jvm.Cond.privateMethod ({ cls := "CensusOfficeModel", name := "lay", desc := "(II)V" } : Jvm.MethodName)) ∈ lw_tbl := lw_at lw_m8 115 rfl
theorem q1902 : (Jvm.Cond.instanceMethod ({ cls := "CensusOfficeModel", name := "lay", desc := "(II)V" } : Jvm.MethodName)) ∈ lw_all := lw_g (lw_at lw_m8 116 rfl) rfl
theorem q1903 : (Jvm.Cond.code ({ cls := "CensusOfficeModel", name := "lay", desc := "(II)V" } : Jvm.MethodName) prog_13_method_23_code (3 : Nat) (Option.none : Option Jvm.ClassFile.FieldType)) ∈ lw_all := lw_g (lw_at lw_m8 117 rfl) rfl
theorem q1904 : (Jvm.Cond.methodLink "CensusOfficeModel" (313 : Nat) ({ cls := "CensusOfficeModel", name := "isWord", desc := "(J)Z" } : Jvm.MethodName)) ∈ lw_all := lw_g (lw_at lw_m8 118 rfl) rfl
theorem q1905 : (Jvm.Cond.privateMethod ({ cls := "CensusOfficeModel", name := "isWord", desc := "(J)Z" } : Jvm.MethodName)) ∈ lw_tbl := lw_at lw_m8 119 rfl
theorem q1906 : (Jvm.Cond.instanceMethod ({ cls := "CensusOfficeModel", name := "isWord", desc := "(J)Z" } : Jvm.MethodName)) ∈ lw_all := lw_g (lw_at lw_m8 120 rfl) rfl
theorem q1907 : (Jvm.Cond.code ({ cls := "CensusOfficeModel", name := "isWord", desc := "(J)Z" } : Jvm.MethodName) prog_13_method_22_code (3 : Nat) (Option.some Jvm.ClassFile.FieldType.boolean)) ∈ lw_all := lw_g (lw_at lw_m8 121 rfl) rfl
theorem q1908 : (Jvm.Cond.methodLink "CensusOfficeModel" (340 : Nat) ({ cls := "CensusOfficeModel", name := "cond", desc := "()Z" } : Jvm.MethodName)) ∈ lw_all := lw_g (lw_at lw_m8 122 rfl) rfl
theorem q1909 : (Jvm.Cond.privateMethod ({ cls := "CensusOfficeModel", name := "cond", desc := "()Z" } : Jvm.MethodName)) ∈ lw_tbl := lw_at lw_m8 123 rfl
theorem q1910 : (Jvm.Cond.instanceMethod ({ cls := "CensusOfficeModel", name := "cond", desc := "()Z" } : Jvm.MethodName)) ∈ lw_all := lw_g (lw_at lw_m8 124 rfl) rfl
theorem q1911 : (Jvm.Cond.code ({ cls := "CensusOfficeModel", name := "cond", desc := "()Z" } : Jvm.MethodName) prog_13_method_27_code (2 : Nat) (Option.some Jvm.ClassFile.FieldType.boolean)) ∈ lw_all := lw_g (lw_at lw_m8 125 rfl) rfl
theorem q1913 : (Jvm.Cond.instanceMethod ({ cls := "CensusOfficeModel", name := "statement", desc := "(III)I" } : Jvm.MethodName)) ∈ lw_all := lw_g (lw_at lw_m8 127 rfl) rfl
theorem q1914 : (Jvm.Cond.selects "CensusOfficeModel" ({ cls := "CensusOfficeModel", name := "statement", desc := "(III)I" } : Jvm.MethodName) ({ cls := "CensusOfficeModel", name := "statement", desc := "(III)I" } : Jvm.MethodName)) ∈ lw_all := lw_g (lw_at lw_m8 128 rfl) rfl
theorem q1915 : (Jvm.Cond.code ({ cls := "CensusOfficeModel", name := "statement", desc := "(III)I" } : Jvm.MethodName) prog_13_method_34_code (5 : Nat) (Option.some Jvm.ClassFile.FieldType.int)) ∈ lw_all := lw_g (lw_at lw_m8 129 rfl) rfl
theorem q1916 : (Jvm.Cond.methodLink "CensusOfficeModel" (352 : Nat) ({ cls := "CensusOfficeModel", name := "isStatementOf", desc := "(II)Z" } : Jvm.MethodName)) ∈ lw_all := lw_g (lw_at lw_m8 130 rfl) rfl
theorem q1917 : (Jvm.Cond.privateMethod ({ cls := "CensusOfficeModel", name := "isStatementOf", desc := "(II)Z" } : Jvm.MethodName)) ∈ lw_tbl := lw_at lw_m8 131 rfl
theorem q1918 : (Jvm.Cond.instanceMethod ({ cls := "CensusOfficeModel", name := "isStatementOf", desc := "(II)Z" } : Jvm.MethodName)) ∈ lw_all := lw_g (lw_at lw_m8 132 rfl) rfl
theorem q1919 : (Jvm.Cond.code ({ cls := "CensusOfficeModel", name := "isStatementOf", desc := "(II)Z" } : Jvm.MethodName) prog_13_method_33_code (3 : Nat) (Option.some Jvm.ClassFile.FieldType.boolean)) ∈ lw_all := lw_g (lw_at lw_m8 133 rfl) rfl
theorem q1920 : (Jvm.Cond.methodLink "CensusOfficeModel" (349 : Nat) ({ cls := "CensusOfficeModel", name := "isForm", desc := "(I)Z" } : Jvm.MethodName)) ∈ lw_all := lw_g (lw_at lw_m8 134 rfl) rfl
theorem q1921 : (Jvm.Cond.privateMethod ({ cls := "CensusOfficeModel", name := "isForm", desc := "(I)Z" } : Jvm.MethodName)) ∈ lw_tbl := lw_at lw_m8 135 rfl
theorem q1922 : (Jvm.Cond.instanceMethod ({ cls := "CensusOfficeModel", name := "isForm", desc := "(I)Z" } : Jvm.MethodName)) ∈ lw_all := lw_g (lw_at lw_m8 136 rfl) rfl
theorem q1923 : (Jvm.Cond.code ({ cls := "CensusOfficeModel", name := "isForm", desc := "(I)Z" } : Jvm.MethodName) prog_13_method_32_code (2 : Nat) (Option.some Jvm.ClassFile.FieldType.boolean)) ∈ lw_all := lw_g (lw_at lw_m8 137 rfl) rfl
theorem q1924 : (Jvm.Cond.constantLong "CensusOfficeModel" (356 : Nat) (3 : Int64)) ∈ lw_all := lw_g (lw_at lw_m8 138 rfl) rfl
theorem q1926 : (Jvm.Cond.instanceMethod ({ cls := "CensusOfficeModel", name := "open", desc := "(II)I" } : Jvm.MethodName)) ∈ lw_all := lw_g (lw_at lw_m8 140 rfl) rfl
theorem q1927 : (Jvm.Cond.selects "CensusOfficeModel" ({ cls := "CensusOfficeModel", name := "open", desc := "(II)I" } : Jvm.MethodName) ({ cls := "CensusOfficeModel", name := "open", desc := "(II)I" } : Jvm.MethodName)) ∈ lw_all := lw_g (lw_at lw_m8 141 rfl) rfl
theorem q1928 : (Jvm.Cond.code ({ cls := "CensusOfficeModel", name := "open", desc := "(II)I" } : Jvm.MethodName) prog_13_method_38_code (4 : Nat) (Option.some Jvm.ClassFile.FieldType.int)) ∈ lw_all := lw_g (lw_at lw_m8 142 rfl) rfl
theorem q1930 : (Jvm.Cond.instanceMethod ({ cls := "CensusOfficeModel", name := "question", desc := "(I)I" } : Jvm.MethodName)) ∈ lw_all := lw_g (lw_at lw_m8 144 rfl) rfl
theorem q1931 : (Jvm.Cond.selects "CensusOfficeModel" ({ cls := "CensusOfficeModel", name := "question", desc := "(I)I" } : Jvm.MethodName) ({ cls := "CensusOfficeModel", name := "question", desc := "(I)I" } : Jvm.MethodName)) ∈ lw_all := lw_g (lw_at lw_m8 145 rfl) rfl
theorem q1932 : (Jvm.Cond.code ({ cls := "CensusOfficeModel", name := "question", desc := "(I)I" } : Jvm.MethodName) prog_13_method_41_code (2 : Nat) (Option.some Jvm.ClassFile.FieldType.int)) ∈ lw_all := lw_g (lw_at lw_m8 146 rfl) rfl
theorem q1933 : (Jvm.Cond.methodLink "CensusOfficeModel" (386 : Nat) ({ cls := "CensusOfficeModel", name := "isSession", desc := "(I)Z" } : Jvm.MethodName)) ∈ lw_all := lw_g (lw_at lw_m8 147 rfl) rfl
theorem q1934 : (Jvm.Cond.privateMethod ({ cls := "CensusOfficeModel", name := "isSession", desc := "(I)Z" } : Jvm.MethodName)) ∈ lw_tbl := lw_at lw_m8 148 rfl
theorem q1935 : (Jvm.Cond.instanceMethod ({ cls := "CensusOfficeModel", name := "isSession", desc := "(I)Z" } : Jvm.MethodName)) ∈ lw_all := lw_g (lw_at lw_m8 149 rfl) rfl
theorem q1936 : (Jvm.Cond.code ({ cls := "CensusOfficeModel", name := "isSession", desc := "(I)Z" } : Jvm.MethodName) prog_13_method_37_code (2 : Nat) (Option.some Jvm.ClassFile.FieldType.boolean)) ∈ lw_all := lw_g (lw_at lw_m8 150 rfl) rfl
theorem q1937 : (Jvm.Cond.methodLink "CensusOfficeModel" (389 : Nat) ({ cls := "CensusOfficeModel", name := "questionOf", desc := "(I)I" } : Jvm.MethodName)) ∈ lw_all := lw_g (lw_at lw_m8 151 rfl) rfl
theorem q1938 : (Jvm.Cond.privateMethod ({ cls := "CensusOfficeModel", name := "questionOf", desc := "(I)I" } : Jvm.MethodName)) ∈ lw_tbl := lw_at lw_m8 152 rfl
theorem q1939 : (Jvm.Cond.instanceMethod ({ cls := "CensusOfficeModel", name := "questionOf", desc := "(I)I" } : Jvm.MethodName)) ∈ lw_all := lw_g (lw_at lw_m8 153 rfl) rfl
theorem q1940 : (Jvm.Cond.code ({ cls := "CensusOfficeModel", name := "questionOf", desc := "(I)I" } : Jvm.MethodName) prog_13_method_40_code (2 : Nat) (Option.some Jvm.ClassFile.FieldType.int)) ∈ lw_all := lw_g (lw_at lw_m8 154 rfl) rfl
theorem q1941 : (Jvm.Cond.methodLink "CensusOfficeModel" (383 : Nat) ({ cls := "CensusOfficeModel", name := "walk", desc := "(II)V" } : Jvm.MethodName)) ∈ lw_all := lw_g (lw_at lw_m8 155 rfl) rfl
theorem q1942 : (Jvm.Cond.privateMethod ({ cls := "CensusOfficeModel", name := "walk", desc := "(II)V" } : Jvm.MethodName)) ∈ lw_tbl := lw_at lw_m8 156 rfl
theorem q1943 : (Jvm.Cond.instanceMethod ({ cls := "CensusOfficeModel", name := "walk", desc := "(II)V" } : Jvm.MethodName)) ∈ lw_all := lw_g (lw_at lw_m8 157 rfl) rfl
theorem q1944 : (Jvm.Cond.code ({ cls := "CensusOfficeModel", name := "walk", desc := "(II)V" } : Jvm.MethodName) prog_13_method_39_code (7 : Nat) (Option.none : Option Jvm.ClassFile.FieldType)) ∈ lw_all := lw_g (lw_at lw_m8 158 rfl) rfl
theorem q1945 : (Jvm.Cond.methodLink "CensusOfficeModel" (380 : Nat) ({ cls := "CensusOfficeModel", name := "holds", desc := "(II)Z" } : Jvm.MethodName)) ∈ lw_all := lw_g (lw_at lw_m8 159 rfl) rfl
theorem q1946 : (Jvm.Cond.privateMethod ({ cls := "CensusOfficeModel", name := "holds", desc := "(II)Z" } : Jvm.MethodName)) ∈ lw_tbl := lw_at lw_m8 160 rfl
theorem q1947 : (Jvm.Cond.instanceMethod ({ cls := "CensusOfficeModel", name := "holds", desc := "(II)Z" } : Jvm.MethodName)) ∈ lw_all := lw_g (lw_at lw_m8 161 rfl) rfl
theorem q1948 : (Jvm.Cond.code ({ cls := "CensusOfficeModel", name := "holds", desc := "(II)Z" } : Jvm.MethodName) prog_13_method_36_code (10 : Nat) (Option.some Jvm.ClassFile.FieldType.boolean)) ∈ lw_all := lw_g (lw_at lw_m8 162 rfl) rfl
theorem q1949 : (Jvm.Cond.methodLink "CensusOfficeModel" (365 : Nat) ({ cls := "CensusOfficeModel", name := "sum", desc := "(II)I" } : Jvm.MethodName)) ∈ lw_all := lw_g (lw_at lw_m8 163 rfl) rfl
theorem q1950 : (Jvm.Cond.privateMethod ({ cls := "CensusOfficeModel", name := "sum", desc := "(II)I" } : Jvm.MethodName)) ∈ lw_tbl := lw_at lw_m8 164 rfl
theorem q1951 : (Jvm.Cond.instanceMethod ({ cls := "CensusOfficeModel", name := "sum", desc := "(II)I" } : Jvm.MethodName)) ∈ lw_all := lw_g (lw_at lw_m8 165 rfl) rfl
theorem q1952 : (Jvm.Cond.code ({ cls := "CensusOfficeModel", name := "sum", desc := "(II)I" } : Jvm.MethodName) prog_13_method_35_code (8 : Nat) (Option.some Jvm.ClassFile.FieldType.int)) ∈ lw_all := lw_g (lw_at lw_m8 166 rfl) rfl
theorem q1954 : (Jvm.Cond.instanceMethod ({ cls := "CensusOfficeModel", name := "answer", desc := "(II)I" } : Jvm.MethodName)) ∈ lw_all := lw_g (lw_at lw_m8 168 rfl) rfl
theorem q1955 : (Jvm.Cond.selects "CensusOfficeModel" ({ cls := "CensusOfficeModel", name := "answer", desc := "(II)I" } : Jvm.MethodName) ({ cls := "CensusOfficeModel", name := "answer", desc := "(II)I" } : Jvm.MethodName)) ∈ lw_all := lw_g (lw_at lw_m8 169 rfl) rfl
theorem q1956 : (Jvm.Cond.code ({ cls := "CensusOfficeModel", name := "answer", desc := "(II)I" } : Jvm.MethodName) prog_13_method_43_code (5 : Nat) (Option.some Jvm.ClassFile.FieldType.int)) ∈ lw_all := lw_g (lw_at lw_m8 170 rfl) rfl
theorem q1957 : (Jvm.Cond.methodLink "CensusOfficeModel" (392 : Nat) ({ cls := "CensusOfficeModel", name := "forgetNotes", desc := "(I)V" } : Jvm.MethodName)) ∈ lw_all := lw_g (lw_at lw_m8 171 rfl) rfl
theorem q1958 : (Jvm.Cond.privateMethod ({ cls := "CensusOfficeModel", name := "forgetNotes", desc := "(I)V" } : Jvm.MethodName)) ∈ lw_tbl := lw_at lw_m8 172 rfl
theorem q1959 : (Jvm.Cond.instanceMethod ({ cls := "CensusOfficeModel", name := "forgetNotes", desc := "(I)V" } : Jvm.MethodName)) ∈ lw_all := lw_g (lw_at lw_m8 173 rfl) rfl
theorem q1960 : (Jvm.Cond.code ({ cls := "CensusOfficeModel", name := "forgetNotes", desc := "(I)V" } : Jvm.MethodName) prog_13_method_42_code (3 : Nat) (Option.none : Option Jvm.ClassFile.FieldType)) ∈ lw_all := lw_g (lw_at lw_m8 174 rfl) rfl
theorem q1961 : (Jvm.Cond.methodLink "CensusOfficeModel" (395 : Nat) ({ cls := "CensusOfficeModel", name := "takeUp", desc := "(I)V" } : Jvm.MethodName)) ∈ lw_all := lw_g (lw_at lw_m8 175 rfl) rfl
theorem q1962 : (Jvm.Cond.privateMethod ({ cls := "CensusOfficeModel", name := "takeUp", desc := "(I)V" } : Jvm.MethodName)) ∈ lw_tbl := lw_at lw_m8 176 rfl
theorem q1963 : (Jvm.Cond.instanceMethod ({ cls := "CensusOfficeModel", name := "takeUp", desc := "(I)V" } : Jvm.MethodName)) ∈ lw_all := lw_g (lw_at lw_m8 177 rfl) rfl
theorem q1964 : (Jvm.Cond.code ({ cls := "CensusOfficeModel", name := "takeUp", desc := "(I)V" } : Jvm.MethodName) prog_13_method_44_code (3 : Nat) (Option.none : Option Jvm.ClassFile.FieldType)) ∈ lw_all := lw_g (lw_at lw_m8 178 rfl) rfl
theorem q1966 : (Jvm.Cond.instanceMethod ({ cls := "CensusOfficeModel", name := "back", desc := "(I)I" } : Jvm.MethodName)) ∈ lw_all := lw_g (lw_at lw_m8 180 rfl) rfl
theorem q1967 : (Jvm.Cond.selects "CensusOfficeModel" ({ cls := "CensusOfficeModel", name := "back", desc := "(I)I" } : Jvm.MethodName) ({ cls := "CensusOfficeModel", name := "back", desc := "(I)I" } : Jvm.MethodName)) ∈ lw_all := lw_g (lw_at lw_m8 181 rfl) rfl
theorem q1968 : (Jvm.Cond.code ({ cls := "CensusOfficeModel", name := "back", desc := "(I)I" } : Jvm.MethodName) prog_13_method_45_code (4 : Nat) (Option.some Jvm.ClassFile.FieldType.int)) ∈ lw_all := lw_g (lw_at lw_m8 182 rfl) rfl
theorem q1970 : (Jvm.Cond.instanceMethod ({ cls := "CensusOfficeModel", name := "given", desc := "(IIZ)I" } : Jvm.MethodName)) ∈ lw_all := lw_g (lw_at lw_m8 184 rfl) rfl
theorem q1971 : (Jvm.Cond.selects "CensusOfficeModel" ({ cls := "CensusOfficeModel", name := "given", desc := "(IIZ)I" } : Jvm.MethodName) ({ cls := "CensusOfficeModel", name := "given", desc := "(IIZ)I" } : Jvm.MethodName)) ∈ lw_all := lw_g (lw_at lw_m8 185 rfl) rfl
theorem q1972 : (Jvm.Cond.code ({ cls := "CensusOfficeModel", name := "given", desc := "(IIZ)I" } : Jvm.MethodName) prog_13_method_46_code (4 : Nat) (Option.some Jvm.ClassFile.FieldType.int)) ∈ lw_all := lw_g (lw_at lw_m8 186 rfl) rfl
theorem q1974 : (Jvm.Cond.instanceMethod ({ cls := "CensusOfficeModel", name := "close", desc := "(I)I" } : Jvm.MethodName)) ∈ lw_all := lw_g (lw_at lw_m8 188 rfl) rfl
theorem q1975 : (Jvm.Cond.selects "CensusOfficeModel" ({ cls := "CensusOfficeModel", name := "close", desc := "(I)I" } : Jvm.MethodName) ({ cls := "CensusOfficeModel", name := "close", desc := "(I)I" } : Jvm.MethodName)) ∈ lw_all := lw_g (lw_at lw_m8 189 rfl) rfl
theorem q1976 : (Jvm.Cond.code ({ cls := "CensusOfficeModel", name := "close", desc := "(I)I" } : Jvm.MethodName) prog_13_method_47_code (3 : Nat) (Option.some Jvm.ClassFile.FieldType.int)) ∈ lw_all := lw_g (lw_at lw_m8 190 rfl) rfl
theorem q1978 : (Jvm.Cond.instanceMethod ({ cls := "CensusOfficeModel", name := "item", desc := "(II)I" } : Jvm.MethodName)) ∈ lw_all := lw_g (lw_at lw_m8 192 rfl) rfl
theorem q1979 : (Jvm.Cond.selects "CensusOfficeModel" ({ cls := "CensusOfficeModel", name := "item", desc := "(II)I" } : Jvm.MethodName) ({ cls := "CensusOfficeModel", name := "item", desc := "(II)I" } : Jvm.MethodName)) ∈ lw_all := lw_g (lw_at lw_m8 193 rfl) rfl
theorem q1980 : (Jvm.Cond.code ({ cls := "CensusOfficeModel", name := "item", desc := "(II)I" } : Jvm.MethodName) prog_13_method_50_code (3 : Nat) (Option.some Jvm.ClassFile.FieldType.int)) ∈ lw_all := lw_g (lw_at lw_m8 194 rfl) rfl
theorem q1981 : (Jvm.Cond.methodLink "CensusOfficeModel" (404 : Nat) ({ cls := "CensusOfficeModel", name := "isItem", desc := "(II)Z" } : Jvm.MethodName)) ∈ lw_all := lw_g (lw_at lw_m8 195 rfl) rfl
theorem q1982 : (Jvm.Cond.privateMethod ({ cls := "CensusOfficeModel", name := "isItem", desc := "(II)Z" } : Jvm.MethodName)) ∈ lw_tbl := lw_at lw_m8 196 rfl
theorem q1983 : (Jvm.Cond.instanceMethod ({ cls := "CensusOfficeModel", name := "isItem", desc := "(II)Z" } : Jvm.MethodName)) ∈ lw_all := lw_g (lw_at lw_m8 197 rfl) rfl
theorem q1984 : (Jvm.Cond.code ({ cls := "CensusOfficeModel", name := "isItem", desc := "(II)Z" } : Jvm.MethodName) prog_13_method_49_code (3 : Nat) (Option.some Jvm.ClassFile.FieldType.boolean)) ∈ lw_all := lw_g (lw_at lw_m8 198 rfl) rfl
theorem q1985 : (Jvm.Cond.methodLink "CensusOfficeModel" (401 : Nat) ({ cls := "CensusOfficeModel", name := "formOf", desc := "(I)I" } : Jvm.MethodName)) ∈ lw_all := lw_g (lw_at lw_m8 199 rfl) rfl
theorem q1986 : (Jvm.Cond.privateMethod ({ cls := "CensusOfficeModel", name := "formOf", desc := "(I)I" } : Jvm.MethodName)) ∈ lw_tbl := lw_at lw_m8 200 rfl
theorem q1987 : (Jvm.Cond.instanceMethod ({ cls := "CensusOfficeModel", name := "formOf", desc := "(I)I" } : Jvm.MethodName)) ∈ lw_all := lw_g (lw_at lw_m8 201 rfl) rfl
theorem q1988 : (Jvm.Cond.code ({ cls := "CensusOfficeModel", name := "formOf", desc := "(I)I" } : Jvm.MethodName) prog_13_method_48_code (2 : Nat) (Option.some Jvm.ClassFile.FieldType.int)) ∈ lw_all := lw_g (lw_at lw_m8 202 rfl) rfl
theorem q1990 : (Jvm.Cond.instanceMethod ({ cls := "CensusOfficeModel", name := "mark", desc := "(II)I" } : Jvm.MethodName)) ∈ lw_all := lw_g (lw_at lw_m8 204 rfl) rfl
theorem q1991 : (Jvm.Cond.selects "CensusOfficeModel" ({ cls := "CensusOfficeModel", name := "mark", desc := "(II)I" } : Jvm.MethodName) ({ cls := "CensusOfficeModel", name := "mark", desc := "(II)I" } : Jvm.MethodName)) ∈ lw_all := lw_g (lw_at lw_m8 205 rfl) rfl
theorem q1992 : (Jvm.Cond.code ({ cls := "CensusOfficeModel", name := "mark", desc := "(II)I" } : Jvm.MethodName) prog_13_method_51_code (3 : Nat) (Option.some Jvm.ClassFile.FieldType.int)) ∈ lw_all := lw_g (lw_at lw_m8 206 rfl) rfl
theorem q1994 : (Jvm.Cond.instanceMethod ({ cls := "CensusOfficeModel", name := "rule", desc := "(IIII)I" } : Jvm.MethodName)) ∈ lw_all := lw_g (lw_at lw_m8 208 rfl) rfl
theorem q1995 : (Jvm.Cond.selects "CensusOfficeModel" ({ cls := "CensusOfficeModel", name := "rule", desc := "(IIII)I" } : Jvm.MethodName) ({ cls := "CensusOfficeModel", name := "rule", desc := "(IIII)I" } : Jvm.MethodName)) ∈ lw_all := lw_g (lw_at lw_m8 209 rfl) rfl
theorem q1996 : (Jvm.Cond.code ({ cls := "CensusOfficeModel", name := "rule", desc := "(IIII)I" } : Jvm.MethodName) prog_13_method_53_code (6 : Nat) (Option.some Jvm.ClassFile.FieldType.int)) ∈ lw_all := lw_g (lw_at lw_m8 210 rfl) rfl
theorem q1997 : (Jvm.Cond.methodLink "CensusOfficeModel" (407 : Nat) ({ cls := "CensusOfficeModel", name := "isAsk", desc := "(II)Z" } : Jvm.MethodName)) ∈ lw_all := lw_g (lw_at lw_m8 211 rfl) rfl
theorem q1998 : (Jvm.Cond.privateMethod ({ cls := "CensusOfficeModel", name := "isAsk", desc := "(II)Z" } : Jvm.MethodName)) ∈ lw_tbl := lw_at lw_m8 212 rfl
theorem q1999 : (Jvm.Cond.instanceMethod ({ cls := "CensusOfficeModel", name := "isAsk", desc := "(II)Z" } : Jvm.MethodName)) ∈ lw_all := lw_g (lw_at lw_m8 213 rfl) rfl
theorem q2000 : (Jvm.Cond.code ({ cls := "CensusOfficeModel", name := "isAsk", desc := "(II)Z" } : Jvm.MethodName) prog_13_method_52_code (3 : Nat) (Option.some Jvm.ClassFile.FieldType.boolean)) ∈ lw_all := lw_g (lw_at lw_m8 214 rfl) rfl
theorem q2001 : (Jvm.Cond.constantLong "CensusOfficeModel" (410 : Nat) (-2000000 : Int64)) ∈ lw_all := lw_g (lw_at lw_m8 215 rfl) rfl
theorem q2002 : (Jvm.Cond.constantLong "CensusOfficeModel" (412 : Nat) (2000000 : Int64)) ∈ lw_all := lw_g (lw_at lw_m8 216 rfl) rfl
theorem q2004 : (Jvm.Cond.instanceMethod ({ cls := "CensusOfficeModel", name := "cost", desc := "(III)I" } : Jvm.MethodName)) ∈ lw_all := lw_g (lw_at lw_m8 218 rfl) rfl
theorem q2005 : (Jvm.Cond.selects "CensusOfficeModel" ({ cls := "CensusOfficeModel", name := "cost", desc := "(III)I" } : Jvm.MethodName) ({ cls := "CensusOfficeModel", name := "cost", desc := "(III)I" } : Jvm.MethodName)) ∈ lw_all := lw_g (lw_at lw_m8 219 rfl) rfl
theorem q2006 : (Jvm.Cond.code ({ cls := "CensusOfficeModel", name := "cost", desc := "(III)I" } : Jvm.MethodName) prog_13_method_54_code (5 : Nat) (Option.some Jvm.ClassFile.FieldType.int)) ∈ lw_all := lw_g (lw_at lw_m8 220 rfl) rfl
theorem q2007 : (Jvm.Cond.constantLong "CensusOfficeModel" (414 : Nat) (100 : Int64)) ∈ lw_all := lw_g (lw_at lw_m8 221 rfl) rfl
theorem q2009 : (Jvm.Cond.instanceMethod ({ cls := "CensusOfficeModel", name := "broken", desc := "(II)I" } : Jvm.MethodName)) ∈ lw_all := lw_g (lw_at lw_m8 223 rfl) rfl
theorem q2010 : (Jvm.Cond.selects "CensusOfficeModel" ({ cls := "CensusOfficeModel", name := "broken", desc := "(II)I" } : Jvm.MethodName) ({ cls := "CensusOfficeModel", name := "broken", desc := "(II)I" } : Jvm.MethodName)) ∈ lw_all := lw_g (lw_at lw_m8 224 rfl) rfl
theorem q2011 : (Jvm.Cond.code ({ cls := "CensusOfficeModel", name := "broken", desc := "(II)I" } : Jvm.MethodName) prog_13_method_56_code (6 : Nat) (Option.some Jvm.ClassFile.FieldType.int)) ∈ lw_all := lw_g (lw_at lw_m8 225 rfl) rfl
theorem q2012 : (Jvm.Cond.methodLink "CensusOfficeModel" (416 : Nat) ({ cls := "CensusOfficeModel", name := "breaks", desc := "(II)Z" } : Jvm.MethodName)) ∈ lw_all := lw_g (lw_at lw_m8 226 rfl) rfl
theorem q2013 : (Jvm.Cond.privateMethod ({ cls := "CensusOfficeModel", name := "breaks", desc := "(II)Z" } : Jvm.MethodName)) ∈ lw_tbl := lw_at lw_m8 227 rfl
theorem q2014 : (Jvm.Cond.instanceMethod ({ cls := "CensusOfficeModel", name := "breaks", desc := "(II)Z" } : Jvm.MethodName)) ∈ lw_all := lw_g (lw_at lw_m8 228 rfl) rfl
theorem q2015 : (Jvm.Cond.code ({ cls := "CensusOfficeModel", name := "breaks", desc := "(II)Z" } : Jvm.MethodName) prog_13_method_55_code (5 : Nat) (Option.some Jvm.ClassFile.FieldType.boolean)) ∈ lw_all := lw_g (lw_at lw_m8 229 rfl) rfl
theorem q2017 : (Jvm.Cond.instanceMethod ({ cls := "CensusOfficeModel", name := "least", desc := "(IZ)I" } : Jvm.MethodName)) ∈ lw_all := lw_g (lw_at lw_m8 231 rfl) rfl
theorem q2018 : (Jvm.Cond.selects "CensusOfficeModel" ({ cls := "CensusOfficeModel", name := "least", desc := "(IZ)I" } : Jvm.MethodName) ({ cls := "CensusOfficeModel", name := "least", desc := "(IZ)I" } : Jvm.MethodName)) ∈ lw_all := lw_g (lw_at lw_m8 232 rfl) rfl
theorem q2019 : (Jvm.Cond.code ({ cls := "CensusOfficeModel", name := "least", desc := "(IZ)I" } : Jvm.MethodName) prog_13_method_61_code (3 : Nat) (Option.some Jvm.ClassFile.FieldType.int)) ∈ lw_all := lw_g (lw_at lw_m8 233 rfl) rfl
theorem q2020 : (Jvm.Cond.methodLink "CensusOfficeModel" (432 : Nat) ({ cls := "CensusOfficeModel", name := "find", desc := "(I)V" } : Jvm.MethodName)) ∈ lw_all := lw_g (lw_at lw_m8 234 rfl) rfl
theorem q2021 : (Jvm.Cond.privateMethod ({ cls := "CensusOfficeModel", name := "find", desc := "(I)V" } : Jvm.MethodName)) ∈ lw_tbl := lw_at lw_m8 235 rfl
theorem q2022 : (Jvm.Cond.instanceMethod ({ cls := "CensusOfficeModel", name := "find", desc := "(I)V" } : Jvm.MethodName)) ∈ lw_all := lw_g (lw_at lw_m8 236 rfl) rfl
theorem q2023 : (Jvm.Cond.code ({ cls := "CensusOfficeModel", name := "find", desc := "(I)V" } : Jvm.MethodName) prog_13_method_60_code (8 : Nat) (Option.none : Option Jvm.ClassFile.FieldType)) ∈ lw_all := lw_g (lw_at lw_m8 237 rfl) rfl
theorem q2024 : (Jvm.Cond.methodLink "CensusOfficeModel" (429 : Nat) ({ cls := "CensusOfficeModel", name := "fits", desc := "(II)Z" } : Jvm.MethodName)) ∈ lw_all := lw_g (lw_at lw_m8 238 rfl) rfl
theorem q2025 : (Jvm.Cond.privateMethod ({ cls := "CensusOfficeModel", name := "fits", desc := "(II)Z" } : Jvm.MethodName)) ∈ lw_tbl := lw_at lw_m8 239 rfl
theorem q2026 : (Jvm.Cond.instanceMethod ({ cls := "CensusOfficeModel", name := "fits", desc := "(II)Z" } : Jvm.MethodName)) ∈ lw_all := lw_g (lw_at lw_m9 0 rfl) rfl
theorem q2027 : (Jvm.Cond.code ({ cls := "CensusOfficeModel", name := "fits", desc := "(II)Z" } : Jvm.MethodName) prog_13_method_59_code (11 : Nat) (Option.some Jvm.ClassFile.FieldType.boolean)) ∈ lw_all := lw_g (lw_at lw_m9 1 rfl) rfl
theorem q2028 : (Jvm.Cond.methodLink "CensusOfficeModel" (419 : Nat) ({ cls := "CensusOfficeModel", name := "side", desc := "(III)I" } : Jvm.MethodName)) ∈ lw_all := lw_g (lw_at lw_m9 2 rfl) rfl
theorem q2029 : (Jvm.Cond.privateMethod ({ cls := "CensusOfficeModel", name := "side", desc := "(III)I" } : Jvm.MethodName)) ∈ lw_tbl := lw_at lw_m9 3 rfl
theorem q2030 : (Jvm.Cond.instanceMethod ({ cls := "CensusOfficeModel", name := "side", desc := "(III)I" } : Jvm.MethodName)) ∈ lw_all := lw_g (lw_at lw_m9 4 rfl) rfl
theorem q2031 : (Jvm.Cond.code ({ cls := "CensusOfficeModel", name := "side", desc := "(III)I" } : Jvm.MethodName) prog_13_method_58_code (4 : Nat) (Option.some Jvm.ClassFile.FieldType.int)) ∈ lw_all := lw_g (lw_at lw_m9 5 rfl) rfl
theorem q2033 : (Jvm.Cond.instanceMethod ({ cls := "CensusOfficeModel", name := "impute", desc := "(II)I" } : Jvm.MethodName)) ∈ lw_all := lw_g (lw_at lw_m9 7 rfl) rfl
theorem q2034 : (Jvm.Cond.selects "CensusOfficeModel" ({ cls := "CensusOfficeModel", name := "impute", desc := "(II)I" } : Jvm.MethodName) ({ cls := "CensusOfficeModel", name := "impute", desc := "(II)I" } : Jvm.MethodName)) ∈ lw_all := lw_g (lw_at lw_m9 8 rfl) rfl
theorem q2035 : (Jvm.Cond.code ({ cls := "CensusOfficeModel", name := "impute", desc := "(II)I" } : Jvm.MethodName) prog_13_method_64_code (8 : Nat) (Option.some Jvm.ClassFile.FieldType.int)) ∈ lw_all := lw_g (lw_at lw_m9 9 rfl) rfl
theorem q2036 : (Jvm.Cond.methodLink "CensusOfficeModel" (438 : Nat) ({ cls := "CensusOfficeModel", name := "mayGive", desc := "(III)Z" } : Jvm.MethodName)) ∈ lw_all := lw_g (lw_at lw_m9 10 rfl) rfl
theorem q2037 : (Jvm.Cond.privateMethod ({ cls := "CensusOfficeModel", name := "mayGive", desc := "(III)Z" } : Jvm.MethodName)) ∈ lw_tbl := lw_at lw_m9 11 rfl
theorem q2038 : (Jvm.Cond.instanceMethod ({ cls := "CensusOfficeModel", name := "mayGive", desc := "(III)Z" } : Jvm.MethodName)) ∈ lw_all := lw_g (lw_at lw_m9 12 rfl) rfl
theorem q2039 : (Jvm.Cond.code ({ cls := "CensusOfficeModel", name := "mayGive", desc := "(III)Z" } : Jvm.MethodName) prog_13_method_63_code (10 : Nat) (Option.some Jvm.ClassFile.FieldType.boolean)) ∈ lw_all := lw_g (lw_at lw_m9 13 rfl) rfl
theorem q2040 : (Jvm.Cond.methodLink "CensusOfficeModel" (435 : Nat) ({ cls := "CensusOfficeModel", name := "isClean", desc := "(I)Z" } : Jvm.MethodName)) ∈ lw_all := lw_g (lw_at lw_m9 14 rfl) rfl
theorem q2041 : (Jvm.Cond.privateMethod ({ cls := "CensusOfficeModel", name := "isClean", desc := "(I)Z" } : Jvm.MethodName)) ∈ lw_tbl := lw_at lw_m9 15 rfl
theorem q2042 : (Jvm.Cond.instanceMethod ({ cls := "CensusOfficeModel", name := "isClean", desc := "(I)Z" } : Jvm.MethodName)) ∈ lw_all := lw_g (lw_at lw_m9 16 rfl) rfl
theorem q2043 : (Jvm.Cond.code ({ cls := "CensusOfficeModel", name := "isClean", desc := "(I)Z" } : Jvm.MethodName) prog_13_method_57_code (4 : Nat) (Option.some Jvm.ClassFile.FieldType.boolean)) ∈ lw_all := lw_g (lw_at lw_m9 17 rfl) rfl
theorem q2044 : (Jvm.Cond.methodLink "CensusOfficeModel" (442 : Nat) ({ cls := "CensusOfficeModel", name := "distance", desc := "(III)J" } : Jvm.MethodName)) ∈ lw_all := lw_g (lw_at lw_m9 18 rfl) rfl
theorem q2045 : (Jvm.Cond.privateMethod ({ cls := "CensusOfficeModel", name := "distance", desc := "(III)J" } : Jvm.MethodName)) ∈ lw_tbl := lw_at lw_m9 19 rfl
theorem q2046 : (Jvm.Cond.instanceMethod ({ cls := "CensusOfficeModel", name := "distance", desc := "(III)J" } : Jvm.MethodName)) ∈ lw_all := lw_g (lw_at lw_m9 20 rfl) rfl
theorem q2047 : (Jvm.Cond.code ({ cls := "CensusOfficeModel", name := "distance", desc := "(III)J" } : Jvm.MethodName) prog_13_method_62_code (11 : Nat) (Option.some Jvm.ClassFile.FieldType.long)) ∈ lw_all := lw_g (lw_at lw_m9 21 rfl) rfl
theorem q2048 : (Jvm.Cond.methodLink "CensusOfficeModel" (446 : Nat) ({ cls := "CensusOfficeModel", name := "letsOf", desc := "(I)V" } : Jvm.MethodName)) ∈ lw_all := lw_g (lw_at lw_m9 22 rfl) rfl
theorem q2049 : (Jvm.Cond.privateMethod ({ cls := "CensusOfficeModel", name := "letsOf", desc := "(I)V" } : Jvm.MethodName)) ∈ lw_tbl := lw_at lw_m9 23 rfl
theorem q2050 : (Jvm.Cond.instanceMethod ({ cls := "CensusOfficeModel", name := "letsOf", desc := "(I)V" } : Jvm.MethodName)) ∈ lw_all := lw_g (lw_at lw_m9 24 rfl) rfl
theorem q2051 : (Jvm.Cond.code ({ cls := "CensusOfficeModel", name := "letsOf", desc := "(I)V" } : Jvm.MethodName) prog_13_method_65_code (6 : Nat) (Option.none : Option Jvm.ClassFile.FieldType)) ∈ lw_all := lw_g (lw_at lw_m9 25 rfl) rfl
theorem q2053 : (Jvm.Cond.instanceMethod ({ cls := "CensusOfficeModel", name := "sample", desc := "(IIIIII)I" } : Jvm.MethodName)) ∈ lw_all := lw_g (lw_at lw_m9 27 rfl) rfl
theorem q2054 : (Jvm.Cond.selects "CensusOfficeModel" ({ cls := "CensusOfficeModel", name := "sample", desc := "(IIIIII)I" } : Jvm.MethodName) ({ cls := "CensusOfficeModel", name := "sample", desc := "(IIIIII)I" } : Jvm.MethodName)) ∈ lw_all := lw_g (lw_at lw_m9 28 rfl) rfl
theorem q2055 : (Jvm.Cond.code ({ cls := "CensusOfficeModel", name := "sample", desc := "(IIIIII)I" } : Jvm.MethodName) prog_13_method_68_code (15 : Nat) (Option.some Jvm.ClassFile.FieldType.int)) ∈ lw_all := lw_g (lw_at lw_m9 29 rfl) rfl
theorem q2056 : (Jvm.Cond.methodLink "CensusOfficeModel" (458 : Nat) ({ cls := "CensusOfficeModel", name := "isFirst", desc := "(I)Z" } : Jvm.MethodName)) ∈ lw_all := lw_g (lw_at lw_m9 30 rfl) rfl
theorem q2057 : (Jvm.Cond.privateMethod ({ cls := "CensusOfficeModel", name := "isFirst", desc := "(I)Z" } : Jvm.MethodName)) ∈ lw_tbl := lw_at lw_m9 31 rfl
theorem q2058 : (Jvm.Cond.instanceMethod ({ cls := "CensusOfficeModel", name := "isFirst", desc := "(I)Z" } : Jvm.MethodName)) ∈ lw_all := lw_g (lw_at lw_m9 32 rfl) rfl
theorem q2059 : (Jvm.Cond.code ({ cls := "CensusOfficeModel", name := "isFirst", desc := "(I)Z" } : Jvm.MethodName) prog_13_method_69_code (4 : Nat) (Option.some Jvm.ClassFile.FieldType.boolean)) ∈ lw_all := lw_g (lw_at lw_m9 33 rfl) rfl
theorem q2060 : (Jvm.Cond.methodLink "CensusOfficeModel" (461 : Nat) ({ cls := "CensusOfficeModel", name := "isBefore", desc := "(III)Z" } : Jvm.MethodName)) ∈ lw_all := lw_g (lw_at lw_m9 34 rfl) rfl
theorem q2061 : (Jvm.Cond.privateMethod ({ cls := "CensusOfficeModel", name := "isBefore", desc := "(III)Z" } : Jvm.MethodName)) ∈ lw_tbl := lw_at lw_m9 35 rfl
theorem q2062 : (Jvm.Cond.instanceMethod ({ cls := "CensusOfficeModel", name := "isBefore", desc := "(III)Z" } : Jvm.MethodName)) ∈ lw_all := lw_g (lw_at lw_m9 36 rfl) rfl
theorem q2063 : (Jvm.Cond.code ({ cls := "CensusOfficeModel", name := "isBefore", desc := "(III)Z" } : Jvm.MethodName) prog_13_method_67_code (6 : Nat) (Option.some Jvm.ClassFile.FieldType.boolean)) ∈ lw_all := lw_g (lw_at lw_m9 37 rfl) rfl
theorem q2064 : (Jvm.Cond.methodLink "CensusOfficeModel" (452 : Nat) ({ cls := "CensusOfficeModel", name := "keyOf", desc := "(II)I" } : Jvm.MethodName)) ∈ lw_all := lw_g (lw_at lw_m9 38 rfl) rfl
theorem q2065 : (Jvm.Cond.static ({ cls := "CensusOfficeModel", name := "keyOf", desc := "(II)I" } : Jvm.MethodName)) ∈ lw_all := lw_g (lw_at lw_m9 39 rfl) rfl
theorem q2066 : (Jvm.Cond.code ({ cls := "CensusOfficeModel", name := "keyOf", desc := "(II)I" } : Jvm.MethodName) prog_13_method_66_code (3 : Nat) (Option.some Jvm.ClassFile.FieldType.int)) ∈ lw_all := lw_g (lw_at lw_m9 40 rfl) rfl
theorem q2067 : (Jvm.Cond.constant "CensusOfficeModel" (449 : Nat) (-1640531527 : Int32)) ∈ lw_all := lw_g (lw_at lw_m9 41 rfl) rfl
theorem q2068 : (Jvm.Cond.constant "CensusOfficeModel" (450 : Nat) (-2048144789 : Int32)) ∈ lw_all := lw_g (lw_at lw_m9 42 rfl) rfl
theorem q2069 : (Jvm.Cond.constant "CensusOfficeModel" (451 : Nat) (-1028477387 : Int32)) ∈ lw_all := lw_g (lw_at lw_m9 43 rfl) rfl
theorem q2071 : (Jvm.Cond.instanceMethod ({ cls := "CensusOfficeModel", name := "drawn", desc := "(II)I" } : Jvm.MethodName)) ∈ lw_all := lw_g (lw_at lw_m9 45 rfl) rfl
theorem q2072 : (Jvm.Cond.selects "CensusOfficeModel" ({ cls := "CensusOfficeModel", name := "drawn", desc := "(II)I" } : Jvm.MethodName) ({ cls := "CensusOfficeModel", name := "drawn", desc := "(II)I" } : Jvm.MethodName)) ∈ lw_all := lw_g (lw_at lw_m9 46 rfl) rfl
theorem q2073 : (Jvm.Cond.code ({ cls := "CensusOfficeModel", name := "drawn", desc := "(II)I" } : Jvm.MethodName) prog_13_method_71_code (5 : Nat) (Option.some Jvm.ClassFile.FieldType.int)) ∈ lw_all := lw_g (lw_at lw_m9 47 rfl) rfl
theorem q2074 : (Jvm.Cond.methodLink "CensusOfficeModel" (464 : Nat) ({ cls := "CensusOfficeModel", name := "isSample", desc := "(I)Z" } : Jvm.MethodName)) ∈ lw_all := lw_g (lw_at lw_m9 48 rfl) rfl
theorem q2075 : (Jvm.Cond.privateMethod ({ cls := "CensusOfficeModel", name := "isSample", desc := "(I)Z" } : Jvm.MethodName)) ∈ lw_tbl := lw_at lw_m9 49 rfl
theorem q2076 : (Jvm.Cond.instanceMethod ({ cls := "CensusOfficeModel", name := "isSample", desc := "(I)Z" } : Jvm.MethodName)) ∈ lw_all := lw_g (lw_at lw_m9 50 rfl) rfl
theorem q2077 : (Jvm.Cond.code ({ cls := "CensusOfficeModel", name := "isSample", desc := "(I)Z" } : Jvm.MethodName) prog_13_method_70_code (2 : Nat) (Option.some Jvm.ClassFile.FieldType.boolean)) ∈ lw_all := lw_g (lw_at lw_m9 51 rfl) rfl
theorem q2079 : (Jvm.Cond.instanceMethod ({ cls := "CensusOfficeModel", name := "chance", desc := "(IIZ)I" } : Jvm.MethodName)) ∈ lw_all := lw_g (lw_at lw_m9 53 rfl) rfl
theorem q2080 : (Jvm.Cond.selects "CensusOfficeModel" ({ cls := "CensusOfficeModel", name := "chance", desc := "(IIZ)I" } : Jvm.MethodName) ({ cls := "CensusOfficeModel", name := "chance", desc := "(IIZ)I" } : Jvm.MethodName)) ∈ lw_all := lw_g (lw_at lw_m9 54 rfl) rfl
theorem q2081 : (Jvm.Cond.code ({ cls := "CensusOfficeModel", name := "chance", desc := "(IIZ)I" } : Jvm.MethodName) prog_13_method_73_code (7 : Nat) (Option.some Jvm.ClassFile.FieldType.int)) ∈ lw_all := lw_g (lw_at lw_m9 55 rfl) rfl
theorem q2082 : (Jvm.Cond.methodLink "CensusOfficeModel" (467 : Nat) ({ cls := "CensusOfficeModel", name := "divisor", desc := "(II)I" } : Jvm.MethodName)) ∈ lw_all := lw_g (lw_at lw_m9 56 rfl) rfl
theorem q2083 : (Jvm.Cond.static ({ cls := "CensusOfficeModel", name := "divisor", desc := "(II)I" } : Jvm.MethodName)) ∈ lw_all := lw_g (lw_at lw_m9 57 rfl) rfl
theorem q2084 : (Jvm.Cond.code ({ cls := "CensusOfficeModel", name := "divisor", desc := "(II)I" } : Jvm.MethodName) prog_13_method_72_code (5 : Nat) (Option.some Jvm.ClassFile.FieldType.int)) ∈ lw_all := lw_g (lw_at lw_m9 58 rfl) rfl
theorem q2086 : (Jvm.Cond.instanceMethod ({ cls := "CensusOfficeModel", name := "overlap", desc := "(II)I" } : Jvm.MethodName)) ∈ lw_all := lw_g (lw_at lw_m9 60 rfl) rfl
theorem q2087 : (Jvm.Cond.selects "CensusOfficeModel" ({ cls := "CensusOfficeModel", name := "overlap", desc := "(II)I" } : Jvm.MethodName) ({ cls := "CensusOfficeModel", name := "overlap", desc := "(II)I" } : Jvm.MethodName)) ∈ lw_all := lw_g (lw_at lw_m9 61 rfl) rfl
theorem q2088 : (Jvm.Cond.code ({ cls := "CensusOfficeModel", name := "overlap", desc := "(II)I" } : Jvm.MethodName) prog_13_method_74_code (5 : Nat) (Option.some Jvm.ClassFile.FieldType.int)) ∈ lw_all := lw_g (lw_at lw_m9 62 rfl) rfl
theorem q2090 : (Jvm.Cond.instanceMethod ({ cls := "CensusOfficeModel", name := "table", desc := "(IIIII)I" } : Jvm.MethodName)) ∈ lw_all := lw_g (lw_at lw_m9 64 rfl) rfl
theorem q2091 : (Jvm.Cond.selects "CensusOfficeModel" ({ cls := "CensusOfficeModel", name := "table", desc := "(IIIII)I" } : Jvm.MethodName) ({ cls := "CensusOfficeModel", name := "table", desc := "(IIIII)I" } : Jvm.MethodName)) ∈ lw_all := lw_g (lw_at lw_m9 65 rfl) rfl
theorem q2092 : (Jvm.Cond.code ({ cls := "CensusOfficeModel", name := "table", desc := "(IIIII)I" } : Jvm.MethodName) prog_13_method_75_code (14 : Nat) (Option.some Jvm.ClassFile.FieldType.int)) ∈ lw_all := lw_g (lw_at lw_m9 66 rfl) rfl
theorem q2094 : (Jvm.Cond.instanceMethod ({ cls := "CensusOfficeModel", name := "cell", desc := "(IIII)I" } : Jvm.MethodName)) ∈ lw_all := lw_g (lw_at lw_m9 68 rfl) rfl
theorem q2095 : (Jvm.Cond.selects "CensusOfficeModel" ({ cls := "CensusOfficeModel", name := "cell", desc := "(IIII)I" } : Jvm.MethodName) ({ cls := "CensusOfficeModel", name := "cell", desc := "(IIII)I" } : Jvm.MethodName)) ∈ lw_all := lw_g (lw_at lw_m9 69 rfl) rfl
theorem q2096 : (Jvm.Cond.code ({ cls := "CensusOfficeModel", name := "cell", desc := "(IIII)I" } : Jvm.MethodName) prog_13_method_78_code (8 : Nat) (Option.some Jvm.ClassFile.FieldType.int)) ∈ lw_all := lw_g (lw_at lw_m9 70 rfl) rfl
theorem q2097 : (Jvm.Cond.methodLink "CensusOfficeModel" (473 : Nat) ({ cls := "CensusOfficeModel", name := "isTable", desc := "(I)Z" } : Jvm.MethodName)) ∈ lw_all := lw_g (lw_at lw_m9 71 rfl) rfl
theorem q2098 : (Jvm.Cond.privateMethod ({ cls := "CensusOfficeModel", name := "isTable", desc := "(I)Z" } : Jvm.MethodName)) ∈ lw_tbl := lw_at lw_m9 72 rfl
theorem q2099 : (Jvm.Cond.instanceMethod ({ cls := "CensusOfficeModel", name := "isTable", desc := "(I)Z" } : Jvm.MethodName)) ∈ lw_all := lw_g (lw_at lw_m9 73 rfl) rfl
theorem q2100 : (Jvm.Cond.code ({ cls := "CensusOfficeModel", name := "isTable", desc := "(I)Z" } : Jvm.MethodName) prog_13_method_76_code (2 : Nat) (Option.some Jvm.ClassFile.FieldType.boolean)) ∈ lw_all := lw_g (lw_at lw_m9 74 rfl) rfl
theorem q2101 : (Jvm.Cond.methodLink "CensusOfficeModel" (476 : Nat) ({ cls := "CensusOfficeModel", name := "now", desc := "(III)I" } : Jvm.MethodName)) ∈ lw_all := lw_g (lw_at lw_m9 75 rfl) rfl
theorem q2102 : (Jvm.Cond.privateMethod ({ cls := "CensusOfficeModel", name := "now", desc := "(III)I" } : Jvm.MethodName)) ∈ lw_tbl := lw_at lw_m9 76 rfl
theorem q2103 : (Jvm.Cond.instanceMethod ({ cls := "CensusOfficeModel", name := "now", desc := "(III)I" } : Jvm.MethodName)) ∈ lw_all := lw_g (lw_at lw_m9 77 rfl) rfl
theorem q2104 : (Jvm.Cond.code ({ cls := "CensusOfficeModel", name := "now", desc := "(III)I" } : Jvm.MethodName) prog_13_method_77_code (5 : Nat) (Option.some Jvm.ClassFile.FieldType.int)) ∈ lw_all := lw_g (lw_at lw_m9 78 rfl) rfl
theorem q2106 : (Jvm.Cond.instanceMethod ({ cls := "CensusOfficeModel", name := "secrecy", desc := "(IIII)I" } : Jvm.MethodName)) ∈ lw_all := lw_g (lw_at lw_m9 80 rfl) rfl
theorem q2107 : (Jvm.Cond.selects "CensusOfficeModel" ({ cls := "CensusOfficeModel", name := "secrecy", desc := "(IIII)I" } : Jvm.MethodName) ({ cls := "CensusOfficeModel", name := "secrecy", desc := "(IIII)I" } : Jvm.MethodName)) ∈ lw_all := lw_g (lw_at lw_m9 81 rfl) rfl
theorem q2108 : (Jvm.Cond.code ({ cls := "CensusOfficeModel", name := "secrecy", desc := "(IIII)I" } : Jvm.MethodName) prog_13_method_81_code (12 : Nat) (Option.some Jvm.ClassFile.FieldType.int)) ∈ lw_all := lw_g (lw_at lw_m9 82 rfl) rfl
theorem q2109 : (Jvm.Cond.constantLong "CensusOfficeModel" (479 : Nat) (-1 : Int64)) ∈ lw_all := lw_g (lw_at lw_m9 83 rfl) rfl
theorem q2110 : (Jvm.Cond.methodLink "CensusOfficeModel" (484 : Nat) ({ cls := "CensusOfficeModel", name := "isGood", desc := "(III)Z" } : Jvm.MethodName)) ∈ lw_all := lw_g (lw_at lw_m9 84 rfl) rfl
theorem q2111 : (Jvm.Cond.privateMethod ({ cls := "CensusOfficeModel", name := "isGood", desc := "(III)Z" } : Jvm.MethodName)) ∈ lw_tbl := lw_at lw_m9 85 rfl
theorem q2112 : (Jvm.Cond.instanceMethod ({ cls := "CensusOfficeModel", name := "isGood", desc := "(III)Z" } : Jvm.MethodName)) ∈ lw_all := lw_g (lw_at lw_m9 86 rfl) rfl
theorem q2113 : (Jvm.Cond.code ({ cls := "CensusOfficeModel", name := "isGood", desc := "(III)Z" } : Jvm.MethodName) prog_13_method_80_code (7 : Nat) (Option.some Jvm.ClassFile.FieldType.boolean)) ∈ lw_all := lw_g (lw_at lw_m9 87 rfl) rfl
theorem q2114 : (Jvm.Cond.methodLink "CensusOfficeModel" (481 : Nat) ({ cls := "CensusOfficeModel", name := "most", desc := "(IIIZ)I" } : Jvm.MethodName)) ∈ lw_all := lw_g (lw_at lw_m9 88 rfl) rfl
theorem q2115 : (Jvm.Cond.privateMethod ({ cls := "CensusOfficeModel", name := "most", desc := "(IIIZ)I" } : Jvm.MethodName)) ∈ lw_tbl := lw_at lw_m9 89 rfl
theorem q2116 : (Jvm.Cond.instanceMethod ({ cls := "CensusOfficeModel", name := "most", desc := "(IIIZ)I" } : Jvm.MethodName)) ∈ lw_all := lw_g (lw_at lw_m9 90 rfl) rfl
theorem q2117 : (Jvm.Cond.code ({ cls := "CensusOfficeModel", name := "most", desc := "(IIIZ)I" } : Jvm.MethodName) prog_13_method_79_code (20 : Nat) (Option.some Jvm.ClassFile.FieldType.int)) ∈ lw_all := lw_g (lw_at lw_m9 91 rfl) rfl
theorem q2119 : (Jvm.Cond.instanceMethod ({ cls := "CensusOfficeModel", name := "secret", desc := "(III)I" } : Jvm.MethodName)) ∈ lw_all := lw_g (lw_at lw_m9 93 rfl) rfl
theorem q2120 : (Jvm.Cond.selects "CensusOfficeModel" ({ cls := "CensusOfficeModel", name := "secret", desc := "(III)I" } : Jvm.MethodName) ({ cls := "CensusOfficeModel", name := "secret", desc := "(III)I" } : Jvm.MethodName)) ∈ lw_all := lw_g (lw_at lw_m9 94 rfl) rfl
theorem q2121 : (Jvm.Cond.code ({ cls := "CensusOfficeModel", name := "secret", desc := "(III)I" } : Jvm.MethodName) prog_13_method_83_code (5 : Nat) (Option.some Jvm.ClassFile.FieldType.int)) ∈ lw_all := lw_g (lw_at lw_m9 95 rfl) rfl
theorem q2122 : (Jvm.Cond.methodLink "CensusOfficeModel" (487 : Nat) ({ cls := "CensusOfficeModel", name := "isCell", desc := "(III)Z" } : Jvm.MethodName)) ∈ lw_all := lw_g (lw_at lw_m9 96 rfl) rfl
theorem q2123 : (Jvm.Cond.privateMethod ({ cls := "CensusOfficeModel", name := "isCell", desc := "(III)Z" } : Jvm.MethodName)) ∈ lw_tbl := lw_at lw_m9 97 rfl
theorem q2124 : (Jvm.Cond.instanceMethod ({ cls := "CensusOfficeModel", name := "isCell", desc := "(III)Z" } : Jvm.MethodName)) ∈ lw_all := lw_g (lw_at lw_m9 98 rfl) rfl
theorem q2125 : (Jvm.Cond.code ({ cls := "CensusOfficeModel", name := "isCell", desc := "(III)Z" } : Jvm.MethodName) prog_13_method_82_code (4 : Nat) (Option.some Jvm.ClassFile.FieldType.boolean)) ∈ lw_all := lw_g (lw_at lw_m9 99 rfl) rfl
theorem q2127 : (Jvm.Cond.instanceMethod ({ cls := "CensusOfficeModel", name := "interval", desc := "(IIIZ)I" } : Jvm.MethodName)) ∈ lw_all := lw_g (lw_at lw_m9 101 rfl) rfl
theorem q2128 : (Jvm.Cond.selects "CensusOfficeModel" ({ cls := "CensusOfficeModel", name := "interval", desc := "(IIIZ)I" } : Jvm.MethodName) ({ cls := "CensusOfficeModel", name := "interval", desc := "(IIIZ)I" } : Jvm.MethodName)) ∈ lw_all := lw_g (lw_at lw_m9 102 rfl) rfl
theorem q2129 : (Jvm.Cond.code ({ cls := "CensusOfficeModel", name := "interval", desc := "(IIIZ)I" } : Jvm.MethodName) prog_13_method_84_code (7 : Nat) (Option.some Jvm.ClassFile.FieldType.int)) ∈ lw_all := lw_g (lw_at lw_m9 103 rfl) rfl
theorem q2131 : (Jvm.Cond.instanceMethod ({ cls := "CensusOfficeModel", name := "round", desc := "(II)I" } : Jvm.MethodName)) ∈ lw_all := lw_g (lw_at lw_m9 105 rfl) rfl
theorem q2132 : (Jvm.Cond.selects "CensusOfficeModel" ({ cls := "CensusOfficeModel", name := "round", desc := "(II)I" } : Jvm.MethodName) ({ cls := "CensusOfficeModel", name := "round", desc := "(II)I" } : Jvm.MethodName)) ∈ lw_all := lw_g (lw_at lw_m9 106 rfl) rfl
theorem q2133 : (Jvm.Cond.code ({ cls := "CensusOfficeModel", name := "round", desc := "(II)I" } : Jvm.MethodName) prog_13_method_87_code (6 : Nat) (Option.some Jvm.ClassFile.FieldType.int)) ∈ lw_all := lw_g (lw_at lw_m9 107 rfl) rfl
theorem q2134 : (Jvm.Cond.constantLong "CensusOfficeModel" (497 : Nat) (1000 : Int64)) ∈ lw_all := lw_g (lw_at lw_m9 108 rfl) rfl
theorem q2135 : (Jvm.Cond.methodLink "CensusOfficeModel" (499 : Nat) ({ cls := "CensusOfficeModel", name := "isWay", desc := "(II)Z" } : Jvm.MethodName)) ∈ lw_all := lw_g (lw_at lw_m9 109 rfl) rfl
theorem q2136 : (Jvm.Cond.privateMethod ({ cls := "CensusOfficeModel", name := "isWay", desc := "(II)Z" } : Jvm.MethodName)) ∈ lw_tbl := lw_at lw_m9 110 rfl
theorem q2137 : (Jvm.Cond.instanceMethod ({ cls := "CensusOfficeModel", name := "isWay", desc := "(II)Z" } : Jvm.MethodName)) ∈ lw_all := lw_g (lw_at lw_m9 111 rfl) rfl
theorem q2138 : (Jvm.Cond.code ({ cls := "CensusOfficeModel", name := "isWay", desc := "(II)Z" } : Jvm.MethodName) prog_13_method_86_code (11 : Nat) (Option.some Jvm.ClassFile.FieldType.boolean)) ∈ lw_all := lw_g (lw_at lw_m9 112 rfl) rfl
theorem q2139 : (Jvm.Cond.methodLink "CensusOfficeModel" (493 : Nat) ({ cls := "CensusOfficeModel", name := "isNext", desc := "(JJ)Z" } : Jvm.MethodName)) ∈ lw_all := lw_g (lw_at lw_m9 113 rfl) rfl
theorem q2140 : (Jvm.Cond.privateMethod ({ cls := "CensusOfficeModel", name := "isNext", desc := "(JJ)Z" } : Jvm.MethodName)) ∈ lw_tbl := lw_at lw_m9 114 rfl
theorem q2141 : (Jvm.Cond.instanceMethod ({ cls := "CensusOfficeModel", name := "isNext", desc := "(JJ)Z" } : Jvm.MethodName)) ∈ lw_all := lw_g (lw_at lw_m9 115 rfl) rfl
theorem q2142 : (Jvm.Cond.code ({ cls := "CensusOfficeModel", name := "isNext", desc := "(JJ)Z" } : Jvm.MethodName) prog_13_method_85_code (7 : Nat) (Option.some Jvm.ClassFile.FieldType.boolean)) ∈ lw_all := lw_g (lw_at lw_m9 116 rfl) rfl
theorem q2144 : (Jvm.Cond.instanceMethod ({ cls := "CensusOfficeModel", name := "person", desc := "(I)I" } : Jvm.MethodName)) ∈ lw_all := lw_g (lw_at lw_m9 118 rfl) rfl
theorem q2145 : (Jvm.Cond.selects "CensusOfficeModel" ({ cls := "CensusOfficeModel", name := "person", desc := "(I)I" } : Jvm.MethodName) ({ cls := "CensusOfficeModel", name := "person", desc := "(I)I" } : Jvm.MethodName)) ∈ lw_all := lw_g (lw_at lw_m9 119 rfl) rfl
theorem q2146 : (Jvm.Cond.code ({ cls := "CensusOfficeModel", name := "person", desc := "(I)I" } : Jvm.MethodName) prog_13_method_88_code (2 : Nat) (Option.some Jvm.ClassFile.FieldType.int)) ∈ lw_all := lw_g (lw_at lw_m9 120 rfl) rfl
theorem q2147 : (Jvm.Cond.constantLong "CensusOfficeModel" (502 : Nat) (7 : Int64)) ∈ lw_all := lw_g (lw_at lw_m9 121 rfl) rfl
theorem q2149 : (Jvm.Cond.instanceMethod ({ cls := "CensusOfficeModel", name := "release", desc := "(III)I" } : Jvm.MethodName)) ∈ lw_all := lw_g (lw_at lw_m9 123 rfl) rfl
theorem q2150 : (Jvm.Cond.selects "CensusOfficeModel" ({ cls := "CensusOfficeModel", name := "release", desc := "(III)I" } : Jvm.MethodName) ({ cls := "CensusOfficeModel", name := "release", desc := "(III)I" } : Jvm.MethodName)) ∈ lw_all := lw_g (lw_at lw_m9 124 rfl) rfl
theorem q2151 : (Jvm.Cond.code ({ cls := "CensusOfficeModel", name := "release", desc := "(III)I" } : Jvm.MethodName) prog_13_method_89_code (5 : Nat) (Option.some Jvm.ClassFile.FieldType.int)) ∈ lw_all := lw_g (lw_at lw_m9 125 rfl) rfl
theorem q2153 : (Jvm.Cond.instanceMethod ({ cls := "CensusOfficeModel", name := "look", desc := "(IIII)I" } : Jvm.MethodName)) ∈ lw_all := lw_g (lw_at lw_m9 127 rfl) rfl
theorem q2154 : (Jvm.Cond.selects "CensusOfficeModel" ({ cls := "CensusOfficeModel", name := "look", desc := "(IIII)I" } : Jvm.MethodName) ({ cls := "CensusOfficeModel", name := "look", desc := "(IIII)I" } : Jvm.MethodName)) ∈ lw_all := lw_g (lw_at lw_m9 128 rfl) rfl
theorem q2155 : (Jvm.Cond.code ({ cls := "CensusOfficeModel", name := "look", desc := "(IIII)I" } : Jvm.MethodName) prog_13_method_90_code (10 : Nat) (Option.some Jvm.ClassFile.FieldType.int)) ∈ lw_all := lw_g (lw_at lw_m9 129 rfl) rfl
theorem q2157 : (Jvm.Cond.instanceMethod ({ cls := "CensusOfficeModel", name := "looked", desc := "(II)I" } : Jvm.MethodName)) ∈ lw_all := lw_g (lw_at lw_m9 131 rfl) rfl
theorem q2158 : (Jvm.Cond.selects "CensusOfficeModel" ({ cls := "CensusOfficeModel", name := "looked", desc := "(II)I" } : Jvm.MethodName) ({ cls := "CensusOfficeModel", name := "looked", desc := "(II)I" } : Jvm.MethodName)) ∈ lw_all := lw_g (lw_at lw_m9 132 rfl) rfl
theorem q2159 : (Jvm.Cond.code ({ cls := "CensusOfficeModel", name := "looked", desc := "(II)I" } : Jvm.MethodName) prog_13_method_91_code (3 : Nat) (Option.some Jvm.ClassFile.FieldType.int)) ∈ lw_all := lw_g (lw_at lw_m9 133 rfl) rfl
theorem q2161 : (Jvm.Cond.instanceMethod ({ cls := "CensusOfficeModel", name := "told", desc := "(I)I" } : Jvm.MethodName)) ∈ lw_all := lw_g (lw_at lw_m9 135 rfl) rfl
theorem q2162 : (Jvm.Cond.selects "CensusOfficeModel" ({ cls := "CensusOfficeModel", name := "told", desc := "(I)I" } : Jvm.MethodName) ({ cls := "CensusOfficeModel", name := "told", desc := "(I)I" } : Jvm.MethodName)) ∈ lw_all := lw_g (lw_at lw_m9 136 rfl) rfl
theorem q2163 : (Jvm.Cond.code ({ cls := "CensusOfficeModel", name := "told", desc := "(I)I" } : Jvm.MethodName) prog_13_method_92_code (4 : Nat) (Option.some Jvm.ClassFile.FieldType.int)) ∈ lw_all := lw_g (lw_at lw_m9 137 rfl) rfl
theorem in_X5 : ∀ w ∈ wsX50, w ∈ lw_all := lw_in wsX50 [1594, 1596, 1598, 1600, 1602, 1604, 1606, 1608, 1610, 1612, 1614, 1616, 1618, 1620, 1622, 1624, 1626, 1628, 1630, 1632, 1634, 1636, 1638, 1640, 1642, 1644, 1646, 1648, 1650, 1652, 1654, 1656, 1658, 1660, 1662, 1664, 1666, 1668, 1670, 1672, 1674, 1676, 1678, 1680, 1682, 1684, 1686, 1688, 1690, 1692, 1694, 1696, 1698, 1700, 1702, 1704, 1706, 1708, 1710, 1712, 1714, 1716, 1718, 1720, 1722, 1724, 1726, 1728, 1730, 1732, 1734, 1736, 1738, 1740, 1742, 1744, 1746, 1748, 1750, 1752, 1754, 1756, 1758, 1760, 1762, 1764, 1766, 1768, 1770, 1772, 1774] (by decide +kernel) (by decide +kernel)
/-! CensusOffice$Text -/
def RX6 : String := "CensusOffice$Text"
def TX6 : u_T := fun k => match k with
  | 0 => ("CensusOffice$Text", "made", "LCensusOffice$Form;", true)
  | 1 => ("CensusOffice$Text", "at", "I", false)
  | 2 => ("CensusOffice$Text", "start", "I", false)
  | 3 => ("CensusOffice$Text", "token", "I", false)
  | _ => ("CensusOffice$Text", "this$0", "LCensusOffice;", true)
def tyX6 : Nat → FieldType := fun k => match k with
  | 0 => .object "CensusOffice$Form"
  | 1 => .int
  | 2 => .int
  | 3 => .int
  | _ => .object "CensusOffice"
abbrev wsX60 : List Cond := u_ws RX6 TX6 5
theorem nmX6 : ∀ a, a < 5 → ∀ b, b < 5 → a ≠ b → (TX6 a).2.1 ≠ (TX6 b).2.1 := by decide +kernel
theorem tyX6_ok : ∀ k, k < 5 → parseFieldDescriptor (TX6 k).2.2.1 = some (tyX6 k) := by decide +kernel
abbrev cX6_init : ByteArray := prog_11_method_1_code
def yX6_init : MethodName := ⟨RX6, "<init>", "(LCensusOffice;)V"⟩
abbrev cX6_form : ByteArray := prog_11_method_14_code
def yX6_form : MethodName := ⟨RX6, "form", "()LCensusOffice$Form;"⟩
abbrev cX6_next : ByteArray := prog_11_method_5_code
def yX6_next : MethodName := ⟨RX6, "next", "()V"⟩
abbrev cX6_byteAt : ByteArray := prog_11_method_2_code
def yX6_byteAt : MethodName := ⟨RX6, "byteAt", "(I)I"⟩
abbrev cX6_isLetter : ByteArray := prog_11_method_3_code
def yX6_isLetter : MethodName := ⟨RX6, "isLetter", "(I)Z"⟩
abbrev cX6_isDigit : ByteArray := prog_11_method_4_code
def yX6_isDigit : MethodName := ⟨RX6, "isDigit", "(I)Z"⟩
abbrev cX6_want : ByteArray := prog_11_method_8_code
def yX6_want : MethodName := ⟨RX6, "want", "(Z)V"⟩
abbrev cX6_fault : ByteArray := prog_11_method_7_code
def yX6_fault : MethodName := ⟨RX6, "fault", "()LCensusOffice$Fault;"⟩
abbrev cX6_statement : ByteArray := prog_11_method_15_code
def yX6_statement : MethodName := ⟨RX6, "statement", "()V"⟩
abbrev cX6_is : ByteArray := prog_11_method_6_code
def yX6_is : MethodName := ⟨RX6, "is", "(Ljava/lang/String;)Z"⟩
abbrev cX6_told : ByteArray := prog_11_method_16_code
def yX6_told : MethodName := ⟨RX6, "told", "(I)V"⟩
abbrev cX6_isName : ByteArray := prog_11_method_12_code
def yX6_isName : MethodName := ⟨RX6, "isName", "()Z"⟩
abbrev cX6_nameHere : ByteArray := prog_11_method_10_code
def yX6_nameHere : MethodName := ⟨RX6, "nameHere", "()J"⟩
abbrev cX6_item : ByteArray := prog_11_method_11_code
def yX6_item : MethodName := ⟨RX6, "item", "(J)I"⟩
abbrev cX6_bound : ByteArray := prog_11_method_17_code
def yX6_bound : MethodName := ⟨RX6, "bound", "(I)I"⟩
abbrev cX6_passes : ByteArray := prog_11_method_9_code
def yX6_passes : MethodName := ⟨RX6, "passes", "(Ljava/lang/String;)Z"⟩
abbrev cX6_digits : ByteArray := prog_11_method_13_code
def yX6_digits : MethodName := ⟨RX6, "digits", "()I"⟩
abbrev cX6_condition : ByteArray := prog_11_method_18_code
def yX6_condition : MethodName := ⟨RX6, "condition", "()V"⟩
abbrev cX6_cond : ByteArray := prog_11_method_19_code
def yX6_cond : MethodName := ⟨RX6, "cond", "()V"⟩
abbrev cX6_conds : ByteArray := prog_11_method_20_code
def yX6_conds : MethodName := ⟨RX6, "conds", "()V"⟩
abbrev cX6_cmp : ByteArray := prog_11_method_21_code
def yX6_cmp : MethodName := ⟨RX6, "cmp", "()V"⟩
abbrev cX6_expr : ByteArray := prog_11_method_22_code
def yX6_expr : MethodName := ⟨RX6, "expr", "()V"⟩
abbrev cX6_term : ByteArray := prog_11_method_23_code
def yX6_term : MethodName := ⟨RX6, "term", "()V"⟩
theorem q121 : (Jvm.Cond.initialized "CensusOffice$Text") ∈ lw_all := lw_g (lw_at lw_m1 15 rfl) rfl
theorem q150 : (Jvm.Cond.fieldLinkNest "CensusOffice$Text" (76 : Nat) "CensusOffice$Form" "statements" "I" "CensusOffice") ∈ lw_tbl := lw_at lw_m1 44 rfl
theorem q153 : (Jvm.Cond.fieldLinkNest "CensusOffice$Text" (134 : Nat) "CensusOffice$Form" "asks" "I" "CensusOffice") ∈ lw_tbl := lw_at lw_m1 47 rfl
theorem q155 : (Jvm.Cond.fieldLinkNest "CensusOffice$Text" (81 : Nat) "CensusOffice$Form" "sort" "[I" "CensusOffice") ∈ lw_tbl := lw_at lw_m1 49 rfl
theorem q159 : (Jvm.Cond.fieldLinkNest "CensusOffice$Text" (125 : Nat) "CensusOffice$Form" "low" "[I" "CensusOffice") ∈ lw_tbl := lw_at lw_m1 53 rfl
theorem q163 : (Jvm.Cond.fieldLinkNest "CensusOffice$Text" (128 : Nat) "CensusOffice$Form" "high" "[I" "CensusOffice") ∈ lw_tbl := lw_at lw_m1 57 rfl
theorem q167 : (Jvm.Cond.fieldLinkNest "CensusOffice$Text" (131 : Nat) "CensusOffice$Form" "cost" "[I" "CensusOffice") ∈ lw_tbl := lw_at lw_m1 61 rfl
theorem q170 : (Jvm.Cond.fieldLinkNest "CensusOffice$Text" (85 : Nat) "CensusOffice$Form" "name" "[J" "CensusOffice") ∈ lw_tbl := lw_at lw_m1 64 rfl
theorem q174 : (Jvm.Cond.fieldLinkNest "CensusOffice$Text" (119 : Nat) "CensusOffice$Form" "ordered" "I" "CensusOffice") ∈ lw_tbl := lw_at lw_m1 68 rfl
theorem q176 : (Jvm.Cond.fieldLinkNest "CensusOffice$Text" (117 : Nat) "CensusOffice$Form" "begin" "[I" "CensusOffice") ∈ lw_tbl := lw_at lw_m1 70 rfl
theorem q179 : (Jvm.Cond.fieldLinkNest "CensusOffice$Text" (122 : Nat) "CensusOffice$Form" "middle" "[I" "CensusOffice") ∈ lw_tbl := lw_at lw_m1 73 rfl
theorem q182 : (Jvm.Cond.fieldLinkNest "CensusOffice$Text" (156 : Nat) "CensusOffice$Form" "end" "[I" "CensusOffice") ∈ lw_tbl := lw_at lw_m1 76 rfl
theorem q318 : (Jvm.Cond.fieldLinkNest "CensusOffice$Text" (15 : Nat) "CensusOffice" "spare" "LCensusOffice$Form;" "CensusOffice") ∈ lw_tbl := lw_at lw_m1 212 rfl
theorem q321 : (Jvm.Cond.fieldLinkNest "CensusOffice$Text" (26 : Nat) "CensusOffice" "tape" "[B" "CensusOffice") ∈ lw_tbl := lw_at lw_m1 215 rfl
theorem q322 : (Jvm.Cond.fieldLinkNest "CensusOffice$Text" (22 : Nat) "CensusOffice" "taped" "I" "CensusOffice") ∈ lw_tbl := lw_at lw_m1 216 rfl
theorem q692 : (Jvm.Cond.instantiable "CensusOffice$Text" (5 : Nat)) ∈ lw_all := lw_g (lw_at lw_m3 106 rfl) rfl
theorem q694 : (Jvm.Cond.instanceMethod ({ cls := "CensusOffice$Text", name := "<init>", desc := "(LCensusOffice;)V" } : Jvm.MethodName)) ∈ lw_all := lw_g (lw_at lw_m3 108 rfl) rfl
theorem q695 : (Jvm.Cond.code ({ cls := "CensusOffice$Text", name := "<init>", desc := "(LCensusOffice;)V" } : Jvm.MethodName) prog_11_method_1_code (2 : Nat) (Option.none : Option Jvm.ClassFile.FieldType)) ∈ lw_all := lw_g (lw_at lw_m3 109 rfl) rfl
theorem q696 : (Jvm.Cond.methodLink "CensusOffice$Text" (9 : Nat) ({ cls := "java/lang/Object", name := "<init>", desc := "()V" } : Jvm.MethodName)) ∈ lw_all := lw_g (lw_at lw_m3 110 rfl) rfl
theorem q697 : (Jvm.Cond.fieldLink "CensusOffice$Text" (19 : Nat) "CensusOffice$Text" "made" "LCensusOffice$Form;") ∈ lw_all := lw_g (lw_at lw_m3 111 rfl) rfl
theorem q698 : (Jvm.Cond.fieldLink "CensusOffice$Text" (30 : Nat) "CensusOffice$Text" "at" "I") ∈ lw_all := lw_g (lw_at lw_m3 112 rfl) rfl
theorem q699 : (Jvm.Cond.fieldLink "CensusOffice$Text" (37 : Nat) "CensusOffice$Text" "start" "I") ∈ lw_all := lw_g (lw_at lw_m3 113 rfl) rfl
theorem q700 : (Jvm.Cond.fieldLink "CensusOffice$Text" (40 : Nat) "CensusOffice$Text" "token" "I") ∈ lw_all := lw_g (lw_at lw_m3 114 rfl) rfl
theorem q701 : (Jvm.Cond.fieldLink "CensusOffice$Text" (3 : Nat) "CensusOffice$Text" "this$0" "LCensusOffice;") ∈ lw_all := lw_g (lw_at lw_m3 115 rfl) rfl
theorem q702 : (Jvm.Cond.laysFinal "CensusOffice$Text" "CensusOffice$Text" "made" "LCensusOffice$Form;") ∈ lw_all := lw_g (lw_at lw_m3 116 rfl) rfl
theorem q703 : (Jvm.Cond.soleField "CensusOffice$Text" "made") ∈ lw_all := lw_g (lw_at lw_m3 117 rfl) rfl
theorem q704 : (Jvm.Cond.lays "CensusOffice$Text" "CensusOffice$Text" "at" "I") ∈ lw_all := lw_g (lw_at lw_m3 118 rfl) rfl
theorem q705 : (Jvm.Cond.soleField "CensusOffice$Text" "at") ∈ lw_all := lw_g (lw_at lw_m3 119 rfl) rfl
theorem q706 : (Jvm.Cond.lays "CensusOffice$Text" "CensusOffice$Text" "start" "I") ∈ lw_all := lw_g (lw_at lw_m3 120 rfl) rfl
theorem q707 : (Jvm.Cond.soleField "CensusOffice$Text" "start") ∈ lw_all := lw_g (lw_at lw_m3 121 rfl) rfl
theorem q708 : (Jvm.Cond.lays "CensusOffice$Text" "CensusOffice$Text" "token" "I") ∈ lw_all := lw_g (lw_at lw_m3 122 rfl) rfl
theorem q709 : (Jvm.Cond.soleField "CensusOffice$Text" "token") ∈ lw_all := lw_g (lw_at lw_m3 123 rfl) rfl
theorem q710 : (Jvm.Cond.laysFinal "CensusOffice$Text" "CensusOffice$Text" "this$0" "LCensusOffice;") ∈ lw_all := lw_g (lw_at lw_m3 124 rfl) rfl
theorem q711 : (Jvm.Cond.soleField "CensusOffice$Text" "this$0") ∈ lw_all := lw_g (lw_at lw_m3 125 rfl) rfl
theorem q712 : (Jvm.Cond.superclass "CensusOffice$Text" "java/lang/Object") ∈ lw_all := lw_g (lw_at lw_m3 126 rfl) rfl
theorem q714 : (Jvm.Cond.instanceMethod ({ cls := "CensusOffice$Text", name := "form", desc := "()LCensusOffice$Form;" } : Jvm.MethodName)) ∈ lw_all := lw_g (lw_at lw_m3 128 rfl) rfl
theorem q715 : (Jvm.Cond.selects "CensusOffice$Text" ({ cls := "CensusOffice$Text", name := "form", desc := "()LCensusOffice$Form;" } : Jvm.MethodName) ({ cls := "CensusOffice$Text", name := "form", desc := "()LCensusOffice$Form;" } : Jvm.MethodName)) ∈ lw_all := lw_g (lw_at lw_m3 129 rfl) rfl
theorem q716 : (Jvm.Cond.code ({ cls := "CensusOffice$Text", name := "form", desc := "()LCensusOffice$Form;" } : Jvm.MethodName) prog_11_method_14_code (1 : Nat) (Option.some (Jvm.ClassFile.FieldType.object "CensusOffice$Form"))) ∈ lw_all := lw_g (lw_at lw_m3 130 rfl) rfl
theorem q717 : (Jvm.Cond.methodLink "CensusOffice$Text" (105 : Nat) ({ cls := "CensusOffice$Form", name := "begin", desc := "()V" } : Jvm.MethodName)) ∈ lw_all := lw_g (lw_at lw_m3 131 rfl) rfl
theorem q721 : (Jvm.Cond.methodLink "CensusOffice$Text" (73 : Nat) ({ cls := "CensusOffice$Text", name := "next", desc := "()V" } : Jvm.MethodName)) ∈ lw_all := lw_g (lw_at lw_m3 135 rfl) rfl
theorem q722 : (Jvm.Cond.privateMethod ({ cls := "CensusOffice$Text", name := "next", desc := "()V" } : Jvm.MethodName)) ∈ lw_tbl := lw_at lw_m3 136 rfl
theorem q723 : (Jvm.Cond.instanceMethod ({ cls := "CensusOffice$Text", name := "next", desc := "()V" } : Jvm.MethodName)) ∈ lw_all := lw_g (lw_at lw_m3 137 rfl) rfl
theorem q724 : (Jvm.Cond.code ({ cls := "CensusOffice$Text", name := "next", desc := "()V" } : Jvm.MethodName) prog_11_method_5_code (2 : Nat) (Option.none : Option Jvm.ClassFile.FieldType)) ∈ lw_all := lw_g (lw_at lw_m3 138 rfl) rfl
theorem q725 : (Jvm.Cond.methodLink "CensusOffice$Text" (33 : Nat) ({ cls := "CensusOffice$Text", name := "byteAt", desc := "(I)I" } : Jvm.MethodName)) ∈ lw_all := lw_g (lw_at lw_m3 139 rfl) rfl
theorem q726 : (Jvm.Cond.privateMethod ({ cls := "CensusOffice$Text", name := "byteAt", desc := "(I)I" } : Jvm.MethodName)) ∈ lw_tbl := lw_at lw_m3 140 rfl
theorem q727 : (Jvm.Cond.instanceMethod ({ cls := "CensusOffice$Text", name := "byteAt", desc := "(I)I" } : Jvm.MethodName)) ∈ lw_all := lw_g (lw_at lw_m3 141 rfl) rfl
theorem q728 : (Jvm.Cond.code ({ cls := "CensusOffice$Text", name := "byteAt", desc := "(I)I" } : Jvm.MethodName) prog_11_method_2_code (2 : Nat) (Option.some Jvm.ClassFile.FieldType.int)) ∈ lw_all := lw_g (lw_at lw_m3 142 rfl) rfl
theorem q729 : (Jvm.Cond.methodLink "CensusOffice$Text" (43 : Nat) ({ cls := "CensusOffice$Text", name := "isLetter", desc := "(I)Z" } : Jvm.MethodName)) ∈ lw_all := lw_g (lw_at lw_m3 143 rfl) rfl
theorem q730 : (Jvm.Cond.privateMethod ({ cls := "CensusOffice$Text", name := "isLetter", desc := "(I)Z" } : Jvm.MethodName)) ∈ lw_tbl := lw_at lw_m3 144 rfl
theorem q731 : (Jvm.Cond.instanceMethod ({ cls := "CensusOffice$Text", name := "isLetter", desc := "(I)Z" } : Jvm.MethodName)) ∈ lw_all := lw_g (lw_at lw_m3 145 rfl) rfl
theorem q732 : (Jvm.Cond.code ({ cls := "CensusOffice$Text", name := "isLetter", desc := "(I)Z" } : Jvm.MethodName) prog_11_method_3_code (2 : Nat) (Option.some Jvm.ClassFile.FieldType.boolean)) ∈ lw_all := lw_g (lw_at lw_m3 146 rfl) rfl
theorem q733 : (Jvm.Cond.methodLink "CensusOffice$Text" (47 : Nat) ({ cls := "CensusOffice$Text", name := "isDigit", desc := "(I)Z" } : Jvm.MethodName)) ∈ lw_all := lw_g (lw_at lw_m3 147 rfl) rfl
theorem q734 : (Jvm.Cond.privateMethod ({ cls := "CensusOffice$Text", name := "isDigit", desc := "(I)Z" } : Jvm.MethodName)) ∈ lw_tbl := lw_at lw_m3 148 rfl
theorem q735 : (Jvm.Cond.instanceMethod ({ cls := "CensusOffice$Text", name := "isDigit", desc := "(I)Z" } : Jvm.MethodName)) ∈ lw_all := lw_g (lw_at lw_m3 149 rfl) rfl
theorem q736 : (Jvm.Cond.code ({ cls := "CensusOffice$Text", name := "isDigit", desc := "(I)Z" } : Jvm.MethodName) prog_11_method_4_code (2 : Nat) (Option.some Jvm.ClassFile.FieldType.boolean)) ∈ lw_all := lw_g (lw_at lw_m3 150 rfl) rfl
theorem q737 : (Jvm.Cond.methodLink "CensusOffice$Text" (108 : Nat) ({ cls := "CensusOffice$Text", name := "want", desc := "(Z)V" } : Jvm.MethodName)) ∈ lw_all := lw_g (lw_at lw_m3 151 rfl) rfl
theorem q738 : (Jvm.Cond.privateMethod ({ cls := "CensusOffice$Text", name := "want", desc := "(Z)V" } : Jvm.MethodName)) ∈ lw_tbl := lw_at lw_m3 152 rfl
theorem q739 : (Jvm.Cond.instanceMethod ({ cls := "CensusOffice$Text", name := "want", desc := "(Z)V" } : Jvm.MethodName)) ∈ lw_all := lw_g (lw_at lw_m3 153 rfl) rfl
theorem q740 : (Jvm.Cond.code ({ cls := "CensusOffice$Text", name := "want", desc := "(Z)V" } : Jvm.MethodName) prog_11_method_8_code (2 : Nat) (Option.none : Option Jvm.ClassFile.FieldType)) ∈ lw_all := lw_g (lw_at lw_m3 154 rfl) rfl
theorem q741 : (Jvm.Cond.methodLink "CensusOffice$Text" (65 : Nat) ({ cls := "CensusOffice$Text", name := "fault", desc := "()LCensusOffice$Fault;" } : Jvm.MethodName)) ∈ lw_all := lw_g (lw_at lw_m3 155 rfl) rfl
theorem q742 : (Jvm.Cond.privateMethod ({ cls := "CensusOffice$Text", name := "fault", desc := "()LCensusOffice$Fault;" } : Jvm.MethodName)) ∈ lw_tbl := lw_at lw_m3 156 rfl
theorem q743 : (Jvm.Cond.instanceMethod ({ cls := "CensusOffice$Text", name := "fault", desc := "()LCensusOffice$Fault;" } : Jvm.MethodName)) ∈ lw_all := lw_g (lw_at lw_m3 157 rfl) rfl
theorem q744 : (Jvm.Cond.code ({ cls := "CensusOffice$Text", name := "fault", desc := "()LCensusOffice$Fault;" } : Jvm.MethodName) prog_11_method_7_code (1 : Nat) (Option.some (Jvm.ClassFile.FieldType.object "CensusOffice$Fault"))) ∈ lw_all := lw_g (lw_at lw_m3 158 rfl) rfl
theorem q745 : (Jvm.Cond.classLink "CensusOffice$Text" (60 : Nat) "CensusOffice$Fault") ∈ lw_all := lw_g (lw_at lw_m3 159 rfl) rfl
theorem q754 : (Jvm.Cond.methodLink "CensusOffice$Text" (62 : Nat) ({ cls := "CensusOffice$Fault", name := "<init>", desc := "(I)V" } : Jvm.MethodName)) ∈ lw_all := lw_g (lw_at lw_m3 168 rfl) rfl
theorem q770 : (Jvm.Cond.methodLink "CensusOffice$Text" (112 : Nat) ({ cls := "CensusOffice$Text", name := "statement", desc := "()V" } : Jvm.MethodName)) ∈ lw_all := lw_g (lw_at lw_m3 184 rfl) rfl
theorem q771 : (Jvm.Cond.privateMethod ({ cls := "CensusOffice$Text", name := "statement", desc := "()V" } : Jvm.MethodName)) ∈ lw_tbl := lw_at lw_m3 185 rfl
theorem q772 : (Jvm.Cond.instanceMethod ({ cls := "CensusOffice$Text", name := "statement", desc := "()V" } : Jvm.MethodName)) ∈ lw_all := lw_g (lw_at lw_m3 186 rfl) rfl
theorem q773 : (Jvm.Cond.code ({ cls := "CensusOffice$Text", name := "statement", desc := "()V" } : Jvm.MethodName) prog_11_method_15_code (3 : Nat) (Option.none : Option Jvm.ClassFile.FieldType)) ∈ lw_all := lw_g (lw_at lw_m3 187 rfl) rfl
theorem q774 : (Jvm.Cond.stringRef "CensusOffice$Text" (89 : Nat) "ask") ∈ lw_tbl := lw_at lw_m3 188 rfl
theorem q775 : (Jvm.Cond.methodLink "CensusOffice$Text" (69 : Nat) ({ cls := "CensusOffice$Text", name := "is", desc := "(Ljava/lang/String;)Z" } : Jvm.MethodName)) ∈ lw_all := lw_g (lw_at lw_m3 189 rfl) rfl
theorem q776 : (Jvm.Cond.privateMethod ({ cls := "CensusOffice$Text", name := "is", desc := "(Ljava/lang/String;)Z" } : Jvm.MethodName)) ∈ lw_tbl := lw_at lw_m3 190 rfl
theorem q777 : (Jvm.Cond.instanceMethod ({ cls := "CensusOffice$Text", name := "is", desc := "(Ljava/lang/String;)Z" } : Jvm.MethodName)) ∈ lw_all := lw_g (lw_at lw_m3 191 rfl) rfl
theorem q778 : (Jvm.Cond.code ({ cls := "CensusOffice$Text", name := "is", desc := "(Ljava/lang/String;)Z" } : Jvm.MethodName) prog_11_method_6_code (4 : Nat) (Option.some Jvm.ClassFile.FieldType.boolean)) ∈ lw_all := lw_g (lw_at lw_m3 192 rfl) rfl
theorem q779 : (Jvm.Cond.methodLink "CensusOffice$Text" (50 : Nat) ({ cls := "java/lang/String", name := "length", desc := "()I" } : Jvm.MethodName)) ∈ lw_all := lw_g (lw_at lw_m3 193 rfl) rfl
theorem q789 : (Jvm.Cond.methodLink "CensusOffice$Text" (56 : Nat) ({ cls := "java/lang/String", name := "charAt", desc := "(I)C" } : Jvm.MethodName)) ∈ lw_all := lw_g (lw_at lw_m3 203 rfl) rfl
theorem q827 : (Jvm.Cond.methodLink "CensusOffice$Text" (137 : Nat) ({ cls := "CensusOffice$Text", name := "told", desc := "(I)V" } : Jvm.MethodName)) ∈ lw_all := lw_g (lw_at lw_m4 1 rfl) rfl
theorem q828 : (Jvm.Cond.privateMethod ({ cls := "CensusOffice$Text", name := "told", desc := "(I)V" } : Jvm.MethodName)) ∈ lw_tbl := lw_at lw_m4 2 rfl
theorem q829 : (Jvm.Cond.instanceMethod ({ cls := "CensusOffice$Text", name := "told", desc := "(I)V" } : Jvm.MethodName)) ∈ lw_all := lw_g (lw_at lw_m4 3 rfl) rfl
theorem q830 : (Jvm.Cond.code ({ cls := "CensusOffice$Text", name := "told", desc := "(I)V" } : Jvm.MethodName) prog_11_method_16_code (2 : Nat) (Option.none : Option Jvm.ClassFile.FieldType)) ∈ lw_all := lw_g (lw_at lw_m4 4 rfl) rfl
theorem q831 : (Jvm.Cond.methodLink "CensusOffice$Text" (159 : Nat) ({ cls := "CensusOffice$Text", name := "isName", desc := "()Z" } : Jvm.MethodName)) ∈ lw_all := lw_g (lw_at lw_m4 5 rfl) rfl
theorem q832 : (Jvm.Cond.privateMethod ({ cls := "CensusOffice$Text", name := "isName", desc := "()Z" } : Jvm.MethodName)) ∈ lw_tbl := lw_at lw_m4 6 rfl
theorem q833 : (Jvm.Cond.instanceMethod ({ cls := "CensusOffice$Text", name := "isName", desc := "()Z" } : Jvm.MethodName)) ∈ lw_all := lw_g (lw_at lw_m4 7 rfl) rfl
theorem q834 : (Jvm.Cond.code ({ cls := "CensusOffice$Text", name := "isName", desc := "()Z" } : Jvm.MethodName) prog_11_method_12_code (1 : Nat) (Option.some Jvm.ClassFile.FieldType.boolean)) ∈ lw_all := lw_g (lw_at lw_m4 8 rfl) rfl
theorem q835 : (Jvm.Cond.stringRef "CensusOffice$Text" (91 : Nat) "let") ∈ lw_tbl := lw_at lw_m4 9 rfl
theorem q836 : (Jvm.Cond.stringRef "CensusOffice$Text" (93 : Nat) "must") ∈ lw_tbl := lw_at lw_m4 10 rfl
theorem q837 : (Jvm.Cond.stringRef "CensusOffice$Text" (95 : Nat) "warn") ∈ lw_tbl := lw_at lw_m4 11 rfl
theorem q838 : (Jvm.Cond.stringRef "CensusOffice$Text" (97 : Nat) "if") ∈ lw_tbl := lw_at lw_m4 12 rfl
theorem q839 : (Jvm.Cond.stringRef "CensusOffice$Text" (99 : Nat) "and") ∈ lw_tbl := lw_at lw_m4 13 rfl
theorem q840 : (Jvm.Cond.stringRef "CensusOffice$Text" (101 : Nat) "or") ∈ lw_tbl := lw_at lw_m4 14 rfl
theorem q841 : (Jvm.Cond.stringRef "CensusOffice$Text" (103 : Nat) "reg") ∈ lw_tbl := lw_at lw_m4 15 rfl
theorem q842 : (Jvm.Cond.methodLink "CensusOffice$Text" (163 : Nat) ({ cls := "CensusOffice$Text", name := "nameHere", desc := "()J" } : Jvm.MethodName)) ∈ lw_all := lw_g (lw_at lw_m4 16 rfl) rfl
theorem q843 : (Jvm.Cond.privateMethod ({ cls := "CensusOffice$Text", name := "nameHere", desc := "()J" } : Jvm.MethodName)) ∈ lw_tbl := lw_at lw_m4 17 rfl
theorem q844 : (Jvm.Cond.instanceMethod ({ cls := "CensusOffice$Text", name := "nameHere", desc := "()J" } : Jvm.MethodName)) ∈ lw_all := lw_g (lw_at lw_m4 18 rfl) rfl
theorem q845 : (Jvm.Cond.code ({ cls := "CensusOffice$Text", name := "nameHere", desc := "()J" } : Jvm.MethodName) prog_11_method_10_code (4 : Nat) (Option.some Jvm.ClassFile.FieldType.long)) ∈ lw_all := lw_g (lw_at lw_m4 19 rfl) rfl
theorem q846 : (Jvm.Cond.methodLink "CensusOffice$Text" (167 : Nat) ({ cls := "CensusOffice$Text", name := "item", desc := "(J)I" } : Jvm.MethodName)) ∈ lw_all := lw_g (lw_at lw_m4 20 rfl) rfl
theorem q847 : (Jvm.Cond.privateMethod ({ cls := "CensusOffice$Text", name := "item", desc := "(J)I" } : Jvm.MethodName)) ∈ lw_tbl := lw_at lw_m4 21 rfl
theorem q848 : (Jvm.Cond.instanceMethod ({ cls := "CensusOffice$Text", name := "item", desc := "(J)I" } : Jvm.MethodName)) ∈ lw_all := lw_g (lw_at lw_m4 22 rfl) rfl
theorem q849 : (Jvm.Cond.code ({ cls := "CensusOffice$Text", name := "item", desc := "(J)I" } : Jvm.MethodName) prog_11_method_11_code (5 : Nat) (Option.some Jvm.ClassFile.FieldType.int)) ∈ lw_all := lw_g (lw_at lw_m4 23 rfl) rfl
theorem q850 : (Jvm.Cond.constant "CensusOffice$Text" (140 : Nat) (-1000000 : Int32)) ∈ lw_all := lw_g (lw_at lw_m4 24 rfl) rfl
theorem q851 : (Jvm.Cond.methodLink "CensusOffice$Text" (141 : Nat) ({ cls := "CensusOffice$Text", name := "bound", desc := "(I)I" } : Jvm.MethodName)) ∈ lw_all := lw_g (lw_at lw_m4 25 rfl) rfl
theorem q852 : (Jvm.Cond.privateMethod ({ cls := "CensusOffice$Text", name := "bound", desc := "(I)I" } : Jvm.MethodName)) ∈ lw_tbl := lw_at lw_m4 26 rfl
theorem q853 : (Jvm.Cond.instanceMethod ({ cls := "CensusOffice$Text", name := "bound", desc := "(I)I" } : Jvm.MethodName)) ∈ lw_all := lw_g (lw_at lw_m4 27 rfl) rfl
theorem q854 : (Jvm.Cond.code ({ cls := "CensusOffice$Text", name := "bound", desc := "(I)I" } : Jvm.MethodName) prog_11_method_17_code (5 : Nat) (Option.some Jvm.ClassFile.FieldType.int)) ∈ lw_all := lw_g (lw_at lw_m4 28 rfl) rfl
theorem q855 : (Jvm.Cond.stringRef "CensusOffice$Text" (171 : Nat) "-") ∈ lw_tbl := lw_at lw_m4 29 rfl
theorem q856 : (Jvm.Cond.methodLink "CensusOffice$Text" (147 : Nat) ({ cls := "CensusOffice$Text", name := "passes", desc := "(Ljava/lang/String;)Z" } : Jvm.MethodName)) ∈ lw_all := lw_g (lw_at lw_m4 30 rfl) rfl
theorem q857 : (Jvm.Cond.privateMethod ({ cls := "CensusOffice$Text", name := "passes", desc := "(Ljava/lang/String;)Z" } : Jvm.MethodName)) ∈ lw_tbl := lw_at lw_m4 31 rfl
theorem q858 : (Jvm.Cond.instanceMethod ({ cls := "CensusOffice$Text", name := "passes", desc := "(Ljava/lang/String;)Z" } : Jvm.MethodName)) ∈ lw_all := lw_g (lw_at lw_m4 32 rfl) rfl
theorem q859 : (Jvm.Cond.code ({ cls := "CensusOffice$Text", name := "passes", desc := "(Ljava/lang/String;)Z" } : Jvm.MethodName) prog_11_method_9_code (2 : Nat) (Option.some Jvm.ClassFile.FieldType.boolean)) ∈ lw_all := lw_g (lw_at lw_m4 33 rfl) rfl
theorem q860 : (Jvm.Cond.methodLink "CensusOffice$Text" (173 : Nat) ({ cls := "CensusOffice$Text", name := "digits", desc := "()I" } : Jvm.MethodName)) ∈ lw_all := lw_g (lw_at lw_m4 34 rfl) rfl
theorem q861 : (Jvm.Cond.privateMethod ({ cls := "CensusOffice$Text", name := "digits", desc := "()I" } : Jvm.MethodName)) ∈ lw_tbl := lw_at lw_m4 35 rfl
theorem q862 : (Jvm.Cond.instanceMethod ({ cls := "CensusOffice$Text", name := "digits", desc := "()I" } : Jvm.MethodName)) ∈ lw_all := lw_g (lw_at lw_m4 36 rfl) rfl
theorem q863 : (Jvm.Cond.code ({ cls := "CensusOffice$Text", name := "digits", desc := "()I" } : Jvm.MethodName) prog_11_method_13_code (3 : Nat) (Option.some Jvm.ClassFile.FieldType.int)) ∈ lw_all := lw_g (lw_at lw_m4 37 rfl) rfl
theorem q864 : (Jvm.Cond.methodLink "CensusOffice$Text" (144 : Nat) ({ cls := "CensusOffice$Text", name := "condition", desc := "()V" } : Jvm.MethodName)) ∈ lw_all := lw_g (lw_at lw_m4 38 rfl) rfl
theorem q865 : (Jvm.Cond.privateMethod ({ cls := "CensusOffice$Text", name := "condition", desc := "()V" } : Jvm.MethodName)) ∈ lw_tbl := lw_at lw_m4 39 rfl
theorem q866 : (Jvm.Cond.instanceMethod ({ cls := "CensusOffice$Text", name := "condition", desc := "()V" } : Jvm.MethodName)) ∈ lw_all := lw_g (lw_at lw_m4 40 rfl) rfl
theorem q867 : (Jvm.Cond.code ({ cls := "CensusOffice$Text", name := "condition", desc := "()V" } : Jvm.MethodName) prog_11_method_18_code (1 : Nat) (Option.none : Option Jvm.ClassFile.FieldType)) ∈ lw_all := lw_g (lw_at lw_m4 41 rfl) rfl
theorem q868 : (Jvm.Cond.methodLink "CensusOffice$Text" (153 : Nat) ({ cls := "CensusOffice$Text", name := "cond", desc := "()V" } : Jvm.MethodName)) ∈ lw_all := lw_g (lw_at lw_m4 42 rfl) rfl
theorem q869 : (Jvm.Cond.privateMethod ({ cls := "CensusOffice$Text", name := "cond", desc := "()V" } : Jvm.MethodName)) ∈ lw_tbl := lw_at lw_m4 43 rfl
theorem q870 : (Jvm.Cond.instanceMethod ({ cls := "CensusOffice$Text", name := "cond", desc := "()V" } : Jvm.MethodName)) ∈ lw_all := lw_g (lw_at lw_m4 44 rfl) rfl
theorem q871 : (Jvm.Cond.code ({ cls := "CensusOffice$Text", name := "cond", desc := "()V" } : Jvm.MethodName) prog_11_method_19_code (1 : Nat) (Option.none : Option Jvm.ClassFile.FieldType)) ∈ lw_all := lw_g (lw_at lw_m4 45 rfl) rfl
theorem q872 : (Jvm.Cond.methodLink "CensusOffice$Text" (176 : Nat) ({ cls := "CensusOffice$Text", name := "conds", desc := "()V" } : Jvm.MethodName)) ∈ lw_all := lw_g (lw_at lw_m4 46 rfl) rfl
theorem q873 : (Jvm.Cond.privateMethod ({ cls := "CensusOffice$Text", name := "conds", desc := "()V" } : Jvm.MethodName)) ∈ lw_tbl := lw_at lw_m4 47 rfl
theorem q874 : (Jvm.Cond.instanceMethod ({ cls := "CensusOffice$Text", name := "conds", desc := "()V" } : Jvm.MethodName)) ∈ lw_all := lw_g (lw_at lw_m4 48 rfl) rfl
theorem q875 : (Jvm.Cond.code ({ cls := "CensusOffice$Text", name := "conds", desc := "()V" } : Jvm.MethodName) prog_11_method_20_code (1 : Nat) (Option.none : Option Jvm.ClassFile.FieldType)) ∈ lw_all := lw_g (lw_at lw_m4 49 rfl) rfl
theorem q876 : (Jvm.Cond.methodLink "CensusOffice$Text" (183 : Nat) ({ cls := "CensusOffice$Text", name := "cmp", desc := "()V" } : Jvm.MethodName)) ∈ lw_all := lw_g (lw_at lw_m4 50 rfl) rfl
theorem q877 : (Jvm.Cond.privateMethod ({ cls := "CensusOffice$Text", name := "cmp", desc := "()V" } : Jvm.MethodName)) ∈ lw_tbl := lw_at lw_m4 51 rfl
theorem q878 : (Jvm.Cond.instanceMethod ({ cls := "CensusOffice$Text", name := "cmp", desc := "()V" } : Jvm.MethodName)) ∈ lw_all := lw_g (lw_at lw_m4 52 rfl) rfl
theorem q879 : (Jvm.Cond.code ({ cls := "CensusOffice$Text", name := "cmp", desc := "()V" } : Jvm.MethodName) prog_11_method_21_code (2 : Nat) (Option.none : Option Jvm.ClassFile.FieldType)) ∈ lw_all := lw_g (lw_at lw_m4 53 rfl) rfl
theorem q880 : (Jvm.Cond.methodLink "CensusOffice$Text" (150 : Nat) ({ cls := "CensusOffice$Text", name := "expr", desc := "()V" } : Jvm.MethodName)) ∈ lw_all := lw_g (lw_at lw_m4 54 rfl) rfl
theorem q881 : (Jvm.Cond.privateMethod ({ cls := "CensusOffice$Text", name := "expr", desc := "()V" } : Jvm.MethodName)) ∈ lw_tbl := lw_at lw_m4 55 rfl
theorem q882 : (Jvm.Cond.instanceMethod ({ cls := "CensusOffice$Text", name := "expr", desc := "()V" } : Jvm.MethodName)) ∈ lw_all := lw_g (lw_at lw_m4 56 rfl) rfl
theorem q883 : (Jvm.Cond.code ({ cls := "CensusOffice$Text", name := "expr", desc := "()V" } : Jvm.MethodName) prog_11_method_22_code (2 : Nat) (Option.none : Option Jvm.ClassFile.FieldType)) ∈ lw_all := lw_g (lw_at lw_m4 57 rfl) rfl
theorem q884 : (Jvm.Cond.methodLink "CensusOffice$Text" (198 : Nat) ({ cls := "CensusOffice$Text", name := "term", desc := "()V" } : Jvm.MethodName)) ∈ lw_all := lw_g (lw_at lw_m4 58 rfl) rfl
theorem q885 : (Jvm.Cond.privateMethod ({ cls := "CensusOffice$Text", name := "term", desc := "()V" } : Jvm.MethodName)) ∈ lw_tbl := lw_at lw_m4 59 rfl
theorem q886 : (Jvm.Cond.instanceMethod ({ cls := "CensusOffice$Text", name := "term", desc := "()V" } : Jvm.MethodName)) ∈ lw_all := lw_g (lw_at lw_m4 60 rfl) rfl
theorem q887 : (Jvm.Cond.code ({ cls := "CensusOffice$Text", name := "term", desc := "()V" } : Jvm.MethodName) prog_11_method_23_code (1 : Nat) (Option.none : Option Jvm.ClassFile.FieldType)) ∈ lw_all := lw_g (lw_at lw_m4 61 rfl) rfl
theorem q888 : (Jvm.Cond.methodLink "CensusOffice$Text" (179 : Nat) ({ cls := "CensusOffice$Form", name := "lay", desc := "(II)V" } : Jvm.MethodName)) ∈ lw_all := lw_g (lw_at lw_m4 62 rfl) rfl
theorem q892 : (Jvm.Cond.stringRef "CensusOffice$Text" (201 : Nat) "+") ∈ lw_tbl := lw_at lw_m4 66 rfl
theorem q893 : (Jvm.Cond.stringRef "CensusOffice$Text" (186 : Nat) "<") ∈ lw_tbl := lw_at lw_m4 67 rfl
theorem q894 : (Jvm.Cond.stringRef "CensusOffice$Text" (188 : Nat) "<=") ∈ lw_tbl := lw_at lw_m4 68 rfl
theorem q895 : (Jvm.Cond.stringRef "CensusOffice$Text" (190 : Nat) "=") ∈ lw_tbl := lw_at lw_m4 69 rfl
theorem q896 : (Jvm.Cond.stringRef "CensusOffice$Text" (192 : Nat) "<>") ∈ lw_tbl := lw_at lw_m4 70 rfl
theorem q897 : (Jvm.Cond.stringRef "CensusOffice$Text" (194 : Nat) ">=") ∈ lw_tbl := lw_at lw_m4 71 rfl
theorem q898 : (Jvm.Cond.stringRef "CensusOffice$Text" (196 : Nat) ">") ∈ lw_tbl := lw_at lw_m4 72 rfl
theorem q899 : (Jvm.Cond.stringRef "CensusOffice$Text" (115 : Nat) ";") ∈ lw_tbl := lw_at lw_m4 73 rfl
theorem in_X6 : ∀ w ∈ wsX60, w ∈ lw_all := lw_in wsX60 [702, 704, 706, 708, 710] (by decide +kernel) (by decide +kernel)
/-! CensusOffice$Fault -/
def RX7 : String := "CensusOffice$Fault"
def TX7 : u_T := fun k => match k with
  | 0 => ("java/lang/Throwable", "cause", "Ljava/lang/Throwable;", false)
  | 1 => ("java/lang/Throwable", "stackTrace", "[Ljava/lang/StackTraceElement;", false)
  | 2 => ("java/lang/Throwable", "suppressedExceptions", "Ljava/util/List;", false)
  | 3 => ("java/lang/Throwable", "detailMessage", "Ljava/lang/String;", false)
  | 4 => ("java/lang/Throwable", "backtrace", "Ljava/lang/Object;", false)
  | 5 => ("java/lang/Throwable", "depth", "I", false)
  | _ => ("CensusOffice$Fault", "place", "I", true)
def tyX7 : Nat → FieldType := fun k => match k with
  | 0 => .object "java/lang/Throwable"
  | 1 => .array (.object "java/lang/StackTraceElement")
  | 2 => .object "java/util/List"
  | 3 => .object "java/lang/String"
  | 4 => .object "java/lang/Object"
  | 5 => .int
  | _ => .int
abbrev wsX70 : List Cond := u_ws RX7 TX7 7
theorem nmX7 : ∀ a, a < 7 → ∀ b, b < 7 → a ≠ b → (TX7 a).2.1 ≠ (TX7 b).2.1 := by decide +kernel
theorem tyX7_ok : ∀ k, k < 7 → parseFieldDescriptor (TX7 k).2.2.1 = some (tyX7 k) := by decide +kernel
abbrev cX7_init : ByteArray := prog_2_method_1_code
def yX7_init : MethodName := ⟨RX7, "<init>", "(I)V"⟩
theorem q122 : (Jvm.Cond.initialized "CensusOffice$Fault") ∈ lw_all := lw_g (lw_at lw_m1 16 rfl) rfl
theorem q493 : (Jvm.Cond.selects "CensusOffice$Fault" ({ cls := "java/lang/Throwable", name := "fillInStackTrace", desc := "()Ljava/lang/Throwable;" } : Jvm.MethodName) ({ cls := "java/lang/Throwable", name := "fillInStackTrace", desc := "()Ljava/lang/Throwable;" } : Jvm.MethodName)) ∈ lw_all := lw_g (lw_at lw_m2 147 rfl) rfl
theorem q746 : (Jvm.Cond.instantiable "CensusOffice$Fault" (7 : Nat)) ∈ lw_all := lw_g (lw_at lw_m3 160 rfl) rfl
theorem q747 : (Jvm.Cond.castable "CensusOffice$Fault" "CensusOffice$Fault") ∈ lw_tbl := lw_at lw_m3 161 rfl
theorem q748 : (Jvm.Cond.selects "CensusOffice$Fault" ({ cls := "java/lang/Throwable", name := "fillInStackTrace", desc := "(I)Ljava/lang/Throwable;" } : Jvm.MethodName) ({ cls := "java/lang/Throwable", name := "fillInStackTrace", desc := "(I)Ljava/lang/Throwable;" } : Jvm.MethodName)) ∈ lw_all := lw_g (lw_at lw_m3 162 rfl) rfl
theorem q749 : (Jvm.Cond.lays "CensusOffice$Fault" "java/lang/Throwable" "cause" "Ljava/lang/Throwable;") ∈ lw_all := lw_g (lw_at lw_m3 163 rfl) rfl
theorem q750 : (Jvm.Cond.lays "CensusOffice$Fault" "java/lang/Throwable" "stackTrace" "[Ljava/lang/StackTraceElement;") ∈ lw_all := lw_g (lw_at lw_m3 164 rfl) rfl
theorem q751 : (Jvm.Cond.lays "CensusOffice$Fault" "java/lang/Throwable" "suppressedExceptions" "Ljava/util/List;") ∈ lw_all := lw_g (lw_at lw_m3 165 rfl) rfl
theorem q752 : (Jvm.Cond.lays "CensusOffice$Fault" "java/lang/Throwable" "detailMessage" "Ljava/lang/String;") ∈ lw_all := lw_g (lw_at lw_m3 166 rfl) rfl
theorem q753 : (Jvm.Cond.lays "CensusOffice$Fault" "java/lang/Throwable" "backtrace" "Ljava/lang/Object;") ∈ lw_all := lw_g (lw_at lw_m3 167 rfl) rfl
theorem q755 : (Jvm.Cond.instanceMethod ({ cls := "CensusOffice$Fault", name := "<init>", desc := "(I)V" } : Jvm.MethodName)) ∈ lw_all := lw_g (lw_at lw_m3 169 rfl) rfl
theorem q756 : (Jvm.Cond.code ({ cls := "CensusOffice$Fault", name := "<init>", desc := "(I)V" } : Jvm.MethodName) prog_2_method_1_code (2 : Nat) (Option.none : Option Jvm.ClassFile.FieldType)) ∈ lw_all := lw_g (lw_at lw_m3 170 rfl) rfl
theorem q757 : (Jvm.Cond.stringRef "CensusOffice$Fault" (1 : Nat) "fault") ∈ lw_tbl := lw_at lw_m3 171 rfl
theorem q758 : (Jvm.Cond.methodLink "CensusOffice$Fault" (3 : Nat) ({ cls := "java/lang/Exception", name := "<init>", desc := "(Ljava/lang/String;Ljava/lang/Throwable;ZZ)V" } : Jvm.MethodName)) ∈ lw_all := lw_g (lw_at lw_m3 172 rfl) rfl
theorem q764 : (Jvm.Cond.fieldLink "CensusOffice$Fault" (9 : Nat) "CensusOffice$Fault" "place" "I") ∈ lw_all := lw_g (lw_at lw_m3 178 rfl) rfl
theorem q766 : (Jvm.Cond.laysFinal "CensusOffice$Fault" "CensusOffice$Fault" "place" "I") ∈ lw_all := lw_g (lw_at lw_m3 180 rfl) rfl
theorem q767 : (Jvm.Cond.soleField "CensusOffice$Fault" "place") ∈ lw_all := lw_g (lw_at lw_m3 181 rfl) rfl
theorem q768 : (Jvm.Cond.lays "CensusOffice$Fault" "java/lang/Throwable" "depth" "I") ∈ lw_all := lw_g (lw_at lw_m3 182 rfl) rfl
theorem q769 : (Jvm.Cond.superclass "CensusOffice$Fault" "java/lang/Exception") ∈ lw_all := lw_g (lw_at lw_m3 183 rfl) rfl
theorem in_X7 : ∀ w ∈ wsX70, w ∈ lw_all := lw_in wsX70 [749, 750, 751, 752, 753, 768, 766] (by decide +kernel) (by decide +kernel)
/-! CensusOffice$Session -/
def RX8 : String := "CensusOffice$Session"
def TX8 : u_T := fun k => match k with
  | 0 => ("CensusOffice$Session", "form", "LCensusOffice$Form;", true)
  | 1 => ("CensusOffice$Session", "formNumber", "I", true)
  | 2 => ("CensusOffice$Session", "unit", "I", true)
  | 3 => ("CensusOffice$Session", "reg", "[I", true)
  | 4 => ("CensusOffice$Session", "isGiven", "[Z", true)
  | 5 => ("CensusOffice$Session", "answers", "[I", true)
  | 6 => ("CensusOffice$Session", "aside", "[I", true)
  | 7 => ("CensusOffice$Session", "items", "[I", true)
  | 8 => ("CensusOffice$Session", "stop", "I", false)
  | 9 => ("CensusOffice$Session", "closed", "Z", false)
  | 10 => ("CensusOffice$Session", "noted", "I", false)
  | 11 => ("CensusOffice$Session", "notedAt", "I", false)
  | _ => ("CensusOffice$Session", "notedOf", "I", false)
def tyX8 : Nat → FieldType := fun k => match k with
  | 0 => .object "CensusOffice$Form"
  | 1 => .int
  | 2 => .int
  | 3 => .array .int
  | 4 => .array .boolean
  | 5 => .array .int
  | 6 => .array .int
  | 7 => .array .int
  | 8 => .int
  | 9 => .boolean
  | 10 => .int
  | 11 => .int
  | _ => .int
abbrev wsX80 : List Cond := u_ws RX8 TX8 13
set_option maxRecDepth 100000 in
theorem nmX8 : ∀ a, a < 13 → ∀ b, b < 13 → a ≠ b → (TX8 a).2.1 ≠ (TX8 b).2.1 := by decide +kernel
set_option maxRecDepth 100000 in
theorem tyX8_ok : ∀ k, k < 13 → parseFieldDescriptor (TX8 k).2.2.1 = some (tyX8 k) := by decide +kernel
abbrev cX8_init : ByteArray := prog_9_method_1_code
def yX8_init : MethodName := ⟨RX8, "<init>", "(LCensusOffice$Form;II)V"⟩
theorem q126 : (Jvm.Cond.initialized "CensusOffice$Session") ∈ lw_all := lw_g (lw_at lw_m1 20 rfl) rfl
theorem q922 : (Jvm.Cond.instantiable "CensusOffice$Session" (13 : Nat)) ∈ lw_all := lw_g (lw_at lw_m4 96 rfl) rfl
theorem q924 : (Jvm.Cond.instanceMethod ({ cls := "CensusOffice$Session", name := "<init>", desc := "(LCensusOffice$Form;II)V" } : Jvm.MethodName)) ∈ lw_all := lw_g (lw_at lw_m4 98 rfl) rfl
theorem q925 : (Jvm.Cond.code ({ cls := "CensusOffice$Session", name := "<init>", desc := "(LCensusOffice$Form;II)V" } : Jvm.MethodName) prog_9_method_1_code (5 : Nat) (Option.none : Option Jvm.ClassFile.FieldType)) ∈ lw_all := lw_g (lw_at lw_m4 99 rfl) rfl
theorem q926 : (Jvm.Cond.methodLink "CensusOffice$Session" (3 : Nat) ({ cls := "java/lang/Object", name := "<init>", desc := "()V" } : Jvm.MethodName)) ∈ lw_all := lw_g (lw_at lw_m4 100 rfl) rfl
theorem q927 : (Jvm.Cond.constant "CensusOffice$Session" (42 : Nat) (-2000000 : Int32)) ∈ lw_all := lw_g (lw_at lw_m4 101 rfl) rfl
theorem q929 : (Jvm.Cond.fieldLink "CensusOffice$Session" (32 : Nat) "CensusOffice$Session" "form" "LCensusOffice$Form;") ∈ lw_all := lw_g (lw_at lw_m4 103 rfl) rfl
theorem q931 : (Jvm.Cond.fieldLink "CensusOffice$Session" (36 : Nat) "CensusOffice$Session" "formNumber" "I") ∈ lw_all := lw_g (lw_at lw_m4 105 rfl) rfl
theorem q932 : (Jvm.Cond.fieldLink "CensusOffice$Session" (39 : Nat) "CensusOffice$Session" "unit" "I") ∈ lw_all := lw_g (lw_at lw_m4 106 rfl) rfl
theorem q934 : (Jvm.Cond.fieldLink "CensusOffice$Session" (9 : Nat) "CensusOffice$Session" "reg" "[I") ∈ lw_all := lw_g (lw_at lw_m4 108 rfl) rfl
theorem q936 : (Jvm.Cond.fieldLink "CensusOffice$Session" (15 : Nat) "CensusOffice$Session" "isGiven" "[Z") ∈ lw_all := lw_g (lw_at lw_m4 110 rfl) rfl
theorem q938 : (Jvm.Cond.fieldLink "CensusOffice$Session" (19 : Nat) "CensusOffice$Session" "answers" "[I") ∈ lw_all := lw_g (lw_at lw_m4 112 rfl) rfl
theorem q940 : (Jvm.Cond.fieldLink "CensusOffice$Session" (22 : Nat) "CensusOffice$Session" "aside" "[I") ∈ lw_all := lw_g (lw_at lw_m4 114 rfl) rfl
theorem q942 : (Jvm.Cond.fieldLink "CensusOffice$Session" (25 : Nat) "CensusOffice$Session" "items" "[I") ∈ lw_all := lw_g (lw_at lw_m4 116 rfl) rfl
theorem q948 : (Jvm.Cond.fieldLink "CensusOffice$Session" (28 : Nat) "CensusOffice$Session" "notedAt" "I") ∈ lw_all := lw_g (lw_at lw_m4 122 rfl) rfl
theorem q951 : (Jvm.Cond.laysFinal "CensusOffice$Session" "CensusOffice$Session" "form" "LCensusOffice$Form;") ∈ lw_all := lw_g (lw_at lw_m4 125 rfl) rfl
theorem q952 : (Jvm.Cond.soleField "CensusOffice$Session" "form") ∈ lw_all := lw_g (lw_at lw_m4 126 rfl) rfl
theorem q953 : (Jvm.Cond.laysFinal "CensusOffice$Session" "CensusOffice$Session" "formNumber" "I") ∈ lw_all := lw_g (lw_at lw_m4 127 rfl) rfl
theorem q954 : (Jvm.Cond.soleField "CensusOffice$Session" "formNumber") ∈ lw_all := lw_g (lw_at lw_m4 128 rfl) rfl
theorem q955 : (Jvm.Cond.laysFinal "CensusOffice$Session" "CensusOffice$Session" "unit" "I") ∈ lw_all := lw_g (lw_at lw_m4 129 rfl) rfl
theorem q956 : (Jvm.Cond.soleField "CensusOffice$Session" "unit") ∈ lw_all := lw_g (lw_at lw_m4 130 rfl) rfl
theorem q957 : (Jvm.Cond.laysFinal "CensusOffice$Session" "CensusOffice$Session" "reg" "[I") ∈ lw_all := lw_g (lw_at lw_m4 131 rfl) rfl
theorem q958 : (Jvm.Cond.soleField "CensusOffice$Session" "reg") ∈ lw_all := lw_g (lw_at lw_m4 132 rfl) rfl
theorem q959 : (Jvm.Cond.laysFinal "CensusOffice$Session" "CensusOffice$Session" "isGiven" "[Z") ∈ lw_all := lw_g (lw_at lw_m4 133 rfl) rfl
theorem q960 : (Jvm.Cond.soleField "CensusOffice$Session" "isGiven") ∈ lw_all := lw_g (lw_at lw_m4 134 rfl) rfl
theorem q961 : (Jvm.Cond.laysFinal "CensusOffice$Session" "CensusOffice$Session" "answers" "[I") ∈ lw_all := lw_g (lw_at lw_m4 135 rfl) rfl
theorem q962 : (Jvm.Cond.soleField "CensusOffice$Session" "answers") ∈ lw_all := lw_g (lw_at lw_m4 136 rfl) rfl
theorem q963 : (Jvm.Cond.laysFinal "CensusOffice$Session" "CensusOffice$Session" "aside" "[I") ∈ lw_all := lw_g (lw_at lw_m4 137 rfl) rfl
theorem q964 : (Jvm.Cond.soleField "CensusOffice$Session" "aside") ∈ lw_all := lw_g (lw_at lw_m4 138 rfl) rfl
theorem q965 : (Jvm.Cond.laysFinal "CensusOffice$Session" "CensusOffice$Session" "items" "[I") ∈ lw_all := lw_g (lw_at lw_m4 139 rfl) rfl
theorem q966 : (Jvm.Cond.soleField "CensusOffice$Session" "items") ∈ lw_all := lw_g (lw_at lw_m4 140 rfl) rfl
theorem q967 : (Jvm.Cond.lays "CensusOffice$Session" "CensusOffice$Session" "stop" "I") ∈ lw_all := lw_g (lw_at lw_m4 141 rfl) rfl
theorem q968 : (Jvm.Cond.soleField "CensusOffice$Session" "stop") ∈ lw_all := lw_g (lw_at lw_m4 142 rfl) rfl
theorem q969 : (Jvm.Cond.lays "CensusOffice$Session" "CensusOffice$Session" "closed" "Z") ∈ lw_all := lw_g (lw_at lw_m4 143 rfl) rfl
theorem q970 : (Jvm.Cond.soleField "CensusOffice$Session" "closed") ∈ lw_all := lw_g (lw_at lw_m4 144 rfl) rfl
theorem q971 : (Jvm.Cond.lays "CensusOffice$Session" "CensusOffice$Session" "noted" "I") ∈ lw_all := lw_g (lw_at lw_m4 145 rfl) rfl
theorem q972 : (Jvm.Cond.soleField "CensusOffice$Session" "noted") ∈ lw_all := lw_g (lw_at lw_m4 146 rfl) rfl
theorem q973 : (Jvm.Cond.lays "CensusOffice$Session" "CensusOffice$Session" "notedAt" "I") ∈ lw_all := lw_g (lw_at lw_m4 147 rfl) rfl
theorem q974 : (Jvm.Cond.soleField "CensusOffice$Session" "notedAt") ∈ lw_all := lw_g (lw_at lw_m4 148 rfl) rfl
theorem q975 : (Jvm.Cond.lays "CensusOffice$Session" "CensusOffice$Session" "notedOf" "I") ∈ lw_all := lw_g (lw_at lw_m4 149 rfl) rfl
theorem q976 : (Jvm.Cond.soleField "CensusOffice$Session" "notedOf") ∈ lw_all := lw_g (lw_at lw_m4 150 rfl) rfl
theorem q977 : (Jvm.Cond.superclass "CensusOffice$Session" "java/lang/Object") ∈ lw_all := lw_g (lw_at lw_m4 151 rfl) rfl
theorem in_X8 : ∀ w ∈ wsX80, w ∈ lw_all := lw_in wsX80 [951, 953, 955, 957, 959, 961, 963, 965, 967, 969, 971, 973, 975] (by decide +kernel) (by decide +kernel)
/-! CensusOffice$Record -/
def RX9 : String := "CensusOffice$Record"
def TX9 : u_T := fun k => match k with
  | 0 => ("CensusOffice$Record", "of", "LCensusOffice$Session;", true)
  | 1 => ("CensusOffice$Record", "form", "LCensusOffice$Form;", true)
  | 2 => ("CensusOffice$Record", "items", "[I", true)
  | _ => ("CensusOffice$Record", "marks", "[I", true)
def tyX9 : Nat → FieldType := fun k => match k with
  | 0 => .object "CensusOffice$Session"
  | 1 => .object "CensusOffice$Form"
  | 2 => .array .int
  | _ => .array .int
abbrev wsX90 : List Cond := u_ws RX9 TX9 4
theorem nmX9 : ∀ a, a < 4 → ∀ b, b < 4 → a ≠ b → (TX9 a).2.1 ≠ (TX9 b).2.1 := by decide +kernel
theorem tyX9_ok : ∀ k, k < 4 → parseFieldDescriptor (TX9 k).2.2.1 = some (tyX9 k) := by decide +kernel
abbrev cX9_init : ByteArray := prog_6_method_1_code
def yX9_init : MethodName := ⟨RX9, "<init>", "(LCensusOffice$Session;)V"⟩
theorem q127 : (Jvm.Cond.initialized "CensusOffice$Record") ∈ lw_all := lw_g (lw_at lw_m1 21 rfl) rfl
theorem q928 : (Jvm.Cond.fieldLinkNest "CensusOffice$Record" (22 : Nat) "CensusOffice$Session" "form" "LCensusOffice$Form;" "CensusOffice") ∈ lw_tbl := lw_at lw_m4 102 rfl
theorem q943 : (Jvm.Cond.fieldLinkNest "CensusOffice$Record" (29 : Nat) "CensusOffice$Session" "items" "[I" "CensusOffice") ∈ lw_tbl := lw_at lw_m4 117 rfl
theorem q1061 : (Jvm.Cond.instantiable "CensusOffice$Record" (4 : Nat)) ∈ lw_all := lw_g (lw_at lw_m4 235 rfl) rfl
theorem q1063 : (Jvm.Cond.instanceMethod ({ cls := "CensusOffice$Record", name := "<init>", desc := "(LCensusOffice$Session;)V" } : Jvm.MethodName)) ∈ lw_all := lw_g (lw_at lw_m4 237 rfl) rfl
theorem q1064 : (Jvm.Cond.code ({ cls := "CensusOffice$Record", name := "<init>", desc := "(LCensusOffice$Session;)V" } : Jvm.MethodName) prog_6_method_1_code (3 : Nat) (Option.none : Option Jvm.ClassFile.FieldType)) ∈ lw_all := lw_g (lw_at lw_m4 238 rfl) rfl
theorem q1065 : (Jvm.Cond.methodLink "CensusOffice$Record" (3 : Nat) ({ cls := "java/lang/Object", name := "<init>", desc := "()V" } : Jvm.MethodName)) ∈ lw_all := lw_g (lw_at lw_m4 239 rfl) rfl
theorem q1066 : (Jvm.Cond.fieldLink "CensusOffice$Record" (18 : Nat) "CensusOffice$Record" "of" "LCensusOffice$Session;") ∈ lw_all := lw_g (lw_at lw_m5 0 rfl) rfl
theorem q1068 : (Jvm.Cond.fieldLink "CensusOffice$Record" (28 : Nat) "CensusOffice$Record" "form" "LCensusOffice$Form;") ∈ lw_all := lw_g (lw_at lw_m5 2 rfl) rfl
theorem q1070 : (Jvm.Cond.fieldLink "CensusOffice$Record" (9 : Nat) "CensusOffice$Record" "items" "[I") ∈ lw_all := lw_g (lw_at lw_m5 4 rfl) rfl
theorem q1072 : (Jvm.Cond.fieldLink "CensusOffice$Record" (15 : Nat) "CensusOffice$Record" "marks" "[I") ∈ lw_all := lw_g (lw_at lw_m5 6 rfl) rfl
theorem q1074 : (Jvm.Cond.laysFinal "CensusOffice$Record" "CensusOffice$Record" "of" "LCensusOffice$Session;") ∈ lw_all := lw_g (lw_at lw_m5 8 rfl) rfl
theorem q1075 : (Jvm.Cond.soleField "CensusOffice$Record" "of") ∈ lw_all := lw_g (lw_at lw_m5 9 rfl) rfl
theorem q1076 : (Jvm.Cond.laysFinal "CensusOffice$Record" "CensusOffice$Record" "form" "LCensusOffice$Form;") ∈ lw_all := lw_g (lw_at lw_m5 10 rfl) rfl
theorem q1077 : (Jvm.Cond.soleField "CensusOffice$Record" "form") ∈ lw_all := lw_g (lw_at lw_m5 11 rfl) rfl
theorem q1078 : (Jvm.Cond.laysFinal "CensusOffice$Record" "CensusOffice$Record" "items" "[I") ∈ lw_all := lw_g (lw_at lw_m5 12 rfl) rfl
theorem q1079 : (Jvm.Cond.soleField "CensusOffice$Record" "items") ∈ lw_all := lw_g (lw_at lw_m5 13 rfl) rfl
theorem q1080 : (Jvm.Cond.laysFinal "CensusOffice$Record" "CensusOffice$Record" "marks" "[I") ∈ lw_all := lw_g (lw_at lw_m5 14 rfl) rfl
theorem q1081 : (Jvm.Cond.soleField "CensusOffice$Record" "marks") ∈ lw_all := lw_g (lw_at lw_m5 15 rfl) rfl
theorem q1082 : (Jvm.Cond.superclass "CensusOffice$Record" "java/lang/Object") ∈ lw_all := lw_g (lw_at lw_m5 16 rfl) rfl
theorem in_X9 : ∀ w ∈ wsX90, w ∈ lw_all := lw_in wsX90 [1074, 1076, 1078, 1080] (by decide +kernel) (by decide +kernel)
/-! CensusOffice$Sample -/
def RX10 : String := "CensusOffice$Sample"
def TX10 : u_T := fun k => match k with
  | 0 => ("CensusOffice$Sample", "isDrawn", "[Z", true)
  | 1 => ("CensusOffice$Sample", "up", "[I", true)
  | _ => ("CensusOffice$Sample", "below", "[I", true)
def tyX10 : Nat → FieldType := fun k => match k with
  | 0 => .array .boolean
  | 1 => .array .int
  | _ => .array .int
abbrev wsX100 : List Cond := u_ws RX10 TX10 3
theorem nmX10 : ∀ a, a < 3 → ∀ b, b < 3 → a ≠ b → (TX10 a).2.1 ≠ (TX10 b).2.1 := by decide +kernel
theorem tyX10_ok : ∀ k, k < 3 → parseFieldDescriptor (TX10 k).2.2.1 = some (tyX10 k) := by decide +kernel
abbrev cX10_init : ByteArray := prog_8_method_1_code
def yX10_init : MethodName := ⟨RX10, "<init>", "()V"⟩
theorem q130 : (Jvm.Cond.initialized "CensusOffice$Sample") ∈ lw_all := lw_g (lw_at lw_m1 24 rfl) rfl
theorem q1222 : (Jvm.Cond.instantiable "CensusOffice$Sample" (3 : Nat)) ∈ lw_all := lw_g (lw_at lw_m5 156 rfl) rfl
theorem q1224 : (Jvm.Cond.instanceMethod ({ cls := "CensusOffice$Sample", name := "<init>", desc := "()V" } : Jvm.MethodName)) ∈ lw_all := lw_g (lw_at lw_m5 158 rfl) rfl
theorem q1225 : (Jvm.Cond.code ({ cls := "CensusOffice$Sample", name := "<init>", desc := "()V" } : Jvm.MethodName) prog_8_method_1_code (1 : Nat) (Option.none : Option Jvm.ClassFile.FieldType)) ∈ lw_all := lw_g (lw_at lw_m5 159 rfl) rfl
theorem q1226 : (Jvm.Cond.methodLink "CensusOffice$Sample" (3 : Nat) ({ cls := "java/lang/Object", name := "<init>", desc := "()V" } : Jvm.MethodName)) ∈ lw_all := lw_g (lw_at lw_m5 160 rfl) rfl
theorem q1227 : (Jvm.Cond.fieldLink "CensusOffice$Sample" (9 : Nat) "CensusOffice$Sample" "isDrawn" "[Z") ∈ lw_all := lw_g (lw_at lw_m5 161 rfl) rfl
theorem q1229 : (Jvm.Cond.fieldLink "CensusOffice$Sample" (15 : Nat) "CensusOffice$Sample" "up" "[I") ∈ lw_all := lw_g (lw_at lw_m5 163 rfl) rfl
theorem q1231 : (Jvm.Cond.fieldLink "CensusOffice$Sample" (19 : Nat) "CensusOffice$Sample" "below" "[I") ∈ lw_all := lw_g (lw_at lw_m5 165 rfl) rfl
theorem q1233 : (Jvm.Cond.laysFinal "CensusOffice$Sample" "CensusOffice$Sample" "isDrawn" "[Z") ∈ lw_all := lw_g (lw_at lw_m5 167 rfl) rfl
theorem q1234 : (Jvm.Cond.soleField "CensusOffice$Sample" "isDrawn") ∈ lw_all := lw_g (lw_at lw_m5 168 rfl) rfl
theorem q1235 : (Jvm.Cond.laysFinal "CensusOffice$Sample" "CensusOffice$Sample" "up" "[I") ∈ lw_all := lw_g (lw_at lw_m5 169 rfl) rfl
theorem q1236 : (Jvm.Cond.soleField "CensusOffice$Sample" "up") ∈ lw_all := lw_g (lw_at lw_m5 170 rfl) rfl
theorem q1237 : (Jvm.Cond.laysFinal "CensusOffice$Sample" "CensusOffice$Sample" "below" "[I") ∈ lw_all := lw_g (lw_at lw_m5 171 rfl) rfl
theorem q1238 : (Jvm.Cond.soleField "CensusOffice$Sample" "below") ∈ lw_all := lw_g (lw_at lw_m5 172 rfl) rfl
theorem q1239 : (Jvm.Cond.superclass "CensusOffice$Sample" "java/lang/Object") ∈ lw_all := lw_g (lw_at lw_m5 173 rfl) rfl
theorem in_X10 : ∀ w ∈ wsX100, w ∈ lw_all := lw_in wsX100 [1233, 1235, 1237] (by decide +kernel) (by decide +kernel)
/-! CensusOffice$Table -/
def RX11 : String := "CensusOffice$Table"
def TX11 : u_T := fun k => match k with
  | 0 => ("CensusOffice$Table", "rows", "I", true)
  | 1 => ("CensusOffice$Table", "columns", "I", true)
  | 2 => ("CensusOffice$Table", "sum", "[I", true)
  | 3 => ("CensusOffice$Table", "number", "[I", true)
  | 4 => ("CensusOffice$Table", "greatest", "[I", true)
  | 5 => ("CensusOffice$Table", "rounded", "[I", true)
  | 6 => ("CensusOffice$Table", "primary", "I", false)
  | _ => ("CensusOffice$Table", "secret", "I", false)
def tyX11 : Nat → FieldType := fun k => match k with
  | 0 => .int
  | 1 => .int
  | 2 => .array .int
  | 3 => .array .int
  | 4 => .array .int
  | 5 => .array .int
  | 6 => .int
  | _ => .int
abbrev wsX110 : List Cond := u_ws RX11 TX11 8
theorem nmX11 : ∀ a, a < 8 → ∀ b, b < 8 → a ≠ b → (TX11 a).2.1 ≠ (TX11 b).2.1 := by decide +kernel
theorem tyX11_ok : ∀ k, k < 8 → parseFieldDescriptor (TX11 k).2.2.1 = some (tyX11 k) := by decide +kernel
abbrev cX11_init : ByteArray := prog_10_method_1_code
def yX11_init : MethodName := ⟨RX11, "<init>", "(II)V"⟩
abbrev cX11_cells : ByteArray := prog_10_method_2_code
def yX11_cells : MethodName := ⟨RX11, "cells", "()I"⟩
abbrev cX11_told : ByteArray := prog_10_method_4_code
def yX11_told : MethodName := ⟨RX11, "told", "([IIIZ)I"⟩
abbrev cX11_has : ByteArray := prog_10_method_3_code
def yX11_has : MethodName := ⟨RX11, "has", "(III)Z"⟩
theorem q131 : (Jvm.Cond.initialized "CensusOffice$Table") ∈ lw_all := lw_g (lw_at lw_m1 25 rfl) rfl
theorem q1282 : (Jvm.Cond.instantiable "CensusOffice$Table" (8 : Nat)) ∈ lw_all := lw_g (lw_at lw_m5 216 rfl) rfl
theorem q1284 : (Jvm.Cond.instanceMethod ({ cls := "CensusOffice$Table", name := "<init>", desc := "(II)V" } : Jvm.MethodName)) ∈ lw_all := lw_g (lw_at lw_m5 218 rfl) rfl
theorem q1285 : (Jvm.Cond.code ({ cls := "CensusOffice$Table", name := "<init>", desc := "(II)V" } : Jvm.MethodName) prog_10_method_1_code (3 : Nat) (Option.none : Option Jvm.ClassFile.FieldType)) ∈ lw_all := lw_g (lw_at lw_m5 219 rfl) rfl
theorem q1286 : (Jvm.Cond.methodLink "CensusOffice$Table" (3 : Nat) ({ cls := "java/lang/Object", name := "<init>", desc := "()V" } : Jvm.MethodName)) ∈ lw_all := lw_g (lw_at lw_m5 220 rfl) rfl
theorem q1287 : (Jvm.Cond.fieldLink "CensusOffice$Table" (24 : Nat) "CensusOffice$Table" "rows" "I") ∈ lw_all := lw_g (lw_at lw_m5 221 rfl) rfl
theorem q1289 : (Jvm.Cond.fieldLink "CensusOffice$Table" (28 : Nat) "CensusOffice$Table" "columns" "I") ∈ lw_all := lw_g (lw_at lw_m5 223 rfl) rfl
theorem q1291 : (Jvm.Cond.fieldLink "CensusOffice$Table" (9 : Nat) "CensusOffice$Table" "sum" "[I") ∈ lw_all := lw_g (lw_at lw_m5 225 rfl) rfl
theorem q1293 : (Jvm.Cond.fieldLink "CensusOffice$Table" (15 : Nat) "CensusOffice$Table" "number" "[I") ∈ lw_all := lw_g (lw_at lw_m5 227 rfl) rfl
theorem q1295 : (Jvm.Cond.fieldLink "CensusOffice$Table" (18 : Nat) "CensusOffice$Table" "greatest" "[I") ∈ lw_all := lw_g (lw_at lw_m5 229 rfl) rfl
theorem q1297 : (Jvm.Cond.fieldLink "CensusOffice$Table" (21 : Nat) "CensusOffice$Table" "rounded" "[I") ∈ lw_all := lw_g (lw_at lw_m5 231 rfl) rfl
theorem q1303 : (Jvm.Cond.laysFinal "CensusOffice$Table" "CensusOffice$Table" "rows" "I") ∈ lw_all := lw_g (lw_at lw_m5 237 rfl) rfl
theorem q1304 : (Jvm.Cond.soleField "CensusOffice$Table" "rows") ∈ lw_all := lw_g (lw_at lw_m5 238 rfl) rfl
theorem q1305 : (Jvm.Cond.laysFinal "CensusOffice$Table" "CensusOffice$Table" "columns" "I") ∈ lw_all := lw_g (lw_at lw_m5 239 rfl) rfl
theorem q1306 : (Jvm.Cond.soleField "CensusOffice$Table" "columns") ∈ lw_all := lw_g (lw_at lw_m6 0 rfl) rfl
theorem q1307 : (Jvm.Cond.laysFinal "CensusOffice$Table" "CensusOffice$Table" "sum" "[I") ∈ lw_all := lw_g (lw_at lw_m6 1 rfl) rfl
theorem q1308 : (Jvm.Cond.soleField "CensusOffice$Table" "sum") ∈ lw_all := lw_g (lw_at lw_m6 2 rfl) rfl
theorem q1309 : (Jvm.Cond.laysFinal "CensusOffice$Table" "CensusOffice$Table" "number" "[I") ∈ lw_all := lw_g (lw_at lw_m6 3 rfl) rfl
theorem q1310 : (Jvm.Cond.soleField "CensusOffice$Table" "number") ∈ lw_all := lw_g (lw_at lw_m6 4 rfl) rfl
theorem q1311 : (Jvm.Cond.laysFinal "CensusOffice$Table" "CensusOffice$Table" "greatest" "[I") ∈ lw_all := lw_g (lw_at lw_m6 5 rfl) rfl
theorem q1312 : (Jvm.Cond.soleField "CensusOffice$Table" "greatest") ∈ lw_all := lw_g (lw_at lw_m6 6 rfl) rfl
theorem q1313 : (Jvm.Cond.laysFinal "CensusOffice$Table" "CensusOffice$Table" "rounded" "[I") ∈ lw_all := lw_g (lw_at lw_m6 7 rfl) rfl
theorem q1314 : (Jvm.Cond.soleField "CensusOffice$Table" "rounded") ∈ lw_all := lw_g (lw_at lw_m6 8 rfl) rfl
theorem q1315 : (Jvm.Cond.lays "CensusOffice$Table" "CensusOffice$Table" "primary" "I") ∈ lw_all := lw_g (lw_at lw_m6 9 rfl) rfl
theorem q1316 : (Jvm.Cond.soleField "CensusOffice$Table" "primary") ∈ lw_all := lw_g (lw_at lw_m6 10 rfl) rfl
theorem q1317 : (Jvm.Cond.lays "CensusOffice$Table" "CensusOffice$Table" "secret" "I") ∈ lw_all := lw_g (lw_at lw_m6 11 rfl) rfl
theorem q1318 : (Jvm.Cond.soleField "CensusOffice$Table" "secret") ∈ lw_all := lw_g (lw_at lw_m6 12 rfl) rfl
theorem q1319 : (Jvm.Cond.superclass "CensusOffice$Table" "java/lang/Object") ∈ lw_all := lw_g (lw_at lw_m6 13 rfl) rfl
theorem q1324 : (Jvm.Cond.instanceMethod ({ cls := "CensusOffice$Table", name := "cells", desc := "()I" } : Jvm.MethodName)) ∈ lw_all := lw_g (lw_at lw_m6 18 rfl) rfl
theorem q1325 : (Jvm.Cond.selects "CensusOffice$Table" ({ cls := "CensusOffice$Table", name := "cells", desc := "()I" } : Jvm.MethodName) ({ cls := "CensusOffice$Table", name := "cells", desc := "()I" } : Jvm.MethodName)) ∈ lw_all := lw_g (lw_at lw_m6 19 rfl) rfl
theorem q1326 : (Jvm.Cond.code ({ cls := "CensusOffice$Table", name := "cells", desc := "()I" } : Jvm.MethodName) prog_10_method_2_code (1 : Nat) (Option.some Jvm.ClassFile.FieldType.int)) ∈ lw_all := lw_g (lw_at lw_m6 20 rfl) rfl
theorem q1339 : (Jvm.Cond.instanceMethod ({ cls := "CensusOffice$Table", name := "told", desc := "([IIIZ)I" } : Jvm.MethodName)) ∈ lw_all := lw_g (lw_at lw_m6 33 rfl) rfl
theorem q1340 : (Jvm.Cond.selects "CensusOffice$Table" ({ cls := "CensusOffice$Table", name := "told", desc := "([IIIZ)I" } : Jvm.MethodName) ({ cls := "CensusOffice$Table", name := "told", desc := "([IIIZ)I" } : Jvm.MethodName)) ∈ lw_all := lw_g (lw_at lw_m6 34 rfl) rfl
theorem q1341 : (Jvm.Cond.code ({ cls := "CensusOffice$Table", name := "told", desc := "([IIIZ)I" } : Jvm.MethodName) prog_10_method_4_code (7 : Nat) (Option.some Jvm.ClassFile.FieldType.int)) ∈ lw_all := lw_g (lw_at lw_m6 35 rfl) rfl
theorem q1342 : (Jvm.Cond.methodLink "CensusOffice$Table" (31 : Nat) ({ cls := "CensusOffice$Table", name := "cells", desc := "()I" } : Jvm.MethodName)) ∈ lw_all := lw_g (lw_at lw_m6 36 rfl) rfl
theorem q1343 : (Jvm.Cond.methodLink "CensusOffice$Table" (35 : Nat) ({ cls := "CensusOffice$Table", name := "has", desc := "(III)Z" } : Jvm.MethodName)) ∈ lw_all := lw_g (lw_at lw_m6 37 rfl) rfl
theorem q1344 : (Jvm.Cond.privateMethod ({ cls := "CensusOffice$Table", name := "has", desc := "(III)Z" } : Jvm.MethodName)) ∈ lw_tbl := lw_at lw_m6 38 rfl
theorem q1345 : (Jvm.Cond.instanceMethod ({ cls := "CensusOffice$Table", name := "has", desc := "(III)Z" } : Jvm.MethodName)) ∈ lw_all := lw_g (lw_at lw_m6 39 rfl) rfl
theorem q1346 : (Jvm.Cond.code ({ cls := "CensusOffice$Table", name := "has", desc := "(III)Z" } : Jvm.MethodName) prog_10_method_3_code (4 : Nat) (Option.some Jvm.ClassFile.FieldType.boolean)) ∈ lw_all := lw_g (lw_at lw_m6 40 rfl) rfl
theorem q1347 : (Jvm.Cond.methodLink "CensusOffice$Table" (39 : Nat) ({ cls := "java/lang/Math", name := "max", desc := "(II)I" } : Jvm.MethodName)) ∈ lw_all := lw_g (lw_at lw_m6 41 rfl) rfl
theorem in_X11 : ∀ w ∈ wsX110, w ∈ lw_all := lw_in wsX110 [1303, 1305, 1307, 1309, 1311, 1313, 1315, 1317] (by decide +kernel) (by decide +kernel)
/-! CensusOffice$Release -/
def RX12 : String := "CensusOffice$Release"
def TX12 : u_T := fun k => match k with
  | 0 => ("CensusOffice$Release", "person", "I", true)
  | 1 => ("CensusOffice$Release", "minute", "I", true)
  | 2 => ("CensusOffice$Release", "of", "LCensusOffice$Table;", true)
  | 3 => ("CensusOffice$Release", "secret", "I", true)
  | _ => ("CensusOffice$Release", "numbers", "[I", true)
def tyX12 : Nat → FieldType := fun k => match k with
  | 0 => .int
  | 1 => .int
  | 2 => .object "CensusOffice$Table"
  | 3 => .int
  | _ => .array .int
abbrev wsX120 : List Cond := u_ws RX12 TX12 5
theorem nmX12 : ∀ a, a < 5 → ∀ b, b < 5 → a ≠ b → (TX12 a).2.1 ≠ (TX12 b).2.1 := by decide +kernel
theorem tyX12_ok : ∀ k, k < 5 → parseFieldDescriptor (TX12 k).2.2.1 = some (tyX12 k) := by decide +kernel
abbrev cX12_init : ByteArray := prog_7_method_1_code
def yX12_init : MethodName := ⟨RX12, "<init>", "(IILCensusOffice$Table;)V"⟩
theorem q132 : (Jvm.Cond.initialized "CensusOffice$Release") ∈ lw_all := lw_g (lw_at lw_m1 26 rfl) rfl
theorem q1298 : (Jvm.Cond.fieldLinkNest "CensusOffice$Release" (32 : Nat) "CensusOffice$Table" "rounded" "[I" "CensusOffice") ∈ lw_tbl := lw_at lw_m5 232 rfl
theorem q1301 : (Jvm.Cond.fieldLinkNest "CensusOffice$Release" (26 : Nat) "CensusOffice$Table" "secret" "I" "CensusOffice") ∈ lw_tbl := lw_at lw_m5 235 rfl
theorem q1449 : (Jvm.Cond.instantiable "CensusOffice$Release" (5 : Nat)) ∈ lw_all := lw_g (lw_at lw_m6 143 rfl) rfl
theorem q1451 : (Jvm.Cond.instanceMethod ({ cls := "CensusOffice$Release", name := "<init>", desc := "(IILCensusOffice$Table;)V" } : Jvm.MethodName)) ∈ lw_all := lw_g (lw_at lw_m6 145 rfl) rfl
theorem q1452 : (Jvm.Cond.code ({ cls := "CensusOffice$Release", name := "<init>", desc := "(IILCensusOffice$Table;)V" } : Jvm.MethodName) prog_7_method_1_code (5 : Nat) (Option.none : Option Jvm.ClassFile.FieldType)) ∈ lw_all := lw_g (lw_at lw_m6 146 rfl) rfl
theorem q1453 : (Jvm.Cond.methodLink "CensusOffice$Release" (3 : Nat) ({ cls := "java/lang/Object", name := "<init>", desc := "()V" } : Jvm.MethodName)) ∈ lw_all := lw_g (lw_at lw_m6 147 rfl) rfl
theorem q1454 : (Jvm.Cond.fieldLink "CensusOffice$Release" (15 : Nat) "CensusOffice$Release" "person" "I") ∈ lw_all := lw_g (lw_at lw_m6 148 rfl) rfl
theorem q1456 : (Jvm.Cond.fieldLink "CensusOffice$Release" (19 : Nat) "CensusOffice$Release" "minute" "I") ∈ lw_all := lw_g (lw_at lw_m6 150 rfl) rfl
theorem q1458 : (Jvm.Cond.fieldLink "CensusOffice$Release" (22 : Nat) "CensusOffice$Release" "of" "LCensusOffice$Table;") ∈ lw_all := lw_g (lw_at lw_m6 152 rfl) rfl
theorem q1460 : (Jvm.Cond.fieldLink "CensusOffice$Release" (31 : Nat) "CensusOffice$Release" "secret" "I") ∈ lw_all := lw_g (lw_at lw_m6 154 rfl) rfl
theorem q1462 : (Jvm.Cond.fieldLink "CensusOffice$Release" (9 : Nat) "CensusOffice$Release" "numbers" "[I") ∈ lw_all := lw_g (lw_at lw_m6 156 rfl) rfl
theorem q1464 : (Jvm.Cond.laysFinal "CensusOffice$Release" "CensusOffice$Release" "person" "I") ∈ lw_all := lw_g (lw_at lw_m6 158 rfl) rfl
theorem q1465 : (Jvm.Cond.soleField "CensusOffice$Release" "person") ∈ lw_all := lw_g (lw_at lw_m6 159 rfl) rfl
theorem q1466 : (Jvm.Cond.laysFinal "CensusOffice$Release" "CensusOffice$Release" "minute" "I") ∈ lw_all := lw_g (lw_at lw_m6 160 rfl) rfl
theorem q1467 : (Jvm.Cond.soleField "CensusOffice$Release" "minute") ∈ lw_all := lw_g (lw_at lw_m6 161 rfl) rfl
theorem q1468 : (Jvm.Cond.laysFinal "CensusOffice$Release" "CensusOffice$Release" "of" "LCensusOffice$Table;") ∈ lw_all := lw_g (lw_at lw_m6 162 rfl) rfl
theorem q1469 : (Jvm.Cond.soleField "CensusOffice$Release" "of") ∈ lw_all := lw_g (lw_at lw_m6 163 rfl) rfl
theorem q1470 : (Jvm.Cond.laysFinal "CensusOffice$Release" "CensusOffice$Release" "secret" "I") ∈ lw_all := lw_g (lw_at lw_m6 164 rfl) rfl
theorem q1471 : (Jvm.Cond.soleField "CensusOffice$Release" "secret") ∈ lw_all := lw_g (lw_at lw_m6 165 rfl) rfl
theorem q1472 : (Jvm.Cond.laysFinal "CensusOffice$Release" "CensusOffice$Release" "numbers" "[I") ∈ lw_all := lw_g (lw_at lw_m6 166 rfl) rfl
theorem q1473 : (Jvm.Cond.soleField "CensusOffice$Release" "numbers") ∈ lw_all := lw_g (lw_at lw_m6 167 rfl) rfl
theorem q1474 : (Jvm.Cond.superclass "CensusOffice$Release" "java/lang/Object") ∈ lw_all := lw_g (lw_at lw_m6 168 rfl) rfl
theorem in_X12 : ∀ w ∈ wsX120, w ∈ lw_all := lw_in wsX120 [1464, 1466, 1468, 1470, 1472] (by decide +kernel) (by decide +kernel)
/-! CensusOffice -/
def RX1 : String := "CensusOffice"
def TX1 : u_T := fun k => match k with
  | 0 => ("CensusOffice", "minute", "I", false)
  | 1 => ("CensusOffice", "units", "I", false)
  | 2 => ("CensusOffice", "merges", "I", false)
  | 3 => ("CensusOffice", "tellings", "I", false)
  | 4 => ("CensusOffice", "into", "[I", true)
  | 5 => ("CensusOffice", "intoDay", "[I", true)
  | 6 => ("CensusOffice", "newest", "[I", true)
  | 7 => ("CensusOffice", "older", "[I", true)
  | 8 => ("CensusOffice", "from", "[I", true)
  | 9 => ("CensusOffice", "number", "[I", true)
  | 10 => ("CensusOffice", "known", "[I", true)
  | 11 => ("CensusOffice", "forms", "I", false)
  | 12 => ("CensusOffice", "form", "[LCensusOffice$Form;", true)
  | 13 => ("CensusOffice", "spare", "LCensusOffice$Form;", false)
  | 14 => ("CensusOffice", "tape", "[B", true)
  | 15 => ("CensusOffice", "taped", "I", false)
  | 16 => ("CensusOffice", "pile", "[J", true)
  | 17 => ("CensusOffice", "lacks", "Z", false)
  | 18 => ("CensusOffice", "sessions", "I", false)
  | 19 => ("CensusOffice", "session", "[LCensusOffice$Session;", true)
  | 20 => ("CensusOffice", "records", "I", false)
  | 21 => ("CensusOffice", "record", "[LCensusOffice$Record;", true)
  | 22 => ("CensusOffice", "least", "LCensusOffice$Least;", true)
  | 23 => ("CensusOffice", "trial", "[I", true)
  | 24 => ("CensusOffice", "distance", "[J", true)
  | 25 => ("CensusOffice", "samples", "I", false)
  | 26 => ("CensusOffice", "sample", "[LCensusOffice$Sample;", true)
  | 27 => ("CensusOffice", "frame", "[I", true)
  | 28 => ("CensusOffice", "stratum", "[I", true)
  | 29 => ("CensusOffice", "strata", "[I", true)
  | 30 => ("CensusOffice", "many", "[I", true)
  | 31 => ("CensusOffice", "gets", "[I", true)
  | 32 => ("CensusOffice", "rest", "[I", true)
  | 33 => ("CensusOffice", "flow", "LCensusOffice$Flow;", true)
  | 34 => ("CensusOffice", "tables", "I", false)
  | 35 => ("CensusOffice", "table", "[LCensusOffice$Table;", true)
  | 36 => ("CensusOffice", "bestSum", "I", false)
  | 37 => ("CensusOffice", "bestBits", "I", false)
  | 38 => ("CensusOffice", "rises", "[I", true)
  | 39 => ("CensusOffice", "persons", "I", false)
  | 40 => ("CensusOffice", "roles", "[I", true)
  | 41 => ("CensusOffice", "releases", "I", false)
  | 42 => ("CensusOffice", "release", "[LCensusOffice$Release;", true)
  | 43 => ("CensusOffice", "looks", "I", false)
  | _ => ("CensusOffice", "look", "[I", true)
def tyX1 : Nat → FieldType := fun k => match k with
  | 0 => .int
  | 1 => .int
  | 2 => .int
  | 3 => .int
  | 4 => .array .int
  | 5 => .array .int
  | 6 => .array .int
  | 7 => .array .int
  | 8 => .array .int
  | 9 => .array .int
  | 10 => .array .int
  | 11 => .int
  | 12 => .array (.object "CensusOffice$Form")
  | 13 => .object "CensusOffice$Form"
  | 14 => .array .byte
  | 15 => .int
  | 16 => .array .long
  | 17 => .boolean
  | 18 => .int
  | 19 => .array (.object "CensusOffice$Session")
  | 20 => .int
  | 21 => .array (.object "CensusOffice$Record")
  | 22 => .object "CensusOffice$Least"
  | 23 => .array .int
  | 24 => .array .long
  | 25 => .int
  | 26 => .array (.object "CensusOffice$Sample")
  | 27 => .array .int
  | 28 => .array .int
  | 29 => .array .int
  | 30 => .array .int
  | 31 => .array .int
  | 32 => .array .int
  | 33 => .object "CensusOffice$Flow"
  | 34 => .int
  | 35 => .array (.object "CensusOffice$Table")
  | 36 => .int
  | 37 => .int
  | 38 => .array .int
  | 39 => .int
  | 40 => .array .int
  | 41 => .int
  | 42 => .array (.object "CensusOffice$Release")
  | 43 => .int
  | _ => .array .int
abbrev wsX10 : List Cond := u_ws RX1 TX1 45
set_option maxRecDepth 100000 in
theorem nmX1 : ∀ a, a < 45 → ∀ b, b < 45 → a ≠ b → (TX1 a).2.1 ≠ (TX1 b).2.1 := by decide +kernel
set_option maxRecDepth 100000 in
theorem tyX1_ok : ∀ k, k < 45 → parseFieldDescriptor (TX1 k).2.2.1 = some (tyX1 k) := by decide +kernel
abbrev cX1_init : ByteArray := prog_1_method_1_code
def yX1_init : MethodName := ⟨RX1, "<init>", "()V"⟩
abbrev cX1_tick : ByteArray := prog_1_method_8_code
def yX1_tick : MethodName := ⟨RX1, "tick", "(I)I"⟩
abbrev cX1_isIn : ByteArray := prog_1_method_6_code
def yX1_isIn : MethodName := ⟨RX1, "isIn", "(JJJ)Z"⟩
abbrev cX1_need : ByteArray := prog_1_method_3_code
def yX1_need : MethodName := ⟨RX1, "need", "(Z)V"⟩
abbrev cX1_unit : ByteArray := prog_1_method_11_code
def yX1_unit : MethodName := ⟨RX1, "unit", "()I"⟩
abbrev cX1_room : ByteArray := prog_1_method_5_code
def yX1_room : MethodName := ⟨RX1, "room", "(Z)V"⟩
abbrev cX1_tell : ByteArray := prog_1_method_12_code
def yX1_tell : MethodName := ⟨RX1, "tell", "(IIII)I"⟩
abbrev cX1_unitIn : ByteArray := prog_1_method_9_code
def yX1_unitIn : MethodName := ⟨RX1, "unitIn", "(I)V"⟩
abbrev cX1_inside : ByteArray := prog_1_method_2_code
def yX1_inside : MethodName := ⟨RX1, "inside", "(Z)V"⟩
abbrev cX1_fieldIn : ByteArray := prog_1_method_10_code
def yX1_fieldIn : MethodName := ⟨RX1, "fieldIn", "(I)V"⟩
abbrev cX1_may : ByteArray := prog_1_method_4_code
def yX1_may : MethodName := ⟨RX1, "may", "(Z)V"⟩
abbrev cX1_day : ByteArray := prog_1_method_7_code
def yX1_day : MethodName := ⟨RX1, "day", "()I"⟩
abbrev cX1_merge : ByteArray := prog_1_method_14_code
def yX1_merge : MethodName := ⟨RX1, "merge", "(II)I"⟩
abbrev cX1_lastOf : ByteArray := prog_1_method_13_code
def yX1_lastOf : MethodName := ⟨RX1, "lastOf", "(II)I"⟩
abbrev cX1_value : ByteArray := prog_1_method_16_code
def yX1_value : MethodName := ⟨RX1, "value", "(IIII)I"⟩
abbrev cX1_valueOf : ByteArray := prog_1_method_15_code
def yX1_valueOf : MethodName := ⟨RX1, "valueOf", "(IIII)I"⟩
abbrev cX1_last : ByteArray := prog_1_method_17_code
def yX1_last : MethodName := ⟨RX1, "last", "(I)I"⟩
abbrev cX1_feed : ByteArray := prog_1_method_18_code
def yX1_feed : MethodName := ⟨RX1, "feed", "(IIIII)I"⟩
abbrev cX1_trim : ByteArray := prog_1_method_19_code
def yX1_trim : MethodName := ⟨RX1, "trim", "(I)I"⟩
abbrev cX1_form : ByteArray := prog_1_method_20_code
def yX1_form : MethodName := ⟨RX1, "form", "()I"⟩
abbrev cX1_statement : ByteArray := prog_1_method_23_code
def yX1_statement : MethodName := ⟨RX1, "statement", "(III)I"⟩
abbrev cX1_formOf : ByteArray := prog_1_method_21_code
def yX1_formOf : MethodName := ⟨RX1, "formOf", "(I)LCensusOffice$Form;"⟩
abbrev cX1_statementIn : ByteArray := prog_1_method_22_code
def yX1_statementIn : MethodName := ⟨RX1, "statementIn", "(LCensusOffice$Form;I)V"⟩
abbrev cX1_open : ByteArray := prog_1_method_29_code
def yX1_open : MethodName := ⟨RX1, "open", "(II)I"⟩
abbrev cX1_walk : ByteArray := prog_1_method_31_code
def yX1_walk : MethodName := ⟨RX1, "walk", "(LCensusOffice$Session;)V"⟩
abbrev cX1_letOf : ByteArray := prog_1_method_27_code
def yX1_letOf : MethodName := ⟨RX1, "letOf", "(LCensusOffice$Form;I[I[I)I"⟩
abbrev cX1_holds : ByteArray := prog_1_method_26_code
def yX1_holds : MethodName := ⟨RX1, "holds", "(LCensusOffice$Form;I[I[I)Z"⟩
abbrev cX1_work : ByteArray := prog_1_method_24_code
def yX1_work : MethodName := ⟨RX1, "work", "(LCensusOffice$Form;II[I[I)I"⟩
abbrev cX1_both : ByteArray := prog_1_method_25_code
def yX1_both : MethodName := ⟨RX1, "both", "(IJJ)J"⟩
abbrev cX1_question : ByteArray := prog_1_method_34_code
def yX1_question : MethodName := ⟨RX1, "question", "(I)I"⟩
abbrev cX1_sessionOf : ByteArray := prog_1_method_30_code
def yX1_sessionOf : MethodName := ⟨RX1, "sessionOf", "(I)LCensusOffice$Session;"⟩
abbrev cX1_isAtEnd : ByteArray := prog_1_method_33_code
def yX1_isAtEnd : MethodName := ⟨RX1, "isAtEnd", "(LCensusOffice$Session;)Z"⟩
abbrev cX1_answer : ByteArray := prog_1_method_37_code
def yX1_answer : MethodName := ⟨RX1, "answer", "(II)I"⟩
abbrev cX1_give : ByteArray := prog_1_method_35_code
def yX1_give : MethodName := ⟨RX1, "give", "(LCensusOffice$Session;II)V"⟩
abbrev cX1_brokenBehind : ByteArray := prog_1_method_32_code
def yX1_brokenBehind : MethodName := ⟨RX1, "brokenBehind", "(LCensusOffice$Session;III)I"⟩
abbrev cX1_isBroken : ByteArray := prog_1_method_28_code
def yX1_isBroken : MethodName := ⟨RX1, "isBroken", "(LCensusOffice$Form;I[I[I)Z"⟩
abbrev cX1_ungive : ByteArray := prog_1_method_36_code
def yX1_ungive : MethodName := ⟨RX1, "ungive", "(LCensusOffice$Session;I)V"⟩
abbrev cX1_takeOn : ByteArray := prog_1_method_38_code
def yX1_takeOn : MethodName := ⟨RX1, "takeOn", "(LCensusOffice$Session;)V"⟩
abbrev cX1_back : ByteArray := prog_1_method_39_code
def yX1_back : MethodName := ⟨RX1, "back", "(I)I"⟩
abbrev cX1_given : ByteArray := prog_1_method_40_code
def yX1_given : MethodName := ⟨RX1, "given", "(IIZ)I"⟩
abbrev cX1_close : ByteArray := prog_1_method_41_code
def yX1_close : MethodName := ⟨RX1, "close", "(I)I"⟩
abbrev cX1_item : ByteArray := prog_1_method_43_code
def yX1_item : MethodName := ⟨RX1, "item", "(II)I"⟩
abbrev cX1_recordOf : ByteArray := prog_1_method_42_code
def yX1_recordOf : MethodName := ⟨RX1, "recordOf", "(I)LCensusOffice$Record;"⟩
abbrev cX1_mark : ByteArray := prog_1_method_44_code
def yX1_mark : MethodName := ⟨RX1, "mark", "(II)I"⟩
abbrev cX1_rule : ByteArray := prog_1_method_46_code
def yX1_rule : MethodName := ⟨RX1, "rule", "(IIII)I"⟩
abbrev cX1_askIn : ByteArray := prog_1_method_45_code
def yX1_askIn : MethodName := ⟨RX1, "askIn", "(LCensusOffice$Form;I)V"⟩
abbrev cX1_cost : ByteArray := prog_1_method_47_code
def yX1_cost : MethodName := ⟨RX1, "cost", "(III)I"⟩
abbrev cX1_broken : ByteArray := prog_1_method_50_code
def yX1_broken : MethodName := ⟨RX1, "broken", "(II)I"⟩
abbrev cX1_countBroken : ByteArray := prog_1_method_49_code
def yX1_countBroken : MethodName := ⟨RX1, "countBroken", "(LCensusOffice$Form;[I)I"⟩
abbrev cX1_breaks : ByteArray := prog_1_method_48_code
def yX1_breaks : MethodName := ⟨RX1, "breaks", "(LCensusOffice$Form;I[I)Z"⟩
abbrev cX1_least : ByteArray := prog_1_method_51_code
def yX1_least : MethodName := ⟨RX1, "least", "(IZ)I"⟩
abbrev cX1_impute : ByteArray := prog_1_method_52_code
def yX1_impute : MethodName := ⟨RX1, "impute", "(II)I"⟩
abbrev cX1_takeFromDonor : ByteArray := prog_1_method_53_code
def yX1_takeFromDonor : MethodName := ⟨RX1, "takeFromDonor", "(LCensusOffice$Record;I)Z"⟩
abbrev cX1_isDonor : ByteArray := prog_1_method_54_code
def yX1_isDonor : MethodName := ⟨RX1, "isDonor", "(LCensusOffice$Record;LCensusOffice$Record;I)Z"⟩
abbrev cX1_distanceOf : ByteArray := prog_1_method_55_code
def yX1_distanceOf : MethodName := ⟨RX1, "distanceOf", "(LCensusOffice$Record;LCensusOffice$Record;I)J"⟩
abbrev cX1_sample : ByteArray := prog_1_method_58_code
def yX1_sample : MethodName := ⟨RX1, "sample", "(IIIIII)I"⟩
abbrev cX1_lookAtFrame : ByteArray := prog_1_method_57_code
def yX1_lookAtFrame : MethodName := ⟨RX1, "lookAtFrame", "(IIII)I"⟩
abbrev cX1_share : ByteArray := prog_1_method_59_code
def yX1_share : MethodName := ⟨RX1, "share", "(III)V"⟩
abbrev cX1_draw : ByteArray := prog_1_method_60_code
def yX1_draw : MethodName := ⟨RX1, "draw", "(LCensusOffice$Sample;III)V"⟩
abbrev cX1_key : ByteArray := prog_1_method_56_code
def yX1_key : MethodName := ⟨RX1, "key", "(II)I"⟩
abbrev cX1_drawn : ByteArray := prog_1_method_62_code
def yX1_drawn : MethodName := ⟨RX1, "drawn", "(II)I"⟩
abbrev cX1_sampleOf : ByteArray := prog_1_method_61_code
def yX1_sampleOf : MethodName := ⟨RX1, "sampleOf", "(I)LCensusOffice$Sample;"⟩
abbrev cX1_chance : ByteArray := prog_1_method_63_code
def yX1_chance : MethodName := ⟨RX1, "chance", "(IIZ)I"⟩
abbrev cX1_overlap : ByteArray := prog_1_method_64_code
def yX1_overlap : MethodName := ⟨RX1, "overlap", "(II)I"⟩
abbrev cX1_table : ByteArray := prog_1_method_65_code
def yX1_table : MethodName := ⟨RX1, "table", "(IIIII)I"⟩
abbrev cX1_cell : ByteArray := prog_1_method_67_code
def yX1_cell : MethodName := ⟨RX1, "cell", "(IIII)I"⟩
abbrev cX1_tableOf : ByteArray := prog_1_method_66_code
def yX1_tableOf : MethodName := ⟨RX1, "tableOf", "(I)LCensusOffice$Table;"⟩
abbrev cX1_secrecy : ByteArray := prog_1_method_72_code
def yX1_secrecy : MethodName := ⟨RX1, "secrecy", "(IIII)I"⟩
abbrev cX1_choose : ByteArray := prog_1_method_71_code
def yX1_choose : MethodName := ⟨RX1, "choose", "(LCensusOffice$Table;IIII)V"⟩
abbrev cX1_isGood : ByteArray := prog_1_method_70_code
def yX1_isGood : MethodName := ⟨RX1, "isGood", "(LCensusOffice$Table;II)Z"⟩
abbrev cX1_reach : ByteArray := prog_1_method_68_code
def yX1_reach : MethodName := ⟨RX1, "reach", "(LCensusOffice$Table;IIZI)I"⟩
abbrev cX1_secret : ByteArray := prog_1_method_74_code
def yX1_secret : MethodName := ⟨RX1, "secret", "(III)I"⟩
abbrev cX1_cellIn : ByteArray := prog_1_method_73_code
def yX1_cellIn : MethodName := ⟨RX1, "cellIn", "(III)LCensusOffice$Table;"⟩
abbrev cX1_interval : ByteArray := prog_1_method_75_code
def yX1_interval : MethodName := ⟨RX1, "interval", "(IIIZ)I"⟩
abbrev cX1_end : ByteArray := prog_1_method_69_code
def yX1_end : MethodName := ⟨RX1, "end", "(LCensusOffice$Table;IIZ)I"⟩
abbrev cX1_round : ByteArray := prog_1_method_79_code
def yX1_round : MethodName := ⟨RX1, "round", "(II)I"⟩
abbrev cX1_isRight : ByteArray := prog_1_method_77_code
def yX1_isRight : MethodName := ⟨RX1, "isRight", "(LCensusOffice$Table;II)Z"⟩
abbrev cX1_rising : ByteArray := prog_1_method_76_code
def yX1_rising : MethodName := ⟨RX1, "rising", "(LCensusOffice$Table;IIIZ)I"⟩
abbrev cX1_between : ByteArray := prog_1_method_78_code
def yX1_between : MethodName := ⟨RX1, "between", "(IIIIII)I"⟩
abbrev cX1_person : ByteArray := prog_1_method_80_code
def yX1_person : MethodName := ⟨RX1, "person", "(I)I"⟩
abbrev cX1_release : ByteArray := prog_1_method_82_code
def yX1_release : MethodName := ⟨RX1, "release", "(III)I"⟩
abbrev cX1_personIn : ByteArray := prog_1_method_81_code
def yX1_personIn : MethodName := ⟨RX1, "personIn", "(I)V"⟩
abbrev cX1_look : ByteArray := prog_1_method_83_code
def yX1_look : MethodName := ⟨RX1, "look", "(IIII)I"⟩
abbrev cX1_looked : ByteArray := prog_1_method_84_code
def yX1_looked : MethodName := ⟨RX1, "looked", "(II)I"⟩
abbrev cX1_told : ByteArray := prog_1_method_85_code
def yX1_told : MethodName := ⟨RX1, "told", "(I)I"⟩
theorem q107 : (Jvm.Cond.initialized "CensusOffice") ∈ lw_all := lw_g (lw_at lw_m1 1 rfl) rfl
theorem q134 : (Jvm.Cond.instantiable "CensusOffice" (45 : Nat)) ∈ lw_all := lw_g (lw_at lw_m1 28 rfl) rfl
theorem q136 : (Jvm.Cond.instanceMethod ({ cls := "CensusOffice", name := "<init>", desc := "()V" } : Jvm.MethodName)) ∈ lw_all := lw_g (lw_at lw_m1 30 rfl) rfl
theorem q137 : (Jvm.Cond.code ({ cls := "CensusOffice", name := "<init>", desc := "()V" } : Jvm.MethodName) prog_1_method_1_code (2 : Nat) (Option.none : Option Jvm.ClassFile.FieldType)) ∈ lw_all := lw_g (lw_at lw_m1 31 rfl) rfl
theorem q138 : (Jvm.Cond.methodLink "CensusOffice" (3 : Nat) ({ cls := "java/lang/Object", name := "<init>", desc := "()V" } : Jvm.MethodName)) ∈ lw_all := lw_g (lw_at lw_m1 32 rfl) rfl
theorem q141 : (Jvm.Cond.classLink "CensusOffice" (33 : Nat) "CensusOffice$Form") ∈ lw_all := lw_g (lw_at lw_m1 35 rfl) rfl
theorem q144 : (Jvm.Cond.methodLinkNest "CensusOffice" (39 : Nat) ({ cls := "CensusOffice$Form", name := "<init>", desc := "()V" } : Jvm.MethodName) "CensusOffice") ∈ lw_tbl := lw_at lw_m1 38 rfl
theorem q151 : (Jvm.Cond.fieldLinkNest "CensusOffice" (232 : Nat) "CensusOffice$Form" "statements" "I" "CensusOffice") ∈ lw_tbl := lw_at lw_m1 45 rfl
theorem q156 : (Jvm.Cond.fieldLinkNest "CensusOffice" (245 : Nat) "CensusOffice$Form" "sort" "[I" "CensusOffice") ∈ lw_tbl := lw_at lw_m1 50 rfl
theorem q160 : (Jvm.Cond.fieldLinkNest "CensusOffice" (248 : Nat) "CensusOffice$Form" "low" "[I" "CensusOffice") ∈ lw_tbl := lw_at lw_m1 54 rfl
theorem q164 : (Jvm.Cond.fieldLinkNest "CensusOffice" (251 : Nat) "CensusOffice$Form" "high" "[I" "CensusOffice") ∈ lw_tbl := lw_at lw_m1 58 rfl
theorem q168 : (Jvm.Cond.fieldLinkNest "CensusOffice" (254 : Nat) "CensusOffice$Form" "cost" "[I" "CensusOffice") ∈ lw_tbl := lw_at lw_m1 62 rfl
theorem q172 : (Jvm.Cond.fieldLinkNest "CensusOffice" (261 : Nat) "CensusOffice$Form" "orders" "[I" "CensusOffice") ∈ lw_tbl := lw_at lw_m1 66 rfl
theorem q177 : (Jvm.Cond.fieldLinkNest "CensusOffice" (284 : Nat) "CensusOffice$Form" "begin" "[I" "CensusOffice") ∈ lw_tbl := lw_at lw_m1 71 rfl
theorem q180 : (Jvm.Cond.fieldLinkNest "CensusOffice" (270 : Nat) "CensusOffice$Form" "middle" "[I" "CensusOffice") ∈ lw_tbl := lw_at lw_m1 74 rfl
theorem q183 : (Jvm.Cond.fieldLinkNest "CensusOffice" (273 : Nat) "CensusOffice$Form" "end" "[I" "CensusOffice") ∈ lw_tbl := lw_at lw_m1 77 rfl
theorem q185 : (Jvm.Cond.fieldLinkNest "CensusOffice" (387 : Nat) "CensusOffice$Form" "rules" "I" "CensusOffice") ∈ lw_tbl := lw_at lw_m1 79 rfl
theorem q188 : (Jvm.Cond.fieldLinkNest "CensusOffice" (390 : Nat) "CensusOffice$Form" "ruleA" "[I" "CensusOffice") ∈ lw_tbl := lw_at lw_m1 82 rfl
theorem q191 : (Jvm.Cond.fieldLinkNest "CensusOffice" (393 : Nat) "CensusOffice$Form" "ruleB" "[I" "CensusOffice") ∈ lw_tbl := lw_at lw_m1 85 rfl
theorem q194 : (Jvm.Cond.fieldLinkNest "CensusOffice" (396 : Nat) "CensusOffice$Form" "ruleN" "[I" "CensusOffice") ∈ lw_tbl := lw_at lw_m1 88 rfl
theorem q230 : (Jvm.Cond.classLink "CensusOffice" (52 : Nat) "CensusOffice$Session") ∈ lw_all := lw_g (lw_at lw_m1 124 rfl) rfl
theorem q232 : (Jvm.Cond.classLink "CensusOffice" (58 : Nat) "CensusOffice$Record") ∈ lw_all := lw_g (lw_at lw_m1 126 rfl) rfl
theorem q234 : (Jvm.Cond.classLink "CensusOffice" (64 : Nat) "CensusOffice$Least") ∈ lw_all := lw_g (lw_at lw_m1 128 rfl) rfl
theorem q236 : (Jvm.Cond.methodLinkNest "CensusOffice" (66 : Nat) ({ cls := "CensusOffice$Least", name := "<init>", desc := "(LCensusOffice;)V" } : Jvm.MethodName) "CensusOffice") ∈ lw_tbl := lw_at lw_m1 130 rfl
theorem q250 : (Jvm.Cond.fieldLinkNest "CensusOffice" (416 : Nat) "CensusOffice$Least" "bestSum" "I" "CensusOffice") ∈ lw_tbl := lw_at lw_m1 144 rfl
theorem q252 : (Jvm.Cond.fieldLinkNest "CensusOffice" (413 : Nat) "CensusOffice$Least" "bestBits" "I" "CensusOffice") ∈ lw_tbl := lw_at lw_m1 146 rfl
theorem q280 : (Jvm.Cond.classLink "CensusOffice" (79 : Nat) "CensusOffice$Sample") ∈ lw_all := lw_g (lw_at lw_m1 174 rfl) rfl
theorem q282 : (Jvm.Cond.classLink "CensusOffice" (103 : Nat) "CensusOffice$Flow") ∈ lw_all := lw_g (lw_at lw_m1 176 rfl) rfl
theorem q284 : (Jvm.Cond.methodLinkNest "CensusOffice" (105 : Nat) ({ cls := "CensusOffice$Flow", name := "<init>", desc := "(LCensusOffice;)V" } : Jvm.MethodName) "CensusOffice") ∈ lw_tbl := lw_at lw_m1 178 rfl
theorem q301 : (Jvm.Cond.classLink "CensusOffice" (110 : Nat) "CensusOffice$Table") ∈ lw_all := lw_g (lw_at lw_m1 195 rfl) rfl
theorem q303 : (Jvm.Cond.classLink "CensusOffice" (122 : Nat) "CensusOffice$Release") ∈ lw_all := lw_g (lw_at lw_m1 197 rfl) rfl
theorem q305 : (Jvm.Cond.fieldLink "CensusOffice" (153 : Nat) "CensusOffice" "minute" "I") ∈ lw_all := lw_g (lw_at lw_m1 199 rfl) rfl
theorem q306 : (Jvm.Cond.fieldLink "CensusOffice" (168 : Nat) "CensusOffice" "units" "I") ∈ lw_all := lw_g (lw_at lw_m1 200 rfl) rfl
theorem q307 : (Jvm.Cond.fieldLink "CensusOffice" (207 : Nat) "CensusOffice" "merges" "I") ∈ lw_all := lw_g (lw_at lw_m1 201 rfl) rfl
theorem q308 : (Jvm.Cond.fieldLink "CensusOffice" (193 : Nat) "CensusOffice" "tellings" "I") ∈ lw_all := lw_g (lw_at lw_m1 202 rfl) rfl
theorem q309 : (Jvm.Cond.fieldLink "CensusOffice" (11 : Nat) "CensusOffice" "into" "[I") ∈ lw_all := lw_g (lw_at lw_m1 203 rfl) rfl
theorem q310 : (Jvm.Cond.fieldLink "CensusOffice" (15 : Nat) "CensusOffice" "intoDay" "[I") ∈ lw_all := lw_g (lw_at lw_m1 204 rfl) rfl
theorem q311 : (Jvm.Cond.fieldLink "CensusOffice" (18 : Nat) "CensusOffice" "newest" "[I") ∈ lw_all := lw_g (lw_at lw_m1 205 rfl) rfl
theorem q312 : (Jvm.Cond.fieldLink "CensusOffice" (21 : Nat) "CensusOffice" "older" "[I") ∈ lw_all := lw_g (lw_at lw_m1 206 rfl) rfl
theorem q313 : (Jvm.Cond.fieldLink "CensusOffice" (24 : Nat) "CensusOffice" "from" "[I") ∈ lw_all := lw_g (lw_at lw_m1 207 rfl) rfl
theorem q314 : (Jvm.Cond.fieldLink "CensusOffice" (27 : Nat) "CensusOffice" "number" "[I") ∈ lw_all := lw_g (lw_at lw_m1 208 rfl) rfl
theorem q315 : (Jvm.Cond.fieldLink "CensusOffice" (30 : Nat) "CensusOffice" "known" "[I") ∈ lw_all := lw_g (lw_at lw_m1 209 rfl) rfl
theorem q316 : (Jvm.Cond.fieldLink "CensusOffice" (218 : Nat) "CensusOffice" "forms" "I") ∈ lw_all := lw_g (lw_at lw_m1 210 rfl) rfl
theorem q317 : (Jvm.Cond.fieldLink "CensusOffice" (35 : Nat) "CensusOffice" "form" "[LCensusOffice$Form;") ∈ lw_all := lw_g (lw_at lw_m1 211 rfl) rfl
theorem q319 : (Jvm.Cond.fieldLink "CensusOffice" (40 : Nat) "CensusOffice" "spare" "LCensusOffice$Form;") ∈ lw_all := lw_g (lw_at lw_m1 213 rfl) rfl
theorem q320 : (Jvm.Cond.fieldLink "CensusOffice" (44 : Nat) "CensusOffice" "tape" "[B") ∈ lw_all := lw_g (lw_at lw_m1 214 rfl) rfl
theorem q323 : (Jvm.Cond.fieldLink "CensusOffice" (215 : Nat) "CensusOffice" "taped" "I") ∈ lw_all := lw_g (lw_at lw_m1 217 rfl) rfl
theorem q324 : (Jvm.Cond.fieldLink "CensusOffice" (48 : Nat) "CensusOffice" "pile" "[J") ∈ lw_all := lw_g (lw_at lw_m1 218 rfl) rfl
theorem q325 : (Jvm.Cond.fieldLink "CensusOffice" (257 : Nat) "CensusOffice" "lacks" "Z") ∈ lw_all := lw_g (lw_at lw_m1 219 rfl) rfl
theorem q326 : (Jvm.Cond.fieldLink "CensusOffice" (287 : Nat) "CensusOffice" "sessions" "I") ∈ lw_all := lw_g (lw_at lw_m1 220 rfl) rfl
theorem q327 : (Jvm.Cond.fieldLink "CensusOffice" (54 : Nat) "CensusOffice" "session" "[LCensusOffice$Session;") ∈ lw_all := lw_g (lw_at lw_m1 221 rfl) rfl
theorem q328 : (Jvm.Cond.fieldLink "CensusOffice" (360 : Nat) "CensusOffice" "records" "I") ∈ lw_all := lw_g (lw_at lw_m1 222 rfl) rfl
theorem q329 : (Jvm.Cond.fieldLink "CensusOffice" (60 : Nat) "CensusOffice" "record" "[LCensusOffice$Record;") ∈ lw_all := lw_g (lw_at lw_m1 223 rfl) rfl
theorem q330 : (Jvm.Cond.fieldLink "CensusOffice" (69 : Nat) "CensusOffice" "least" "LCensusOffice$Least;") ∈ lw_all := lw_g (lw_at lw_m1 224 rfl) rfl
theorem q331 : (Jvm.Cond.fieldLink "CensusOffice" (73 : Nat) "CensusOffice" "trial" "[I") ∈ lw_all := lw_g (lw_at lw_m1 225 rfl) rfl
theorem q332 : (Jvm.Cond.fieldLink "CensusOffice" (76 : Nat) "CensusOffice" "distance" "[J") ∈ lw_all := lw_g (lw_at lw_m1 226 rfl) rfl
theorem q333 : (Jvm.Cond.fieldLink "CensusOffice" (454 : Nat) "CensusOffice" "samples" "I") ∈ lw_all := lw_g (lw_at lw_m1 227 rfl) rfl
theorem q334 : (Jvm.Cond.fieldLink "CensusOffice" (81 : Nat) "CensusOffice" "sample" "[LCensusOffice$Sample;") ∈ lw_all := lw_g (lw_at lw_m1 228 rfl) rfl
theorem q335 : (Jvm.Cond.fieldLink "CensusOffice" (85 : Nat) "CensusOffice" "frame" "[I") ∈ lw_all := lw_g (lw_at lw_m1 229 rfl) rfl
theorem q336 : (Jvm.Cond.fieldLink "CensusOffice" (88 : Nat) "CensusOffice" "stratum" "[I") ∈ lw_all := lw_g (lw_at lw_m1 230 rfl) rfl
theorem q337 : (Jvm.Cond.fieldLink "CensusOffice" (91 : Nat) "CensusOffice" "strata" "[I") ∈ lw_all := lw_g (lw_at lw_m1 231 rfl) rfl
theorem q338 : (Jvm.Cond.fieldLink "CensusOffice" (94 : Nat) "CensusOffice" "many" "[I") ∈ lw_all := lw_g (lw_at lw_m1 232 rfl) rfl
theorem q339 : (Jvm.Cond.fieldLink "CensusOffice" (97 : Nat) "CensusOffice" "gets" "[I") ∈ lw_all := lw_g (lw_at lw_m1 233 rfl) rfl
theorem q340 : (Jvm.Cond.fieldLink "CensusOffice" (100 : Nat) "CensusOffice" "rest" "[I") ∈ lw_all := lw_g (lw_at lw_m1 234 rfl) rfl
theorem q341 : (Jvm.Cond.fieldLink "CensusOffice" (106 : Nat) "CensusOffice" "flow" "LCensusOffice$Flow;") ∈ lw_all := lw_g (lw_at lw_m1 235 rfl) rfl
theorem q342 : (Jvm.Cond.fieldLink "CensusOffice" (482 : Nat) "CensusOffice" "tables" "I") ∈ lw_all := lw_g (lw_at lw_m1 236 rfl) rfl
theorem q343 : (Jvm.Cond.fieldLink "CensusOffice" (112 : Nat) "CensusOffice" "table" "[LCensusOffice$Table;") ∈ lw_all := lw_g (lw_at lw_m1 237 rfl) rfl
theorem q344 : (Jvm.Cond.fieldLink "CensusOffice" (541 : Nat) "CensusOffice" "bestSum" "I") ∈ lw_all := lw_g (lw_at lw_m1 238 rfl) rfl
theorem q345 : (Jvm.Cond.fieldLink "CensusOffice" (546 : Nat) "CensusOffice" "bestBits" "I") ∈ lw_all := lw_g (lw_at lw_m1 239 rfl) rfl
theorem q346 : (Jvm.Cond.fieldLink "CensusOffice" (116 : Nat) "CensusOffice" "rises" "[I") ∈ lw_all := lw_g (lw_at lw_m2 0 rfl) rfl
theorem q347 : (Jvm.Cond.fieldLink "CensusOffice" (580 : Nat) "CensusOffice" "persons" "I") ∈ lw_all := lw_g (lw_at lw_m2 1 rfl) rfl
theorem q348 : (Jvm.Cond.fieldLink "CensusOffice" (119 : Nat) "CensusOffice" "roles" "[I") ∈ lw_all := lw_g (lw_at lw_m2 2 rfl) rfl
theorem q349 : (Jvm.Cond.fieldLink "CensusOffice" (586 : Nat) "CensusOffice" "releases" "I") ∈ lw_all := lw_g (lw_at lw_m2 3 rfl) rfl
theorem q350 : (Jvm.Cond.fieldLink "CensusOffice" (124 : Nat) "CensusOffice" "release" "[LCensusOffice$Release;") ∈ lw_all := lw_g (lw_at lw_m2 4 rfl) rfl
theorem q351 : (Jvm.Cond.fieldLink "CensusOffice" (595 : Nat) "CensusOffice" "looks" "I") ∈ lw_all := lw_g (lw_at lw_m2 5 rfl) rfl
theorem q352 : (Jvm.Cond.fieldLink "CensusOffice" (128 : Nat) "CensusOffice" "look" "[I") ∈ lw_all := lw_g (lw_at lw_m2 6 rfl) rfl
theorem q353 : (Jvm.Cond.lays "CensusOffice" "CensusOffice" "minute" "I") ∈ lw_all := lw_g (lw_at lw_m2 7 rfl) rfl
theorem q354 : (Jvm.Cond.soleField "CensusOffice" "minute") ∈ lw_all := lw_g (lw_at lw_m2 8 rfl) rfl
theorem q355 : (Jvm.Cond.lays "CensusOffice" "CensusOffice" "units" "I") ∈ lw_all := lw_g (lw_at lw_m2 9 rfl) rfl
theorem q356 : (Jvm.Cond.soleField "CensusOffice" "units") ∈ lw_all := lw_g (lw_at lw_m2 10 rfl) rfl
theorem q357 : (Jvm.Cond.lays "CensusOffice" "CensusOffice" "merges" "I") ∈ lw_all := lw_g (lw_at lw_m2 11 rfl) rfl
theorem q358 : (Jvm.Cond.soleField "CensusOffice" "merges") ∈ lw_all := lw_g (lw_at lw_m2 12 rfl) rfl
theorem q359 : (Jvm.Cond.lays "CensusOffice" "CensusOffice" "tellings" "I") ∈ lw_all := lw_g (lw_at lw_m2 13 rfl) rfl
theorem q360 : (Jvm.Cond.soleField "CensusOffice" "tellings") ∈ lw_all := lw_g (lw_at lw_m2 14 rfl) rfl
theorem q361 : (Jvm.Cond.laysFinal "CensusOffice" "CensusOffice" "into" "[I") ∈ lw_all := lw_g (lw_at lw_m2 15 rfl) rfl
theorem q362 : (Jvm.Cond.soleField "CensusOffice" "into") ∈ lw_all := lw_g (lw_at lw_m2 16 rfl) rfl
theorem q363 : (Jvm.Cond.laysFinal "CensusOffice" "CensusOffice" "intoDay" "[I") ∈ lw_all := lw_g (lw_at lw_m2 17 rfl) rfl
theorem q364 : (Jvm.Cond.soleField "CensusOffice" "intoDay") ∈ lw_all := lw_g (lw_at lw_m2 18 rfl) rfl
theorem q365 : (Jvm.Cond.laysFinal "CensusOffice" "CensusOffice" "newest" "[I") ∈ lw_all := lw_g (lw_at lw_m2 19 rfl) rfl
theorem q366 : (Jvm.Cond.soleField "CensusOffice" "newest") ∈ lw_all := lw_g (lw_at lw_m2 20 rfl) rfl
theorem q367 : (Jvm.Cond.laysFinal "CensusOffice" "CensusOffice" "older" "[I") ∈ lw_all := lw_g (lw_at lw_m2 21 rfl) rfl
theorem q368 : (Jvm.Cond.soleField "CensusOffice" "older") ∈ lw_all := lw_g (lw_at lw_m2 22 rfl) rfl
theorem q369 : (Jvm.Cond.laysFinal "CensusOffice" "CensusOffice" "from" "[I") ∈ lw_all := lw_g (lw_at lw_m2 23 rfl) rfl
theorem q370 : (Jvm.Cond.soleField "CensusOffice" "from") ∈ lw_all := lw_g (lw_at lw_m2 24 rfl) rfl
theorem q371 : (Jvm.Cond.laysFinal "CensusOffice" "CensusOffice" "number" "[I") ∈ lw_all := lw_g (lw_at lw_m2 25 rfl) rfl
theorem q372 : (Jvm.Cond.soleField "CensusOffice" "number") ∈ lw_all := lw_g (lw_at lw_m2 26 rfl) rfl
theorem q373 : (Jvm.Cond.laysFinal "CensusOffice" "CensusOffice" "known" "[I") ∈ lw_all := lw_g (lw_at lw_m2 27 rfl) rfl
theorem q374 : (Jvm.Cond.soleField "CensusOffice" "known") ∈ lw_all := lw_g (lw_at lw_m2 28 rfl) rfl
theorem q375 : (Jvm.Cond.lays "CensusOffice" "CensusOffice" "forms" "I") ∈ lw_all := lw_g (lw_at lw_m2 29 rfl) rfl
theorem q376 : (Jvm.Cond.soleField "CensusOffice" "forms") ∈ lw_all := lw_g (lw_at lw_m2 30 rfl) rfl
theorem q377 : (Jvm.Cond.laysFinal "CensusOffice" "CensusOffice" "form" "[LCensusOffice$Form;") ∈ lw_all := lw_g (lw_at lw_m2 31 rfl) rfl
theorem q378 : (Jvm.Cond.soleField "CensusOffice" "form") ∈ lw_all := lw_g (lw_at lw_m2 32 rfl) rfl
theorem q379 : (Jvm.Cond.lays "CensusOffice" "CensusOffice" "spare" "LCensusOffice$Form;") ∈ lw_all := lw_g (lw_at lw_m2 33 rfl) rfl
theorem q380 : (Jvm.Cond.soleField "CensusOffice" "spare") ∈ lw_all := lw_g (lw_at lw_m2 34 rfl) rfl
theorem q381 : (Jvm.Cond.laysFinal "CensusOffice" "CensusOffice" "tape" "[B") ∈ lw_all := lw_g (lw_at lw_m2 35 rfl) rfl
theorem q382 : (Jvm.Cond.soleField "CensusOffice" "tape") ∈ lw_all := lw_g (lw_at lw_m2 36 rfl) rfl
theorem q383 : (Jvm.Cond.lays "CensusOffice" "CensusOffice" "taped" "I") ∈ lw_all := lw_g (lw_at lw_m2 37 rfl) rfl
theorem q384 : (Jvm.Cond.soleField "CensusOffice" "taped") ∈ lw_all := lw_g (lw_at lw_m2 38 rfl) rfl
theorem q385 : (Jvm.Cond.laysFinal "CensusOffice" "CensusOffice" "pile" "[J") ∈ lw_all := lw_g (lw_at lw_m2 39 rfl) rfl
theorem q386 : (Jvm.Cond.soleField "CensusOffice" "pile") ∈ lw_all := lw_g (lw_at lw_m2 40 rfl) rfl
theorem q387 : (Jvm.Cond.lays "CensusOffice" "CensusOffice" "lacks" "Z") ∈ lw_all := lw_g (lw_at lw_m2 41 rfl) rfl
theorem q388 : (Jvm.Cond.soleField "CensusOffice" "lacks") ∈ lw_all := lw_g (lw_at lw_m2 42 rfl) rfl
theorem q389 : (Jvm.Cond.lays "CensusOffice" "CensusOffice" "sessions" "I") ∈ lw_all := lw_g (lw_at lw_m2 43 rfl) rfl
theorem q390 : (Jvm.Cond.soleField "CensusOffice" "sessions") ∈ lw_all := lw_g (lw_at lw_m2 44 rfl) rfl
theorem q391 : (Jvm.Cond.laysFinal "CensusOffice" "CensusOffice" "session" "[LCensusOffice$Session;") ∈ lw_all := lw_g (lw_at lw_m2 45 rfl) rfl
theorem q392 : (Jvm.Cond.soleField "CensusOffice" "session") ∈ lw_all := lw_g (lw_at lw_m2 46 rfl) rfl
theorem q393 : (Jvm.Cond.lays "CensusOffice" "CensusOffice" "records" "I") ∈ lw_all := lw_g (lw_at lw_m2 47 rfl) rfl
theorem q394 : (Jvm.Cond.soleField "CensusOffice" "records") ∈ lw_all := lw_g (lw_at lw_m2 48 rfl) rfl
theorem q395 : (Jvm.Cond.laysFinal "CensusOffice" "CensusOffice" "record" "[LCensusOffice$Record;") ∈ lw_all := lw_g (lw_at lw_m2 49 rfl) rfl
theorem q396 : (Jvm.Cond.soleField "CensusOffice" "record") ∈ lw_all := lw_g (lw_at lw_m2 50 rfl) rfl
theorem q397 : (Jvm.Cond.laysFinal "CensusOffice" "CensusOffice" "least" "LCensusOffice$Least;") ∈ lw_all := lw_g (lw_at lw_m2 51 rfl) rfl
theorem q398 : (Jvm.Cond.soleField "CensusOffice" "least") ∈ lw_all := lw_g (lw_at lw_m2 52 rfl) rfl
theorem q399 : (Jvm.Cond.laysFinal "CensusOffice" "CensusOffice" "trial" "[I") ∈ lw_all := lw_g (lw_at lw_m2 53 rfl) rfl
theorem q400 : (Jvm.Cond.soleField "CensusOffice" "trial") ∈ lw_all := lw_g (lw_at lw_m2 54 rfl) rfl
theorem q401 : (Jvm.Cond.laysFinal "CensusOffice" "CensusOffice" "distance" "[J") ∈ lw_all := lw_g (lw_at lw_m2 55 rfl) rfl
theorem q402 : (Jvm.Cond.soleField "CensusOffice" "distance") ∈ lw_all := lw_g (lw_at lw_m2 56 rfl) rfl
theorem q403 : (Jvm.Cond.lays "CensusOffice" "CensusOffice" "samples" "I") ∈ lw_all := lw_g (lw_at lw_m2 57 rfl) rfl
theorem q404 : (Jvm.Cond.soleField "CensusOffice" "samples") ∈ lw_all := lw_g (lw_at lw_m2 58 rfl) rfl
theorem q405 : (Jvm.Cond.laysFinal "CensusOffice" "CensusOffice" "sample" "[LCensusOffice$Sample;") ∈ lw_all := lw_g (lw_at lw_m2 59 rfl) rfl
theorem q406 : (Jvm.Cond.soleField "CensusOffice" "sample") ∈ lw_all := lw_g (lw_at lw_m2 60 rfl) rfl
theorem q407 : (Jvm.Cond.laysFinal "CensusOffice" "CensusOffice" "frame" "[I") ∈ lw_all := lw_g (lw_at lw_m2 61 rfl) rfl
theorem q408 : (Jvm.Cond.soleField "CensusOffice" "frame") ∈ lw_all := lw_g (lw_at lw_m2 62 rfl) rfl
theorem q409 : (Jvm.Cond.laysFinal "CensusOffice" "CensusOffice" "stratum" "[I") ∈ lw_all := lw_g (lw_at lw_m2 63 rfl) rfl
theorem q410 : (Jvm.Cond.soleField "CensusOffice" "stratum") ∈ lw_all := lw_g (lw_at lw_m2 64 rfl) rfl
theorem q411 : (Jvm.Cond.laysFinal "CensusOffice" "CensusOffice" "strata" "[I") ∈ lw_all := lw_g (lw_at lw_m2 65 rfl) rfl
theorem q412 : (Jvm.Cond.soleField "CensusOffice" "strata") ∈ lw_all := lw_g (lw_at lw_m2 66 rfl) rfl
theorem q413 : (Jvm.Cond.laysFinal "CensusOffice" "CensusOffice" "many" "[I") ∈ lw_all := lw_g (lw_at lw_m2 67 rfl) rfl
theorem q414 : (Jvm.Cond.soleField "CensusOffice" "many") ∈ lw_all := lw_g (lw_at lw_m2 68 rfl) rfl
theorem q415 : (Jvm.Cond.laysFinal "CensusOffice" "CensusOffice" "gets" "[I") ∈ lw_all := lw_g (lw_at lw_m2 69 rfl) rfl
theorem q416 : (Jvm.Cond.soleField "CensusOffice" "gets") ∈ lw_all := lw_g (lw_at lw_m2 70 rfl) rfl
theorem q417 : (Jvm.Cond.laysFinal "CensusOffice" "CensusOffice" "rest" "[I") ∈ lw_all := lw_g (lw_at lw_m2 71 rfl) rfl
theorem q418 : (Jvm.Cond.soleField "CensusOffice" "rest") ∈ lw_all := lw_g (lw_at lw_m2 72 rfl) rfl
theorem q419 : (Jvm.Cond.laysFinal "CensusOffice" "CensusOffice" "flow" "LCensusOffice$Flow;") ∈ lw_all := lw_g (lw_at lw_m2 73 rfl) rfl
theorem q420 : (Jvm.Cond.soleField "CensusOffice" "flow") ∈ lw_all := lw_g (lw_at lw_m2 74 rfl) rfl
theorem q421 : (Jvm.Cond.lays "CensusOffice" "CensusOffice" "tables" "I") ∈ lw_all := lw_g (lw_at lw_m2 75 rfl) rfl
theorem q422 : (Jvm.Cond.soleField "CensusOffice" "tables") ∈ lw_all := lw_g (lw_at lw_m2 76 rfl) rfl
theorem q423 : (Jvm.Cond.laysFinal "CensusOffice" "CensusOffice" "table" "[LCensusOffice$Table;") ∈ lw_all := lw_g (lw_at lw_m2 77 rfl) rfl
theorem q424 : (Jvm.Cond.soleField "CensusOffice" "table") ∈ lw_all := lw_g (lw_at lw_m2 78 rfl) rfl
theorem q425 : (Jvm.Cond.lays "CensusOffice" "CensusOffice" "bestSum" "I") ∈ lw_all := lw_g (lw_at lw_m2 79 rfl) rfl
theorem q426 : (Jvm.Cond.soleField "CensusOffice" "bestSum") ∈ lw_all := lw_g (lw_at lw_m2 80 rfl) rfl
theorem q427 : (Jvm.Cond.lays "CensusOffice" "CensusOffice" "bestBits" "I") ∈ lw_all := lw_g (lw_at lw_m2 81 rfl) rfl
theorem q428 : (Jvm.Cond.soleField "CensusOffice" "bestBits") ∈ lw_all := lw_g (lw_at lw_m2 82 rfl) rfl
theorem q429 : (Jvm.Cond.laysFinal "CensusOffice" "CensusOffice" "rises" "[I") ∈ lw_all := lw_g (lw_at lw_m2 83 rfl) rfl
theorem q430 : (Jvm.Cond.soleField "CensusOffice" "rises") ∈ lw_all := lw_g (lw_at lw_m2 84 rfl) rfl
theorem q431 : (Jvm.Cond.lays "CensusOffice" "CensusOffice" "persons" "I") ∈ lw_all := lw_g (lw_at lw_m2 85 rfl) rfl
theorem q432 : (Jvm.Cond.soleField "CensusOffice" "persons") ∈ lw_all := lw_g (lw_at lw_m2 86 rfl) rfl
theorem q433 : (Jvm.Cond.laysFinal "CensusOffice" "CensusOffice" "roles" "[I") ∈ lw_all := lw_g (lw_at lw_m2 87 rfl) rfl
theorem q434 : (Jvm.Cond.soleField "CensusOffice" "roles") ∈ lw_all := lw_g (lw_at lw_m2 88 rfl) rfl
theorem q435 : (Jvm.Cond.lays "CensusOffice" "CensusOffice" "releases" "I") ∈ lw_all := lw_g (lw_at lw_m2 89 rfl) rfl
theorem q436 : (Jvm.Cond.soleField "CensusOffice" "releases") ∈ lw_all := lw_g (lw_at lw_m2 90 rfl) rfl
theorem q437 : (Jvm.Cond.laysFinal "CensusOffice" "CensusOffice" "release" "[LCensusOffice$Release;") ∈ lw_all := lw_g (lw_at lw_m2 91 rfl) rfl
theorem q438 : (Jvm.Cond.soleField "CensusOffice" "release") ∈ lw_all := lw_g (lw_at lw_m2 92 rfl) rfl
theorem q439 : (Jvm.Cond.lays "CensusOffice" "CensusOffice" "looks" "I") ∈ lw_all := lw_g (lw_at lw_m2 93 rfl) rfl
theorem q440 : (Jvm.Cond.soleField "CensusOffice" "looks") ∈ lw_all := lw_g (lw_at lw_m2 94 rfl) rfl
theorem q441 : (Jvm.Cond.laysFinal "CensusOffice" "CensusOffice" "look" "[I") ∈ lw_all := lw_g (lw_at lw_m2 95 rfl) rfl
theorem q442 : (Jvm.Cond.soleField "CensusOffice" "look") ∈ lw_all := lw_g (lw_at lw_m2 96 rfl) rfl
theorem q443 : (Jvm.Cond.superclass "CensusOffice" "java/lang/Object") ∈ lw_all := lw_g (lw_at lw_m2 97 rfl) rfl
theorem q449 : (Jvm.Cond.instanceMethod ({ cls := "CensusOffice", name := "tick", desc := "(I)I" } : Jvm.MethodName)) ∈ lw_all := lw_g (lw_at lw_m2 103 rfl) rfl
theorem q450 : (Jvm.Cond.selects "CensusOffice" ({ cls := "CensusOffice", name := "tick", desc := "(I)I" } : Jvm.MethodName) ({ cls := "CensusOffice", name := "tick", desc := "(I)I" } : Jvm.MethodName)) ∈ lw_all := lw_g (lw_at lw_m2 104 rfl) rfl
theorem q451 : (Jvm.Cond.code ({ cls := "CensusOffice", name := "tick", desc := "(I)I" } : Jvm.MethodName) prog_1_method_8_code (2 : Nat) (Option.some Jvm.ClassFile.FieldType.int)) ∈ lw_all := lw_g (lw_at lw_m2 105 rfl) rfl
theorem q452 : (Jvm.Cond.constantLong "CensusOffice" (157 : Nat) (1000000 : Int64)) ∈ lw_all := lw_g (lw_at lw_m2 106 rfl) rfl
theorem q453 : (Jvm.Cond.methodLink "CensusOffice" (159 : Nat) ({ cls := "CensusOffice", name := "isIn", desc := "(JJJ)Z" } : Jvm.MethodName)) ∈ lw_all := lw_g (lw_at lw_m2 107 rfl) rfl
theorem q454 : (Jvm.Cond.static ({ cls := "CensusOffice", name := "isIn", desc := "(JJJ)Z" } : Jvm.MethodName)) ∈ lw_all := lw_g (lw_at lw_m2 108 rfl) rfl
theorem q455 : (Jvm.Cond.code ({ cls := "CensusOffice", name := "isIn", desc := "(JJJ)Z" } : Jvm.MethodName) prog_1_method_6_code (6 : Nat) (Option.some Jvm.ClassFile.FieldType.boolean)) ∈ lw_all := lw_g (lw_at lw_m2 109 rfl) rfl
theorem q456 : (Jvm.Cond.constant "CensusOffice" (163 : Nat) (100000000 : Int32)) ∈ lw_all := lw_g (lw_at lw_m2 110 rfl) rfl
theorem q457 : (Jvm.Cond.methodLink "CensusOffice" (164 : Nat) ({ cls := "CensusOffice", name := "need", desc := "(Z)V" } : Jvm.MethodName)) ∈ lw_all := lw_g (lw_at lw_m2 111 rfl) rfl
theorem q458 : (Jvm.Cond.static ({ cls := "CensusOffice", name := "need", desc := "(Z)V" } : Jvm.MethodName)) ∈ lw_all := lw_g (lw_at lw_m2 112 rfl) rfl
theorem q459 : (Jvm.Cond.code ({ cls := "CensusOffice", name := "need", desc := "(Z)V" } : Jvm.MethodName) prog_1_method_3_code (1 : Nat) (Option.none : Option Jvm.ClassFile.FieldType)) ∈ lw_all := lw_g (lw_at lw_m2 113 rfl) rfl
theorem q460 : (Jvm.Cond.classLink "CensusOffice" (138 : Nat) "java/lang/IllegalArgumentException") ∈ lw_all := lw_g (lw_at lw_m2 114 rfl) rfl
theorem q504 : (Jvm.Cond.stringRef "CensusOffice" (140 : Nat) "not as it must be") ∈ lw_tbl := lw_at lw_m2 158 rfl
theorem q505 : (Jvm.Cond.methodLink "CensusOffice" (142 : Nat) ({ cls := "java/lang/IllegalArgumentException", name := "<init>", desc := "(Ljava/lang/String;)V" } : Jvm.MethodName)) ∈ lw_all := lw_g (lw_at lw_m2 159 rfl) rfl
theorem q535 : (Jvm.Cond.instanceMethod ({ cls := "CensusOffice", name := "unit", desc := "()I" } : Jvm.MethodName)) ∈ lw_all := lw_g (lw_at lw_m2 189 rfl) rfl
theorem q536 : (Jvm.Cond.selects "CensusOffice" ({ cls := "CensusOffice", name := "unit", desc := "()I" } : Jvm.MethodName) ({ cls := "CensusOffice", name := "unit", desc := "()I" } : Jvm.MethodName)) ∈ lw_all := lw_g (lw_at lw_m2 190 rfl) rfl
theorem q537 : (Jvm.Cond.code ({ cls := "CensusOffice", name := "unit", desc := "()I" } : Jvm.MethodName) prog_1_method_11_code (1 : Nat) (Option.some Jvm.ClassFile.FieldType.int)) ∈ lw_all := lw_g (lw_at lw_m2 191 rfl) rfl
theorem q538 : (Jvm.Cond.methodLink "CensusOffice" (176 : Nat) ({ cls := "CensusOffice", name := "room", desc := "(Z)V" } : Jvm.MethodName)) ∈ lw_all := lw_g (lw_at lw_m2 192 rfl) rfl
theorem q539 : (Jvm.Cond.static ({ cls := "CensusOffice", name := "room", desc := "(Z)V" } : Jvm.MethodName)) ∈ lw_all := lw_g (lw_at lw_m2 193 rfl) rfl
theorem q540 : (Jvm.Cond.code ({ cls := "CensusOffice", name := "room", desc := "(Z)V" } : Jvm.MethodName) prog_1_method_5_code (1 : Nat) (Option.none : Option Jvm.ClassFile.FieldType)) ∈ lw_all := lw_g (lw_at lw_m2 194 rfl) rfl
theorem q541 : (Jvm.Cond.classLink "CensusOffice" (148 : Nat) "java/lang/UnsupportedOperationException") ∈ lw_all := lw_g (lw_at lw_m2 195 rfl) rfl
theorem q550 : (Jvm.Cond.stringRef "CensusOffice" (150 : Nat) "no room") ∈ lw_tbl := lw_at lw_m2 204 rfl
theorem q551 : (Jvm.Cond.methodLink "CensusOffice" (152 : Nat) ({ cls := "java/lang/UnsupportedOperationException", name := "<init>", desc := "(Ljava/lang/String;)V" } : Jvm.MethodName)) ∈ lw_all := lw_g (lw_at lw_m2 205 rfl) rfl
theorem q586 : (Jvm.Cond.instanceMethod ({ cls := "CensusOffice", name := "tell", desc := "(IIII)I" } : Jvm.MethodName)) ∈ lw_all := lw_g (lw_at lw_m3 0 rfl) rfl
theorem q587 : (Jvm.Cond.selects "CensusOffice" ({ cls := "CensusOffice", name := "tell", desc := "(IIII)I" } : Jvm.MethodName) ({ cls := "CensusOffice", name := "tell", desc := "(IIII)I" } : Jvm.MethodName)) ∈ lw_all := lw_g (lw_at lw_m3 1 rfl) rfl
theorem q588 : (Jvm.Cond.code ({ cls := "CensusOffice", name := "tell", desc := "(IIII)I" } : Jvm.MethodName) prog_1_method_12_code (6 : Nat) (Option.some Jvm.ClassFile.FieldType.int)) ∈ lw_all := lw_g (lw_at lw_m3 2 rfl) rfl
theorem q589 : (Jvm.Cond.methodLink "CensusOffice" (179 : Nat) ({ cls := "CensusOffice", name := "unitIn", desc := "(I)V" } : Jvm.MethodName)) ∈ lw_all := lw_g (lw_at lw_m3 3 rfl) rfl
theorem q590 : (Jvm.Cond.privateMethod ({ cls := "CensusOffice", name := "unitIn", desc := "(I)V" } : Jvm.MethodName)) ∈ lw_tbl := lw_at lw_m3 4 rfl
theorem q591 : (Jvm.Cond.instanceMethod ({ cls := "CensusOffice", name := "unitIn", desc := "(I)V" } : Jvm.MethodName)) ∈ lw_all := lw_g (lw_at lw_m3 5 rfl) rfl
theorem q592 : (Jvm.Cond.code ({ cls := "CensusOffice", name := "unitIn", desc := "(I)V" } : Jvm.MethodName) prog_1_method_9_code (2 : Nat) (Option.none : Option Jvm.ClassFile.FieldType)) ∈ lw_all := lw_g (lw_at lw_m3 6 rfl) rfl
theorem q593 : (Jvm.Cond.methodLink "CensusOffice" (171 : Nat) ({ cls := "CensusOffice", name := "inside", desc := "(Z)V" } : Jvm.MethodName)) ∈ lw_all := lw_g (lw_at lw_m3 7 rfl) rfl
theorem q594 : (Jvm.Cond.static ({ cls := "CensusOffice", name := "inside", desc := "(Z)V" } : Jvm.MethodName)) ∈ lw_all := lw_g (lw_at lw_m3 8 rfl) rfl
theorem q595 : (Jvm.Cond.code ({ cls := "CensusOffice", name := "inside", desc := "(Z)V" } : Jvm.MethodName) prog_1_method_2_code (1 : Nat) (Option.none : Option Jvm.ClassFile.FieldType)) ∈ lw_all := lw_g (lw_at lw_m3 9 rfl) rfl
theorem q596 : (Jvm.Cond.classLink "CensusOffice" (131 : Nat) "java/lang/IndexOutOfBoundsException") ∈ lw_all := lw_g (lw_at lw_m3 10 rfl) rfl
theorem q605 : (Jvm.Cond.stringRef "CensusOffice" (133 : Nat) "there is none") ∈ lw_tbl := lw_at lw_m3 19 rfl
theorem q606 : (Jvm.Cond.methodLink "CensusOffice" (135 : Nat) ({ cls := "java/lang/IndexOutOfBoundsException", name := "<init>", desc := "(Ljava/lang/String;)V" } : Jvm.MethodName)) ∈ lw_all := lw_g (lw_at lw_m3 20 rfl) rfl
theorem q609 : (Jvm.Cond.methodLink "CensusOffice" (183 : Nat) ({ cls := "CensusOffice", name := "fieldIn", desc := "(I)V" } : Jvm.MethodName)) ∈ lw_all := lw_g (lw_at lw_m3 23 rfl) rfl
theorem q610 : (Jvm.Cond.static ({ cls := "CensusOffice", name := "fieldIn", desc := "(I)V" } : Jvm.MethodName)) ∈ lw_all := lw_g (lw_at lw_m3 24 rfl) rfl
theorem q611 : (Jvm.Cond.code ({ cls := "CensusOffice", name := "fieldIn", desc := "(I)V" } : Jvm.MethodName) prog_1_method_10_code (1 : Nat) (Option.none : Option Jvm.ClassFile.FieldType)) ∈ lw_all := lw_g (lw_at lw_m3 25 rfl) rfl
theorem q612 : (Jvm.Cond.constantLong "CensusOffice" (174 : Nat) (5 : Int64)) ∈ lw_all := lw_g (lw_at lw_m3 26 rfl) rfl
theorem q613 : (Jvm.Cond.constantLong "CensusOffice" (186 : Nat) (100000 : Int64)) ∈ lw_all := lw_g (lw_at lw_m3 27 rfl) rfl
theorem q614 : (Jvm.Cond.constantLong "CensusOffice" (188 : Nat) (-1000000 : Int64)) ∈ lw_all := lw_g (lw_at lw_m3 28 rfl) rfl
theorem q615 : (Jvm.Cond.methodLink "CensusOffice" (190 : Nat) ({ cls := "CensusOffice", name := "may", desc := "(Z)V" } : Jvm.MethodName)) ∈ lw_all := lw_g (lw_at lw_m3 29 rfl) rfl
theorem q616 : (Jvm.Cond.static ({ cls := "CensusOffice", name := "may", desc := "(Z)V" } : Jvm.MethodName)) ∈ lw_all := lw_g (lw_at lw_m3 30 rfl) rfl
theorem q617 : (Jvm.Cond.code ({ cls := "CensusOffice", name := "may", desc := "(Z)V" } : Jvm.MethodName) prog_1_method_4_code (1 : Nat) (Option.none : Option Jvm.ClassFile.FieldType)) ∈ lw_all := lw_g (lw_at lw_m3 31 rfl) rfl
theorem q618 : (Jvm.Cond.classLink "CensusOffice" (143 : Nat) "java/lang/IllegalStateException") ∈ lw_all := lw_g (lw_at lw_m3 32 rfl) rfl
theorem q627 : (Jvm.Cond.stringRef "CensusOffice" (145 : Nat) "not now") ∈ lw_tbl := lw_at lw_m3 41 rfl
theorem q628 : (Jvm.Cond.methodLink "CensusOffice" (147 : Nat) ({ cls := "java/lang/IllegalStateException", name := "<init>", desc := "(Ljava/lang/String;)V" } : Jvm.MethodName)) ∈ lw_all := lw_g (lw_at lw_m3 42 rfl) rfl
theorem q634 : (Jvm.Cond.methodLink "CensusOffice" (196 : Nat) ({ cls := "CensusOffice", name := "day", desc := "()I" } : Jvm.MethodName)) ∈ lw_all := lw_g (lw_at lw_m3 48 rfl) rfl
theorem q635 : (Jvm.Cond.privateMethod ({ cls := "CensusOffice", name := "day", desc := "()I" } : Jvm.MethodName)) ∈ lw_tbl := lw_at lw_m3 49 rfl
theorem q636 : (Jvm.Cond.instanceMethod ({ cls := "CensusOffice", name := "day", desc := "()I" } : Jvm.MethodName)) ∈ lw_all := lw_g (lw_at lw_m3 50 rfl) rfl
theorem q637 : (Jvm.Cond.code ({ cls := "CensusOffice", name := "day", desc := "()I" } : Jvm.MethodName) prog_1_method_7_code (1 : Nat) (Option.some Jvm.ClassFile.FieldType.int)) ∈ lw_all := lw_g (lw_at lw_m3 51 rfl) rfl
theorem q642 : (Jvm.Cond.instanceMethod ({ cls := "CensusOffice", name := "merge", desc := "(II)I" } : Jvm.MethodName)) ∈ lw_all := lw_g (lw_at lw_m3 56 rfl) rfl
theorem q643 : (Jvm.Cond.selects "CensusOffice" ({ cls := "CensusOffice", name := "merge", desc := "(II)I" } : Jvm.MethodName) ({ cls := "CensusOffice", name := "merge", desc := "(II)I" } : Jvm.MethodName)) ∈ lw_all := lw_g (lw_at lw_m3 57 rfl) rfl
theorem q644 : (Jvm.Cond.code ({ cls := "CensusOffice", name := "merge", desc := "(II)I" } : Jvm.MethodName) prog_1_method_14_code (4 : Nat) (Option.some Jvm.ClassFile.FieldType.int)) ∈ lw_all := lw_g (lw_at lw_m3 58 rfl) rfl
theorem q645 : (Jvm.Cond.constant "CensusOffice" (202 : Nat) (2147483647 : Int32)) ∈ lw_all := lw_g (lw_at lw_m3 59 rfl) rfl
theorem q646 : (Jvm.Cond.methodLink "CensusOffice" (203 : Nat) ({ cls := "CensusOffice", name := "lastOf", desc := "(II)I" } : Jvm.MethodName)) ∈ lw_all := lw_g (lw_at lw_m3 60 rfl) rfl
theorem q647 : (Jvm.Cond.privateMethod ({ cls := "CensusOffice", name := "lastOf", desc := "(II)I" } : Jvm.MethodName)) ∈ lw_tbl := lw_at lw_m3 61 rfl
theorem q648 : (Jvm.Cond.instanceMethod ({ cls := "CensusOffice", name := "lastOf", desc := "(II)I" } : Jvm.MethodName)) ∈ lw_all := lw_g (lw_at lw_m3 62 rfl) rfl
theorem q649 : (Jvm.Cond.code ({ cls := "CensusOffice", name := "lastOf", desc := "(II)I" } : Jvm.MethodName) prog_1_method_13_code (4 : Nat) (Option.some Jvm.ClassFile.FieldType.int)) ∈ lw_all := lw_g (lw_at lw_m3 63 rfl) rfl
theorem q654 : (Jvm.Cond.instanceMethod ({ cls := "CensusOffice", name := "value", desc := "(IIII)I" } : Jvm.MethodName)) ∈ lw_all := lw_g (lw_at lw_m3 68 rfl) rfl
theorem q655 : (Jvm.Cond.selects "CensusOffice" ({ cls := "CensusOffice", name := "value", desc := "(IIII)I" } : Jvm.MethodName) ({ cls := "CensusOffice", name := "value", desc := "(IIII)I" } : Jvm.MethodName)) ∈ lw_all := lw_g (lw_at lw_m3 69 rfl) rfl
theorem q656 : (Jvm.Cond.code ({ cls := "CensusOffice", name := "value", desc := "(IIII)I" } : Jvm.MethodName) prog_1_method_16_code (5 : Nat) (Option.some Jvm.ClassFile.FieldType.int)) ∈ lw_all := lw_g (lw_at lw_m3 70 rfl) rfl
theorem q657 : (Jvm.Cond.methodLink "CensusOffice" (211 : Nat) ({ cls := "CensusOffice", name := "valueOf", desc := "(IIII)I" } : Jvm.MethodName)) ∈ lw_all := lw_g (lw_at lw_m3 71 rfl) rfl
theorem q658 : (Jvm.Cond.privateMethod ({ cls := "CensusOffice", name := "valueOf", desc := "(IIII)I" } : Jvm.MethodName)) ∈ lw_tbl := lw_at lw_m3 72 rfl
theorem q659 : (Jvm.Cond.instanceMethod ({ cls := "CensusOffice", name := "valueOf", desc := "(IIII)I" } : Jvm.MethodName)) ∈ lw_all := lw_g (lw_at lw_m3 73 rfl) rfl
theorem q660 : (Jvm.Cond.code ({ cls := "CensusOffice", name := "valueOf", desc := "(IIII)I" } : Jvm.MethodName) prog_1_method_15_code (9 : Nat) (Option.some Jvm.ClassFile.FieldType.int)) ∈ lw_all := lw_g (lw_at lw_m3 74 rfl) rfl
theorem q661 : (Jvm.Cond.constant "CensusOffice" (210 : Nat) (-2000000 : Int32)) ∈ lw_all := lw_g (lw_at lw_m3 75 rfl) rfl
theorem q666 : (Jvm.Cond.instanceMethod ({ cls := "CensusOffice", name := "last", desc := "(I)I" } : Jvm.MethodName)) ∈ lw_all := lw_g (lw_at lw_m3 80 rfl) rfl
theorem q667 : (Jvm.Cond.selects "CensusOffice" ({ cls := "CensusOffice", name := "last", desc := "(I)I" } : Jvm.MethodName) ({ cls := "CensusOffice", name := "last", desc := "(I)I" } : Jvm.MethodName)) ∈ lw_all := lw_g (lw_at lw_m3 81 rfl) rfl
theorem q668 : (Jvm.Cond.code ({ cls := "CensusOffice", name := "last", desc := "(I)I" } : Jvm.MethodName) prog_1_method_17_code (2 : Nat) (Option.some Jvm.ClassFile.FieldType.int)) ∈ lw_all := lw_g (lw_at lw_m3 82 rfl) rfl
theorem q673 : (Jvm.Cond.instanceMethod ({ cls := "CensusOffice", name := "feed", desc := "(IIIII)I" } : Jvm.MethodName)) ∈ lw_all := lw_g (lw_at lw_m3 87 rfl) rfl
theorem q674 : (Jvm.Cond.selects "CensusOffice" ({ cls := "CensusOffice", name := "feed", desc := "(IIIII)I" } : Jvm.MethodName) ({ cls := "CensusOffice", name := "feed", desc := "(IIIII)I" } : Jvm.MethodName)) ∈ lw_all := lw_g (lw_at lw_m3 88 rfl) rfl
theorem q675 : (Jvm.Cond.code ({ cls := "CensusOffice", name := "feed", desc := "(IIIII)I" } : Jvm.MethodName) prog_1_method_18_code (8 : Nat) (Option.some Jvm.ClassFile.FieldType.int)) ∈ lw_all := lw_g (lw_at lw_m3 89 rfl) rfl
theorem q680 : (Jvm.Cond.instanceMethod ({ cls := "CensusOffice", name := "trim", desc := "(I)I" } : Jvm.MethodName)) ∈ lw_all := lw_g (lw_at lw_m3 94 rfl) rfl
theorem q681 : (Jvm.Cond.selects "CensusOffice" ({ cls := "CensusOffice", name := "trim", desc := "(I)I" } : Jvm.MethodName) ({ cls := "CensusOffice", name := "trim", desc := "(I)I" } : Jvm.MethodName)) ∈ lw_all := lw_g (lw_at lw_m3 95 rfl) rfl
theorem q682 : (Jvm.Cond.code ({ cls := "CensusOffice", name := "trim", desc := "(I)I" } : Jvm.MethodName) prog_1_method_19_code (3 : Nat) (Option.some Jvm.ClassFile.FieldType.int)) ∈ lw_all := lw_g (lw_at lw_m3 96 rfl) rfl
theorem q687 : (Jvm.Cond.instanceMethod ({ cls := "CensusOffice", name := "form", desc := "()I" } : Jvm.MethodName)) ∈ lw_all := lw_g (lw_at lw_m3 101 rfl) rfl
theorem q688 : (Jvm.Cond.selects "CensusOffice" ({ cls := "CensusOffice", name := "form", desc := "()I" } : Jvm.MethodName) ({ cls := "CensusOffice", name := "form", desc := "()I" } : Jvm.MethodName)) ∈ lw_all := lw_g (lw_at lw_m3 102 rfl) rfl
theorem q689 : (Jvm.Cond.codeWith ({ cls := "CensusOffice", name := "form", desc := "()I" } : Jvm.MethodName) prog_1_method_20_code (2 : Nat) (Option.some Jvm.ClassFile.FieldType.int) [((17 : Nat), (37 : Nat), (40 : Nat), (227 : Nat))]) ∈ lw_all := lw_g (lw_at lw_m3 103 rfl) rfl
theorem q690 : (Jvm.Cond.classLink "CensusOffice" (227 : Nat) "CensusOffice$Fault") ∈ lw_all := lw_g (lw_at lw_m3 104 rfl) rfl
theorem q691 : (Jvm.Cond.classLink "CensusOffice" (221 : Nat) "CensusOffice$Text") ∈ lw_all := lw_g (lw_at lw_m3 105 rfl) rfl
theorem q693 : (Jvm.Cond.methodLinkNest "CensusOffice" (223 : Nat) ({ cls := "CensusOffice$Text", name := "<init>", desc := "(LCensusOffice;)V" } : Jvm.MethodName) "CensusOffice") ∈ lw_tbl := lw_at lw_m3 107 rfl
theorem q713 : (Jvm.Cond.methodLink "CensusOffice" (224 : Nat) ({ cls := "CensusOffice$Text", name := "form", desc := "()LCensusOffice$Form;" } : Jvm.MethodName)) ∈ lw_all := lw_g (lw_at lw_m3 127 rfl) rfl
theorem q765 : (Jvm.Cond.fieldLinkNest "CensusOffice" (229 : Nat) "CensusOffice$Fault" "place" "I" "CensusOffice") ∈ lw_tbl := lw_at lw_m3 179 rfl
theorem q904 : (Jvm.Cond.instanceMethod ({ cls := "CensusOffice", name := "statement", desc := "(III)I" } : Jvm.MethodName)) ∈ lw_all := lw_g (lw_at lw_m4 78 rfl) rfl
theorem q905 : (Jvm.Cond.selects "CensusOffice" ({ cls := "CensusOffice", name := "statement", desc := "(III)I" } : Jvm.MethodName) ({ cls := "CensusOffice", name := "statement", desc := "(III)I" } : Jvm.MethodName)) ∈ lw_all := lw_g (lw_at lw_m4 79 rfl) rfl
theorem q906 : (Jvm.Cond.code ({ cls := "CensusOffice", name := "statement", desc := "(III)I" } : Jvm.MethodName) prog_1_method_23_code (5 : Nat) (Option.some Jvm.ClassFile.FieldType.int)) ∈ lw_all := lw_g (lw_at lw_m4 80 rfl) rfl
theorem q907 : (Jvm.Cond.methodLink "CensusOffice" (235 : Nat) ({ cls := "CensusOffice", name := "formOf", desc := "(I)LCensusOffice$Form;" } : Jvm.MethodName)) ∈ lw_all := lw_g (lw_at lw_m4 81 rfl) rfl
theorem q908 : (Jvm.Cond.privateMethod ({ cls := "CensusOffice", name := "formOf", desc := "(I)LCensusOffice$Form;" } : Jvm.MethodName)) ∈ lw_tbl := lw_at lw_m4 82 rfl
theorem q909 : (Jvm.Cond.instanceMethod ({ cls := "CensusOffice", name := "formOf", desc := "(I)LCensusOffice$Form;" } : Jvm.MethodName)) ∈ lw_all := lw_g (lw_at lw_m4 83 rfl) rfl
theorem q910 : (Jvm.Cond.code ({ cls := "CensusOffice", name := "formOf", desc := "(I)LCensusOffice$Form;" } : Jvm.MethodName) prog_1_method_21_code (2 : Nat) (Option.some (Jvm.ClassFile.FieldType.object "CensusOffice$Form"))) ∈ lw_all := lw_g (lw_at lw_m4 84 rfl) rfl
theorem q911 : (Jvm.Cond.methodLink "CensusOffice" (239 : Nat) ({ cls := "CensusOffice", name := "statementIn", desc := "(LCensusOffice$Form;I)V" } : Jvm.MethodName)) ∈ lw_all := lw_g (lw_at lw_m4 85 rfl) rfl
theorem q912 : (Jvm.Cond.static ({ cls := "CensusOffice", name := "statementIn", desc := "(LCensusOffice$Form;I)V" } : Jvm.MethodName)) ∈ lw_all := lw_g (lw_at lw_m4 86 rfl) rfl
theorem q913 : (Jvm.Cond.code ({ cls := "CensusOffice", name := "statementIn", desc := "(LCensusOffice$Form;I)V" } : Jvm.MethodName) prog_1_method_22_code (2 : Nat) (Option.none : Option Jvm.ClassFile.FieldType)) ∈ lw_all := lw_g (lw_at lw_m4 87 rfl) rfl
theorem q914 : (Jvm.Cond.constantLong "CensusOffice" (243 : Nat) (3 : Int64)) ∈ lw_all := lw_g (lw_at lw_m4 88 rfl) rfl
theorem q919 : (Jvm.Cond.instanceMethod ({ cls := "CensusOffice", name := "open", desc := "(II)I" } : Jvm.MethodName)) ∈ lw_all := lw_g (lw_at lw_m4 93 rfl) rfl
theorem q920 : (Jvm.Cond.selects "CensusOffice" ({ cls := "CensusOffice", name := "open", desc := "(II)I" } : Jvm.MethodName) ({ cls := "CensusOffice", name := "open", desc := "(II)I" } : Jvm.MethodName)) ∈ lw_all := lw_g (lw_at lw_m4 94 rfl) rfl
theorem q921 : (Jvm.Cond.code ({ cls := "CensusOffice", name := "open", desc := "(II)I" } : Jvm.MethodName) prog_1_method_29_code (6 : Nat) (Option.some Jvm.ClassFile.FieldType.int)) ∈ lw_all := lw_g (lw_at lw_m4 95 rfl) rfl
theorem q923 : (Jvm.Cond.methodLink "CensusOffice" (290 : Nat) ({ cls := "CensusOffice$Session", name := "<init>", desc := "(LCensusOffice$Form;II)V" } : Jvm.MethodName)) ∈ lw_all := lw_g (lw_at lw_m4 97 rfl) rfl
theorem q930 : (Jvm.Cond.fieldLinkNest "CensusOffice" (300 : Nat) "CensusOffice$Session" "form" "LCensusOffice$Form;" "CensusOffice") ∈ lw_tbl := lw_at lw_m4 104 rfl
theorem q933 : (Jvm.Cond.fieldLinkNest "CensusOffice" (488 : Nat) "CensusOffice$Session" "unit" "I" "CensusOffice") ∈ lw_tbl := lw_at lw_m4 107 rfl
theorem q935 : (Jvm.Cond.fieldLinkNest "CensusOffice" (293 : Nat) "CensusOffice$Session" "reg" "[I" "CensusOffice") ∈ lw_tbl := lw_at lw_m4 109 rfl
theorem q937 : (Jvm.Cond.fieldLinkNest "CensusOffice" (312 : Nat) "CensusOffice$Session" "isGiven" "[Z" "CensusOffice") ∈ lw_tbl := lw_at lw_m4 111 rfl
theorem q939 : (Jvm.Cond.fieldLinkNest "CensusOffice" (316 : Nat) "CensusOffice$Session" "answers" "[I" "CensusOffice") ∈ lw_tbl := lw_at lw_m4 113 rfl
theorem q941 : (Jvm.Cond.fieldLinkNest "CensusOffice" (354 : Nat) "CensusOffice$Session" "aside" "[I" "CensusOffice") ∈ lw_tbl := lw_at lw_m4 115 rfl
theorem q944 : (Jvm.Cond.fieldLinkNest "CensusOffice" (302 : Nat) "CensusOffice$Session" "items" "[I" "CensusOffice") ∈ lw_tbl := lw_at lw_m4 118 rfl
theorem q945 : (Jvm.Cond.fieldLinkNest "CensusOffice" (305 : Nat) "CensusOffice$Session" "stop" "I" "CensusOffice") ∈ lw_tbl := lw_at lw_m4 119 rfl
theorem q946 : (Jvm.Cond.fieldLinkNest "CensusOffice" (330 : Nat) "CensusOffice$Session" "closed" "Z" "CensusOffice") ∈ lw_tbl := lw_at lw_m4 120 rfl
theorem q947 : (Jvm.Cond.fieldLinkNest "CensusOffice" (339 : Nat) "CensusOffice$Session" "noted" "I" "CensusOffice") ∈ lw_tbl := lw_at lw_m4 121 rfl
theorem q949 : (Jvm.Cond.fieldLinkNest "CensusOffice" (333 : Nat) "CensusOffice$Session" "notedAt" "I" "CensusOffice") ∈ lw_tbl := lw_at lw_m4 123 rfl
theorem q950 : (Jvm.Cond.fieldLinkNest "CensusOffice" (336 : Nat) "CensusOffice$Session" "notedOf" "I" "CensusOffice") ∈ lw_tbl := lw_at lw_m4 124 rfl
theorem q979 : (Jvm.Cond.methodLink "CensusOffice" (296 : Nat) ({ cls := "CensusOffice", name := "walk", desc := "(LCensusOffice$Session;)V" } : Jvm.MethodName)) ∈ lw_all := lw_g (lw_at lw_m4 153 rfl) rfl
theorem q980 : (Jvm.Cond.privateMethod ({ cls := "CensusOffice", name := "walk", desc := "(LCensusOffice$Session;)V" } : Jvm.MethodName)) ∈ lw_tbl := lw_at lw_m4 154 rfl
theorem q981 : (Jvm.Cond.instanceMethod ({ cls := "CensusOffice", name := "walk", desc := "(LCensusOffice$Session;)V" } : Jvm.MethodName)) ∈ lw_all := lw_g (lw_at lw_m4 155 rfl) rfl
theorem q982 : (Jvm.Cond.code ({ cls := "CensusOffice", name := "walk", desc := "(LCensusOffice$Session;)V" } : Jvm.MethodName) prog_1_method_31_code (4 : Nat) (Option.none : Option Jvm.ClassFile.FieldType)) ∈ lw_all := lw_g (lw_at lw_m4 156 rfl) rfl
theorem q983 : (Jvm.Cond.methodLink "CensusOffice" (308 : Nat) ({ cls := "CensusOffice", name := "letOf", desc := "(LCensusOffice$Form;I[I[I)I" } : Jvm.MethodName)) ∈ lw_all := lw_g (lw_at lw_m4 157 rfl) rfl
theorem q984 : (Jvm.Cond.privateMethod ({ cls := "CensusOffice", name := "letOf", desc := "(LCensusOffice$Form;I[I[I)I" } : Jvm.MethodName)) ∈ lw_tbl := lw_at lw_m4 158 rfl
theorem q985 : (Jvm.Cond.instanceMethod ({ cls := "CensusOffice", name := "letOf", desc := "(LCensusOffice$Form;I[I[I)I" } : Jvm.MethodName)) ∈ lw_all := lw_g (lw_at lw_m4 159 rfl) rfl
theorem q986 : (Jvm.Cond.code ({ cls := "CensusOffice", name := "letOf", desc := "(LCensusOffice$Form;I[I[I)I" } : Jvm.MethodName) prog_1_method_27_code (5 : Nat) (Option.some Jvm.ClassFile.FieldType.int)) ∈ lw_all := lw_g (lw_at lw_m4 160 rfl) rfl
theorem q987 : (Jvm.Cond.methodLink "CensusOffice" (280 : Nat) ({ cls := "CensusOffice", name := "holds", desc := "(LCensusOffice$Form;I[I[I)Z" } : Jvm.MethodName)) ∈ lw_all := lw_g (lw_at lw_m4 161 rfl) rfl
theorem q988 : (Jvm.Cond.privateMethod ({ cls := "CensusOffice", name := "holds", desc := "(LCensusOffice$Form;I[I[I)Z" } : Jvm.MethodName)) ∈ lw_tbl := lw_at lw_m4 162 rfl
theorem q989 : (Jvm.Cond.instanceMethod ({ cls := "CensusOffice", name := "holds", desc := "(LCensusOffice$Form;I[I[I)Z" } : Jvm.MethodName)) ∈ lw_all := lw_g (lw_at lw_m4 163 rfl) rfl
theorem q990 : (Jvm.Cond.code ({ cls := "CensusOffice", name := "holds", desc := "(LCensusOffice$Form;I[I[I)Z" } : Jvm.MethodName) prog_1_method_26_code (5 : Nat) (Option.some Jvm.ClassFile.FieldType.boolean)) ∈ lw_all := lw_g (lw_at lw_m4 164 rfl) rfl
theorem q991 : (Jvm.Cond.methodLink "CensusOffice" (276 : Nat) ({ cls := "CensusOffice", name := "work", desc := "(LCensusOffice$Form;II[I[I)I" } : Jvm.MethodName)) ∈ lw_all := lw_g (lw_at lw_m4 165 rfl) rfl
theorem q992 : (Jvm.Cond.privateMethod ({ cls := "CensusOffice", name := "work", desc := "(LCensusOffice$Form;II[I[I)I" } : Jvm.MethodName)) ∈ lw_tbl := lw_at lw_m4 166 rfl
theorem q993 : (Jvm.Cond.instanceMethod ({ cls := "CensusOffice", name := "work", desc := "(LCensusOffice$Form;II[I[I)I" } : Jvm.MethodName)) ∈ lw_all := lw_g (lw_at lw_m4 167 rfl) rfl
theorem q994 : (Jvm.Cond.code ({ cls := "CensusOffice", name := "work", desc := "(LCensusOffice$Form;II[I[I)I" } : Jvm.MethodName) prog_1_method_24_code (11 : Nat) (Option.some Jvm.ClassFile.FieldType.int)) ∈ lw_all := lw_g (lw_at lw_m4 168 rfl) rfl
theorem q995 : (Jvm.Cond.constantLong "CensusOffice" (264 : Nat) (-9223372036854775808 : Int64)) ∈ lw_all := lw_g (lw_at lw_m4 169 rfl) rfl
theorem q996 : (Jvm.Cond.methodLink "CensusOffice" (266 : Nat) ({ cls := "CensusOffice", name := "both", desc := "(IJJ)J" } : Jvm.MethodName)) ∈ lw_all := lw_g (lw_at lw_m4 170 rfl) rfl
theorem q997 : (Jvm.Cond.static ({ cls := "CensusOffice", name := "both", desc := "(IJJ)J" } : Jvm.MethodName)) ∈ lw_all := lw_g (lw_at lw_m4 171 rfl) rfl
theorem q998 : (Jvm.Cond.code ({ cls := "CensusOffice", name := "both", desc := "(IJJ)J" } : Jvm.MethodName) prog_1_method_25_code (8 : Nat) (Option.some Jvm.ClassFile.FieldType.long)) ∈ lw_all := lw_g (lw_at lw_m4 172 rfl) rfl
theorem q1003 : (Jvm.Cond.instanceMethod ({ cls := "CensusOffice", name := "question", desc := "(I)I" } : Jvm.MethodName)) ∈ lw_all := lw_g (lw_at lw_m4 177 rfl) rfl
theorem q1004 : (Jvm.Cond.selects "CensusOffice" ({ cls := "CensusOffice", name := "question", desc := "(I)I" } : Jvm.MethodName) ({ cls := "CensusOffice", name := "question", desc := "(I)I" } : Jvm.MethodName)) ∈ lw_all := lw_g (lw_at lw_m4 178 rfl) rfl
theorem q1005 : (Jvm.Cond.code ({ cls := "CensusOffice", name := "question", desc := "(I)I" } : Jvm.MethodName) prog_1_method_34_code (3 : Nat) (Option.some Jvm.ClassFile.FieldType.int)) ∈ lw_all := lw_g (lw_at lw_m4 179 rfl) rfl
theorem q1006 : (Jvm.Cond.methodLink "CensusOffice" (322 : Nat) ({ cls := "CensusOffice", name := "sessionOf", desc := "(I)LCensusOffice$Session;" } : Jvm.MethodName)) ∈ lw_all := lw_g (lw_at lw_m4 180 rfl) rfl
theorem q1007 : (Jvm.Cond.privateMethod ({ cls := "CensusOffice", name := "sessionOf", desc := "(I)LCensusOffice$Session;" } : Jvm.MethodName)) ∈ lw_tbl := lw_at lw_m4 181 rfl
theorem q1008 : (Jvm.Cond.instanceMethod ({ cls := "CensusOffice", name := "sessionOf", desc := "(I)LCensusOffice$Session;" } : Jvm.MethodName)) ∈ lw_all := lw_g (lw_at lw_m4 182 rfl) rfl
theorem q1009 : (Jvm.Cond.code ({ cls := "CensusOffice", name := "sessionOf", desc := "(I)LCensusOffice$Session;" } : Jvm.MethodName) prog_1_method_30_code (2 : Nat) (Option.some (Jvm.ClassFile.FieldType.object "CensusOffice$Session"))) ∈ lw_all := lw_g (lw_at lw_m4 183 rfl) rfl
theorem q1010 : (Jvm.Cond.methodLink "CensusOffice" (326 : Nat) ({ cls := "CensusOffice", name := "isAtEnd", desc := "(LCensusOffice$Session;)Z" } : Jvm.MethodName)) ∈ lw_all := lw_g (lw_at lw_m4 184 rfl) rfl
theorem q1011 : (Jvm.Cond.static ({ cls := "CensusOffice", name := "isAtEnd", desc := "(LCensusOffice$Session;)Z" } : Jvm.MethodName)) ∈ lw_all := lw_g (lw_at lw_m4 185 rfl) rfl
theorem q1012 : (Jvm.Cond.code ({ cls := "CensusOffice", name := "isAtEnd", desc := "(LCensusOffice$Session;)Z" } : Jvm.MethodName) prog_1_method_33_code (1 : Nat) (Option.some Jvm.ClassFile.FieldType.boolean)) ∈ lw_all := lw_g (lw_at lw_m4 186 rfl) rfl
theorem q1017 : (Jvm.Cond.instanceMethod ({ cls := "CensusOffice", name := "answer", desc := "(II)I" } : Jvm.MethodName)) ∈ lw_all := lw_g (lw_at lw_m4 191 rfl) rfl
theorem q1018 : (Jvm.Cond.selects "CensusOffice" ({ cls := "CensusOffice", name := "answer", desc := "(II)I" } : Jvm.MethodName) ({ cls := "CensusOffice", name := "answer", desc := "(II)I" } : Jvm.MethodName)) ∈ lw_all := lw_g (lw_at lw_m4 192 rfl) rfl
theorem q1019 : (Jvm.Cond.code ({ cls := "CensusOffice", name := "answer", desc := "(II)I" } : Jvm.MethodName) prog_1_method_37_code (7 : Nat) (Option.some Jvm.ClassFile.FieldType.int)) ∈ lw_all := lw_g (lw_at lw_m4 193 rfl) rfl
theorem q1020 : (Jvm.Cond.methodLink "CensusOffice" (342 : Nat) ({ cls := "CensusOffice", name := "give", desc := "(LCensusOffice$Session;II)V" } : Jvm.MethodName)) ∈ lw_all := lw_g (lw_at lw_m4 194 rfl) rfl
theorem q1021 : (Jvm.Cond.privateMethod ({ cls := "CensusOffice", name := "give", desc := "(LCensusOffice$Session;II)V" } : Jvm.MethodName)) ∈ lw_tbl := lw_at lw_m4 195 rfl
theorem q1022 : (Jvm.Cond.instanceMethod ({ cls := "CensusOffice", name := "give", desc := "(LCensusOffice$Session;II)V" } : Jvm.MethodName)) ∈ lw_all := lw_g (lw_at lw_m4 196 rfl) rfl
theorem q1023 : (Jvm.Cond.code ({ cls := "CensusOffice", name := "give", desc := "(LCensusOffice$Session;II)V" } : Jvm.MethodName) prog_1_method_35_code (4 : Nat) (Option.none : Option Jvm.ClassFile.FieldType)) ∈ lw_all := lw_g (lw_at lw_m4 197 rfl) rfl
theorem q1024 : (Jvm.Cond.methodLink "CensusOffice" (346 : Nat) ({ cls := "CensusOffice", name := "brokenBehind", desc := "(LCensusOffice$Session;III)I" } : Jvm.MethodName)) ∈ lw_all := lw_g (lw_at lw_m4 198 rfl) rfl
theorem q1025 : (Jvm.Cond.privateMethod ({ cls := "CensusOffice", name := "brokenBehind", desc := "(LCensusOffice$Session;III)I" } : Jvm.MethodName)) ∈ lw_tbl := lw_at lw_m4 199 rfl
theorem q1026 : (Jvm.Cond.instanceMethod ({ cls := "CensusOffice", name := "brokenBehind", desc := "(LCensusOffice$Session;III)I" } : Jvm.MethodName)) ∈ lw_all := lw_g (lw_at lw_m4 200 rfl) rfl
theorem q1027 : (Jvm.Cond.code ({ cls := "CensusOffice", name := "brokenBehind", desc := "(LCensusOffice$Session;III)I" } : Jvm.MethodName) prog_1_method_32_code (6 : Nat) (Option.some Jvm.ClassFile.FieldType.int)) ∈ lw_all := lw_g (lw_at lw_m4 201 rfl) rfl
theorem q1028 : (Jvm.Cond.methodLink "CensusOffice" (319 : Nat) ({ cls := "CensusOffice", name := "isBroken", desc := "(LCensusOffice$Form;I[I[I)Z" } : Jvm.MethodName)) ∈ lw_all := lw_g (lw_at lw_m4 202 rfl) rfl
theorem q1029 : (Jvm.Cond.privateMethod ({ cls := "CensusOffice", name := "isBroken", desc := "(LCensusOffice$Form;I[I[I)Z" } : Jvm.MethodName)) ∈ lw_tbl := lw_at lw_m4 203 rfl
theorem q1030 : (Jvm.Cond.instanceMethod ({ cls := "CensusOffice", name := "isBroken", desc := "(LCensusOffice$Form;I[I[I)Z" } : Jvm.MethodName)) ∈ lw_all := lw_g (lw_at lw_m4 204 rfl) rfl
theorem q1031 : (Jvm.Cond.code ({ cls := "CensusOffice", name := "isBroken", desc := "(LCensusOffice$Form;I[I[I)Z" } : Jvm.MethodName) prog_1_method_28_code (6 : Nat) (Option.some Jvm.ClassFile.FieldType.boolean)) ∈ lw_all := lw_g (lw_at lw_m4 205 rfl) rfl
theorem q1032 : (Jvm.Cond.methodLink "CensusOffice" (350 : Nat) ({ cls := "CensusOffice", name := "ungive", desc := "(LCensusOffice$Session;I)V" } : Jvm.MethodName)) ∈ lw_all := lw_g (lw_at lw_m4 206 rfl) rfl
theorem q1033 : (Jvm.Cond.privateMethod ({ cls := "CensusOffice", name := "ungive", desc := "(LCensusOffice$Session;I)V" } : Jvm.MethodName)) ∈ lw_tbl := lw_at lw_m4 207 rfl
theorem q1034 : (Jvm.Cond.instanceMethod ({ cls := "CensusOffice", name := "ungive", desc := "(LCensusOffice$Session;I)V" } : Jvm.MethodName)) ∈ lw_all := lw_g (lw_at lw_m4 208 rfl) rfl
theorem q1035 : (Jvm.Cond.code ({ cls := "CensusOffice", name := "ungive", desc := "(LCensusOffice$Session;I)V" } : Jvm.MethodName) prog_1_method_36_code (3 : Nat) (Option.none : Option Jvm.ClassFile.FieldType)) ∈ lw_all := lw_g (lw_at lw_m4 209 rfl) rfl
theorem q1036 : (Jvm.Cond.methodLink "CensusOffice" (357 : Nat) ({ cls := "CensusOffice", name := "takeOn", desc := "(LCensusOffice$Session;)V" } : Jvm.MethodName)) ∈ lw_all := lw_g (lw_at lw_m4 210 rfl) rfl
theorem q1037 : (Jvm.Cond.privateMethod ({ cls := "CensusOffice", name := "takeOn", desc := "(LCensusOffice$Session;)V" } : Jvm.MethodName)) ∈ lw_tbl := lw_at lw_m4 211 rfl
theorem q1038 : (Jvm.Cond.instanceMethod ({ cls := "CensusOffice", name := "takeOn", desc := "(LCensusOffice$Session;)V" } : Jvm.MethodName)) ∈ lw_all := lw_g (lw_at lw_m4 212 rfl) rfl
theorem q1039 : (Jvm.Cond.code ({ cls := "CensusOffice", name := "takeOn", desc := "(LCensusOffice$Session;)V" } : Jvm.MethodName) prog_1_method_38_code (4 : Nat) (Option.none : Option Jvm.ClassFile.FieldType)) ∈ lw_all := lw_g (lw_at lw_m4 213 rfl) rfl
theorem q1044 : (Jvm.Cond.instanceMethod ({ cls := "CensusOffice", name := "back", desc := "(I)I" } : Jvm.MethodName)) ∈ lw_all := lw_g (lw_at lw_m4 218 rfl) rfl
theorem q1045 : (Jvm.Cond.selects "CensusOffice" ({ cls := "CensusOffice", name := "back", desc := "(I)I" } : Jvm.MethodName) ({ cls := "CensusOffice", name := "back", desc := "(I)I" } : Jvm.MethodName)) ∈ lw_all := lw_g (lw_at lw_m4 219 rfl) rfl
theorem q1046 : (Jvm.Cond.code ({ cls := "CensusOffice", name := "back", desc := "(I)I" } : Jvm.MethodName) prog_1_method_39_code (4 : Nat) (Option.some Jvm.ClassFile.FieldType.int)) ∈ lw_all := lw_g (lw_at lw_m4 220 rfl) rfl
theorem q1051 : (Jvm.Cond.instanceMethod ({ cls := "CensusOffice", name := "given", desc := "(IIZ)I" } : Jvm.MethodName)) ∈ lw_all := lw_g (lw_at lw_m4 225 rfl) rfl
theorem q1052 : (Jvm.Cond.selects "CensusOffice" ({ cls := "CensusOffice", name := "given", desc := "(IIZ)I" } : Jvm.MethodName) ({ cls := "CensusOffice", name := "given", desc := "(IIZ)I" } : Jvm.MethodName)) ∈ lw_all := lw_g (lw_at lw_m4 226 rfl) rfl
theorem q1053 : (Jvm.Cond.code ({ cls := "CensusOffice", name := "given", desc := "(IIZ)I" } : Jvm.MethodName) prog_1_method_40_code (5 : Nat) (Option.some Jvm.ClassFile.FieldType.int)) ∈ lw_all := lw_g (lw_at lw_m4 227 rfl) rfl
theorem q1058 : (Jvm.Cond.instanceMethod ({ cls := "CensusOffice", name := "close", desc := "(I)I" } : Jvm.MethodName)) ∈ lw_all := lw_g (lw_at lw_m4 232 rfl) rfl
theorem q1059 : (Jvm.Cond.selects "CensusOffice" ({ cls := "CensusOffice", name := "close", desc := "(I)I" } : Jvm.MethodName) ({ cls := "CensusOffice", name := "close", desc := "(I)I" } : Jvm.MethodName)) ∈ lw_all := lw_g (lw_at lw_m4 233 rfl) rfl
theorem q1060 : (Jvm.Cond.code ({ cls := "CensusOffice", name := "close", desc := "(I)I" } : Jvm.MethodName) prog_1_method_41_code (3 : Nat) (Option.some Jvm.ClassFile.FieldType.int)) ∈ lw_all := lw_g (lw_at lw_m4 234 rfl) rfl
theorem q1062 : (Jvm.Cond.methodLink "CensusOffice" (363 : Nat) ({ cls := "CensusOffice$Record", name := "<init>", desc := "(LCensusOffice$Session;)V" } : Jvm.MethodName)) ∈ lw_all := lw_g (lw_at lw_m4 236 rfl) rfl
theorem q1067 : (Jvm.Cond.fieldLinkNest "CensusOffice" (427 : Nat) "CensusOffice$Record" "of" "LCensusOffice$Session;" "CensusOffice") ∈ lw_tbl := lw_at lw_m5 1 rfl
theorem q1069 : (Jvm.Cond.fieldLinkNest "CensusOffice" (369 : Nat) "CensusOffice$Record" "form" "LCensusOffice$Form;" "CensusOffice") ∈ lw_tbl := lw_at lw_m5 3 rfl
theorem q1071 : (Jvm.Cond.fieldLinkNest "CensusOffice" (370 : Nat) "CensusOffice$Record" "items" "[I" "CensusOffice") ∈ lw_tbl := lw_at lw_m5 5 rfl
theorem q1073 : (Jvm.Cond.fieldLinkNest "CensusOffice" (371 : Nat) "CensusOffice$Record" "marks" "[I" "CensusOffice") ∈ lw_tbl := lw_at lw_m5 7 rfl
theorem q1087 : (Jvm.Cond.instanceMethod ({ cls := "CensusOffice", name := "item", desc := "(II)I" } : Jvm.MethodName)) ∈ lw_all := lw_g (lw_at lw_m5 21 rfl) rfl
theorem q1088 : (Jvm.Cond.selects "CensusOffice" ({ cls := "CensusOffice", name := "item", desc := "(II)I" } : Jvm.MethodName) ({ cls := "CensusOffice", name := "item", desc := "(II)I" } : Jvm.MethodName)) ∈ lw_all := lw_g (lw_at lw_m5 22 rfl) rfl
theorem q1089 : (Jvm.Cond.code ({ cls := "CensusOffice", name := "item", desc := "(II)I" } : Jvm.MethodName) prog_1_method_43_code (4 : Nat) (Option.some Jvm.ClassFile.FieldType.int)) ∈ lw_all := lw_g (lw_at lw_m5 23 rfl) rfl
theorem q1090 : (Jvm.Cond.methodLink "CensusOffice" (365 : Nat) ({ cls := "CensusOffice", name := "recordOf", desc := "(I)LCensusOffice$Record;" } : Jvm.MethodName)) ∈ lw_all := lw_g (lw_at lw_m5 24 rfl) rfl
theorem q1091 : (Jvm.Cond.privateMethod ({ cls := "CensusOffice", name := "recordOf", desc := "(I)LCensusOffice$Record;" } : Jvm.MethodName)) ∈ lw_tbl := lw_at lw_m5 25 rfl
theorem q1092 : (Jvm.Cond.instanceMethod ({ cls := "CensusOffice", name := "recordOf", desc := "(I)LCensusOffice$Record;" } : Jvm.MethodName)) ∈ lw_all := lw_g (lw_at lw_m5 26 rfl) rfl
theorem q1093 : (Jvm.Cond.code ({ cls := "CensusOffice", name := "recordOf", desc := "(I)LCensusOffice$Record;" } : Jvm.MethodName) prog_1_method_42_code (2 : Nat) (Option.some (Jvm.ClassFile.FieldType.object "CensusOffice$Record"))) ∈ lw_all := lw_g (lw_at lw_m5 27 rfl) rfl
theorem q1098 : (Jvm.Cond.instanceMethod ({ cls := "CensusOffice", name := "mark", desc := "(II)I" } : Jvm.MethodName)) ∈ lw_all := lw_g (lw_at lw_m5 32 rfl) rfl
theorem q1099 : (Jvm.Cond.selects "CensusOffice" ({ cls := "CensusOffice", name := "mark", desc := "(II)I" } : Jvm.MethodName) ({ cls := "CensusOffice", name := "mark", desc := "(II)I" } : Jvm.MethodName)) ∈ lw_all := lw_g (lw_at lw_m5 33 rfl) rfl
theorem q1100 : (Jvm.Cond.code ({ cls := "CensusOffice", name := "mark", desc := "(II)I" } : Jvm.MethodName) prog_1_method_44_code (4 : Nat) (Option.some Jvm.ClassFile.FieldType.int)) ∈ lw_all := lw_g (lw_at lw_m5 34 rfl) rfl
theorem q1105 : (Jvm.Cond.instanceMethod ({ cls := "CensusOffice", name := "rule", desc := "(IIII)I" } : Jvm.MethodName)) ∈ lw_all := lw_g (lw_at lw_m5 39 rfl) rfl
theorem q1106 : (Jvm.Cond.selects "CensusOffice" ({ cls := "CensusOffice", name := "rule", desc := "(IIII)I" } : Jvm.MethodName) ({ cls := "CensusOffice", name := "rule", desc := "(IIII)I" } : Jvm.MethodName)) ∈ lw_all := lw_g (lw_at lw_m5 40 rfl) rfl
theorem q1107 : (Jvm.Cond.code ({ cls := "CensusOffice", name := "rule", desc := "(IIII)I" } : Jvm.MethodName) prog_1_method_46_code (6 : Nat) (Option.some Jvm.ClassFile.FieldType.int)) ∈ lw_all := lw_g (lw_at lw_m5 41 rfl) rfl
theorem q1108 : (Jvm.Cond.constantLong "CensusOffice" (378 : Nat) (-1 : Int64)) ∈ lw_all := lw_g (lw_at lw_m5 42 rfl) rfl
theorem q1109 : (Jvm.Cond.methodLink "CensusOffice" (380 : Nat) ({ cls := "CensusOffice", name := "askIn", desc := "(LCensusOffice$Form;I)V" } : Jvm.MethodName)) ∈ lw_all := lw_g (lw_at lw_m5 43 rfl) rfl
theorem q1110 : (Jvm.Cond.static ({ cls := "CensusOffice", name := "askIn", desc := "(LCensusOffice$Form;I)V" } : Jvm.MethodName)) ∈ lw_all := lw_g (lw_at lw_m5 44 rfl) rfl
theorem q1111 : (Jvm.Cond.code ({ cls := "CensusOffice", name := "askIn", desc := "(LCensusOffice$Form;I)V" } : Jvm.MethodName) prog_1_method_45_code (2 : Nat) (Option.none : Option Jvm.ClassFile.FieldType)) ∈ lw_all := lw_g (lw_at lw_m5 45 rfl) rfl
theorem q1112 : (Jvm.Cond.methodLink "CensusOffice" (374 : Nat) ({ cls := "CensusOffice$Form", name := "isAsk", desc := "(I)Z" } : Jvm.MethodName)) ∈ lw_all := lw_g (lw_at lw_m5 46 rfl) rfl
theorem q1116 : (Jvm.Cond.constantLong "CensusOffice" (383 : Nat) (-2000000 : Int64)) ∈ lw_all := lw_g (lw_at lw_m5 50 rfl) rfl
theorem q1117 : (Jvm.Cond.constantLong "CensusOffice" (385 : Nat) (2000000 : Int64)) ∈ lw_all := lw_g (lw_at lw_m5 51 rfl) rfl
theorem q1122 : (Jvm.Cond.instanceMethod ({ cls := "CensusOffice", name := "cost", desc := "(III)I" } : Jvm.MethodName)) ∈ lw_all := lw_g (lw_at lw_m5 56 rfl) rfl
theorem q1123 : (Jvm.Cond.selects "CensusOffice" ({ cls := "CensusOffice", name := "cost", desc := "(III)I" } : Jvm.MethodName) ({ cls := "CensusOffice", name := "cost", desc := "(III)I" } : Jvm.MethodName)) ∈ lw_all := lw_g (lw_at lw_m5 57 rfl) rfl
theorem q1124 : (Jvm.Cond.code ({ cls := "CensusOffice", name := "cost", desc := "(III)I" } : Jvm.MethodName) prog_1_method_47_code (6 : Nat) (Option.some Jvm.ClassFile.FieldType.int)) ∈ lw_all := lw_g (lw_at lw_m5 58 rfl) rfl
theorem q1125 : (Jvm.Cond.constantLong "CensusOffice" (399 : Nat) (100 : Int64)) ∈ lw_all := lw_g (lw_at lw_m5 59 rfl) rfl
theorem q1130 : (Jvm.Cond.instanceMethod ({ cls := "CensusOffice", name := "broken", desc := "(II)I" } : Jvm.MethodName)) ∈ lw_all := lw_g (lw_at lw_m5 64 rfl) rfl
theorem q1131 : (Jvm.Cond.selects "CensusOffice" ({ cls := "CensusOffice", name := "broken", desc := "(II)I" } : Jvm.MethodName) ({ cls := "CensusOffice", name := "broken", desc := "(II)I" } : Jvm.MethodName)) ∈ lw_all := lw_g (lw_at lw_m5 65 rfl) rfl
theorem q1132 : (Jvm.Cond.code ({ cls := "CensusOffice", name := "broken", desc := "(II)I" } : Jvm.MethodName) prog_1_method_50_code (6 : Nat) (Option.some Jvm.ClassFile.FieldType.int)) ∈ lw_all := lw_g (lw_at lw_m5 66 rfl) rfl
theorem q1133 : (Jvm.Cond.methodLink "CensusOffice" (405 : Nat) ({ cls := "CensusOffice", name := "countBroken", desc := "(LCensusOffice$Form;[I)I" } : Jvm.MethodName)) ∈ lw_all := lw_g (lw_at lw_m5 67 rfl) rfl
theorem q1134 : (Jvm.Cond.static ({ cls := "CensusOffice", name := "countBroken", desc := "(LCensusOffice$Form;[I)I" } : Jvm.MethodName)) ∈ lw_all := lw_g (lw_at lw_m5 68 rfl) rfl
theorem q1135 : (Jvm.Cond.code ({ cls := "CensusOffice", name := "countBroken", desc := "(LCensusOffice$Form;[I)I" } : Jvm.MethodName) prog_1_method_49_code (4 : Nat) (Option.some Jvm.ClassFile.FieldType.int)) ∈ lw_all := lw_g (lw_at lw_m5 69 rfl) rfl
theorem q1136 : (Jvm.Cond.methodLink "CensusOffice" (401 : Nat) ({ cls := "CensusOffice", name := "breaks", desc := "(LCensusOffice$Form;I[I)Z" } : Jvm.MethodName)) ∈ lw_all := lw_g (lw_at lw_m5 70 rfl) rfl
theorem q1137 : (Jvm.Cond.static ({ cls := "CensusOffice", name := "breaks", desc := "(LCensusOffice$Form;I[I)Z" } : Jvm.MethodName)) ∈ lw_all := lw_g (lw_at lw_m5 71 rfl) rfl
theorem q1138 : (Jvm.Cond.code ({ cls := "CensusOffice", name := "breaks", desc := "(LCensusOffice$Form;I[I)Z" } : Jvm.MethodName) prog_1_method_48_code (5 : Nat) (Option.some Jvm.ClassFile.FieldType.boolean)) ∈ lw_all := lw_g (lw_at lw_m5 72 rfl) rfl
theorem q1143 : (Jvm.Cond.instanceMethod ({ cls := "CensusOffice", name := "least", desc := "(IZ)I" } : Jvm.MethodName)) ∈ lw_all := lw_g (lw_at lw_m5 77 rfl) rfl
theorem q1144 : (Jvm.Cond.selects "CensusOffice" ({ cls := "CensusOffice", name := "least", desc := "(IZ)I" } : Jvm.MethodName) ({ cls := "CensusOffice", name := "least", desc := "(IZ)I" } : Jvm.MethodName)) ∈ lw_all := lw_g (lw_at lw_m5 78 rfl) rfl
theorem q1145 : (Jvm.Cond.code ({ cls := "CensusOffice", name := "least", desc := "(IZ)I" } : Jvm.MethodName) prog_1_method_51_code (4 : Nat) (Option.some Jvm.ClassFile.FieldType.int)) ∈ lw_all := lw_g (lw_at lw_m5 79 rfl) rfl
theorem q1146 : (Jvm.Cond.methodLink "CensusOffice" (409 : Nat) ({ cls := "CensusOffice$Least", name := "find", desc := "(LCensusOffice$Form;[I)Z" } : Jvm.MethodName)) ∈ lw_all := lw_g (lw_at lw_m5 80 rfl) rfl
theorem q1177 : (Jvm.Cond.instanceMethod ({ cls := "CensusOffice", name := "impute", desc := "(II)I" } : Jvm.MethodName)) ∈ lw_all := lw_g (lw_at lw_m5 111 rfl) rfl
theorem q1178 : (Jvm.Cond.selects "CensusOffice" ({ cls := "CensusOffice", name := "impute", desc := "(II)I" } : Jvm.MethodName) ({ cls := "CensusOffice", name := "impute", desc := "(II)I" } : Jvm.MethodName)) ∈ lw_all := lw_g (lw_at lw_m5 112 rfl) rfl
theorem q1179 : (Jvm.Cond.code ({ cls := "CensusOffice", name := "impute", desc := "(II)I" } : Jvm.MethodName) prog_1_method_52_code (7 : Nat) (Option.some Jvm.ClassFile.FieldType.int)) ∈ lw_all := lw_g (lw_at lw_m5 113 rfl) rfl
theorem q1180 : (Jvm.Cond.methodLink "CensusOffice" (419 : Nat) ({ cls := "CensusOffice", name := "takeFromDonor", desc := "(LCensusOffice$Record;I)Z" } : Jvm.MethodName)) ∈ lw_all := lw_g (lw_at lw_m5 114 rfl) rfl
theorem q1181 : (Jvm.Cond.privateMethod ({ cls := "CensusOffice", name := "takeFromDonor", desc := "(LCensusOffice$Record;I)Z" } : Jvm.MethodName)) ∈ lw_tbl := lw_at lw_m5 115 rfl
theorem q1182 : (Jvm.Cond.instanceMethod ({ cls := "CensusOffice", name := "takeFromDonor", desc := "(LCensusOffice$Record;I)Z" } : Jvm.MethodName)) ∈ lw_all := lw_g (lw_at lw_m5 116 rfl) rfl
theorem q1183 : (Jvm.Cond.code ({ cls := "CensusOffice", name := "takeFromDonor", desc := "(LCensusOffice$Record;I)Z" } : Jvm.MethodName) prog_1_method_53_code (6 : Nat) (Option.some Jvm.ClassFile.FieldType.boolean)) ∈ lw_all := lw_g (lw_at lw_m5 117 rfl) rfl
theorem q1184 : (Jvm.Cond.methodLink "CensusOffice" (435 : Nat) ({ cls := "CensusOffice", name := "isDonor", desc := "(LCensusOffice$Record;LCensusOffice$Record;I)Z" } : Jvm.MethodName)) ∈ lw_all := lw_g (lw_at lw_m5 118 rfl) rfl
theorem q1185 : (Jvm.Cond.static ({ cls := "CensusOffice", name := "isDonor", desc := "(LCensusOffice$Record;LCensusOffice$Record;I)Z" } : Jvm.MethodName)) ∈ lw_all := lw_g (lw_at lw_m5 119 rfl) rfl
theorem q1186 : (Jvm.Cond.code ({ cls := "CensusOffice", name := "isDonor", desc := "(LCensusOffice$Record;LCensusOffice$Record;I)Z" } : Jvm.MethodName) prog_1_method_54_code (5 : Nat) (Option.some Jvm.ClassFile.FieldType.boolean)) ∈ lw_all := lw_g (lw_at lw_m5 120 rfl) rfl
theorem q1187 : (Jvm.Cond.methodLink "CensusOffice" (439 : Nat) ({ cls := "CensusOffice", name := "distanceOf", desc := "(LCensusOffice$Record;LCensusOffice$Record;I)J" } : Jvm.MethodName)) ∈ lw_all := lw_g (lw_at lw_m5 121 rfl) rfl
theorem q1188 : (Jvm.Cond.static ({ cls := "CensusOffice", name := "distanceOf", desc := "(LCensusOffice$Record;LCensusOffice$Record;I)J" } : Jvm.MethodName)) ∈ lw_all := lw_g (lw_at lw_m5 122 rfl) rfl
theorem q1189 : (Jvm.Cond.code ({ cls := "CensusOffice", name := "distanceOf", desc := "(LCensusOffice$Record;LCensusOffice$Record;I)J" } : Jvm.MethodName) prog_1_method_55_code (7 : Nat) (Option.some Jvm.ClassFile.FieldType.long)) ∈ lw_all := lw_g (lw_at lw_m5 123 rfl) rfl
theorem q1190 : (Jvm.Cond.methodLink "CensusOffice" (443 : Nat) ({ cls := "java/lang/Math", name := "abs", desc := "(I)I" } : Jvm.MethodName)) ∈ lw_all := lw_g (lw_at lw_m5 124 rfl) rfl
theorem q1193 : (Jvm.Cond.methodLink "CensusOffice" (423 : Nat) ({ cls := "CensusOffice$Least", name := "greatest", desc := "(I[I)V" } : Jvm.MethodName)) ∈ lw_all := lw_g (lw_at lw_m5 127 rfl) rfl
theorem q1201 : (Jvm.Cond.methodLink "CensusOffice" (431 : Nat) ({ cls := "java/lang/Integer", name := "bitCount", desc := "(I)I" } : Jvm.MethodName)) ∈ lw_all := lw_g (lw_at lw_m5 135 rfl) rfl
theorem q1211 : (Jvm.Cond.instanceMethod ({ cls := "CensusOffice", name := "sample", desc := "(IIIIII)I" } : Jvm.MethodName)) ∈ lw_all := lw_g (lw_at lw_m5 145 rfl) rfl
theorem q1212 : (Jvm.Cond.selects "CensusOffice" ({ cls := "CensusOffice", name := "sample", desc := "(IIIIII)I" } : Jvm.MethodName) ({ cls := "CensusOffice", name := "sample", desc := "(IIIIII)I" } : Jvm.MethodName)) ∈ lw_all := lw_g (lw_at lw_m5 146 rfl) rfl
theorem q1213 : (Jvm.Cond.code ({ cls := "CensusOffice", name := "sample", desc := "(IIIIII)I" } : Jvm.MethodName) prog_1_method_58_code (12 : Nat) (Option.some Jvm.ClassFile.FieldType.int)) ∈ lw_all := lw_g (lw_at lw_m5 147 rfl) rfl
theorem q1214 : (Jvm.Cond.methodLink "CensusOffice" (451 : Nat) ({ cls := "CensusOffice", name := "lookAtFrame", desc := "(IIII)I" } : Jvm.MethodName)) ∈ lw_all := lw_g (lw_at lw_m5 148 rfl) rfl
theorem q1215 : (Jvm.Cond.privateMethod ({ cls := "CensusOffice", name := "lookAtFrame", desc := "(IIII)I" } : Jvm.MethodName)) ∈ lw_tbl := lw_at lw_m5 149 rfl
theorem q1216 : (Jvm.Cond.instanceMethod ({ cls := "CensusOffice", name := "lookAtFrame", desc := "(IIII)I" } : Jvm.MethodName)) ∈ lw_all := lw_g (lw_at lw_m5 150 rfl) rfl
theorem q1217 : (Jvm.Cond.code ({ cls := "CensusOffice", name := "lookAtFrame", desc := "(IIII)I" } : Jvm.MethodName) prog_1_method_57_code (9 : Nat) (Option.some Jvm.ClassFile.FieldType.int)) ∈ lw_all := lw_g (lw_at lw_m5 151 rfl) rfl
theorem q1218 : (Jvm.Cond.methodLink "CensusOffice" (457 : Nat) ({ cls := "CensusOffice", name := "share", desc := "(III)V" } : Jvm.MethodName)) ∈ lw_all := lw_g (lw_at lw_m5 152 rfl) rfl
theorem q1219 : (Jvm.Cond.privateMethod ({ cls := "CensusOffice", name := "share", desc := "(III)V" } : Jvm.MethodName)) ∈ lw_tbl := lw_at lw_m5 153 rfl
theorem q1220 : (Jvm.Cond.instanceMethod ({ cls := "CensusOffice", name := "share", desc := "(III)V" } : Jvm.MethodName)) ∈ lw_all := lw_g (lw_at lw_m5 154 rfl) rfl
theorem q1221 : (Jvm.Cond.code ({ cls := "CensusOffice", name := "share", desc := "(III)V" } : Jvm.MethodName) prog_1_method_59_code (7 : Nat) (Option.none : Option Jvm.ClassFile.FieldType)) ∈ lw_all := lw_g (lw_at lw_m5 155 rfl) rfl
theorem q1223 : (Jvm.Cond.methodLinkNest "CensusOffice" (461 : Nat) ({ cls := "CensusOffice$Sample", name := "<init>", desc := "()V" } : Jvm.MethodName) "CensusOffice") ∈ lw_tbl := lw_at lw_m5 157 rfl
theorem q1228 : (Jvm.Cond.fieldLinkNest "CensusOffice" (472 : Nat) "CensusOffice$Sample" "isDrawn" "[Z" "CensusOffice") ∈ lw_tbl := lw_at lw_m5 162 rfl
theorem q1230 : (Jvm.Cond.fieldLinkNest "CensusOffice" (469 : Nat) "CensusOffice$Sample" "up" "[I" "CensusOffice") ∈ lw_tbl := lw_at lw_m5 164 rfl
theorem q1232 : (Jvm.Cond.fieldLinkNest "CensusOffice" (462 : Nat) "CensusOffice$Sample" "below" "[I" "CensusOffice") ∈ lw_tbl := lw_at lw_m5 166 rfl
theorem q1240 : (Jvm.Cond.methodLink "CensusOffice" (465 : Nat) ({ cls := "CensusOffice", name := "draw", desc := "(LCensusOffice$Sample;III)V" } : Jvm.MethodName)) ∈ lw_all := lw_g (lw_at lw_m5 174 rfl) rfl
theorem q1241 : (Jvm.Cond.privateMethod ({ cls := "CensusOffice", name := "draw", desc := "(LCensusOffice$Sample;III)V" } : Jvm.MethodName)) ∈ lw_tbl := lw_at lw_m5 175 rfl
theorem q1242 : (Jvm.Cond.instanceMethod ({ cls := "CensusOffice", name := "draw", desc := "(LCensusOffice$Sample;III)V" } : Jvm.MethodName)) ∈ lw_all := lw_g (lw_at lw_m5 176 rfl) rfl
theorem q1243 : (Jvm.Cond.code ({ cls := "CensusOffice", name := "draw", desc := "(LCensusOffice$Sample;III)V" } : Jvm.MethodName) prog_1_method_60_code (10 : Nat) (Option.none : Option Jvm.ClassFile.FieldType)) ∈ lw_all := lw_g (lw_at lw_m5 177 rfl) rfl
theorem q1244 : (Jvm.Cond.methodLink "CensusOffice" (475 : Nat) ({ cls := "CensusOffice", name := "key", desc := "(II)I" } : Jvm.MethodName)) ∈ lw_all := lw_g (lw_at lw_m5 178 rfl) rfl
theorem q1245 : (Jvm.Cond.static ({ cls := "CensusOffice", name := "key", desc := "(II)I" } : Jvm.MethodName)) ∈ lw_all := lw_g (lw_at lw_m5 179 rfl) rfl
theorem q1246 : (Jvm.Cond.code ({ cls := "CensusOffice", name := "key", desc := "(II)I" } : Jvm.MethodName) prog_1_method_56_code (3 : Nat) (Option.some Jvm.ClassFile.FieldType.int)) ∈ lw_all := lw_g (lw_at lw_m5 180 rfl) rfl
theorem q1247 : (Jvm.Cond.constant "CensusOffice" (448 : Nat) (-1640531527 : Int32)) ∈ lw_all := lw_g (lw_at lw_m5 181 rfl) rfl
theorem q1248 : (Jvm.Cond.constant "CensusOffice" (449 : Nat) (-2048144789 : Int32)) ∈ lw_all := lw_g (lw_at lw_m5 182 rfl) rfl
theorem q1249 : (Jvm.Cond.constant "CensusOffice" (450 : Nat) (-1028477387 : Int32)) ∈ lw_all := lw_g (lw_at lw_m5 183 rfl) rfl
theorem q1254 : (Jvm.Cond.instanceMethod ({ cls := "CensusOffice", name := "drawn", desc := "(II)I" } : Jvm.MethodName)) ∈ lw_all := lw_g (lw_at lw_m5 188 rfl) rfl
theorem q1255 : (Jvm.Cond.selects "CensusOffice" ({ cls := "CensusOffice", name := "drawn", desc := "(II)I" } : Jvm.MethodName) ({ cls := "CensusOffice", name := "drawn", desc := "(II)I" } : Jvm.MethodName)) ∈ lw_all := lw_g (lw_at lw_m5 189 rfl) rfl
theorem q1256 : (Jvm.Cond.code ({ cls := "CensusOffice", name := "drawn", desc := "(II)I" } : Jvm.MethodName) prog_1_method_62_code (6 : Nat) (Option.some Jvm.ClassFile.FieldType.int)) ∈ lw_all := lw_g (lw_at lw_m5 190 rfl) rfl
theorem q1257 : (Jvm.Cond.methodLink "CensusOffice" (478 : Nat) ({ cls := "CensusOffice", name := "sampleOf", desc := "(I)LCensusOffice$Sample;" } : Jvm.MethodName)) ∈ lw_all := lw_g (lw_at lw_m5 191 rfl) rfl
theorem q1258 : (Jvm.Cond.privateMethod ({ cls := "CensusOffice", name := "sampleOf", desc := "(I)LCensusOffice$Sample;" } : Jvm.MethodName)) ∈ lw_tbl := lw_at lw_m5 192 rfl
theorem q1259 : (Jvm.Cond.instanceMethod ({ cls := "CensusOffice", name := "sampleOf", desc := "(I)LCensusOffice$Sample;" } : Jvm.MethodName)) ∈ lw_all := lw_g (lw_at lw_m5 193 rfl) rfl
theorem q1260 : (Jvm.Cond.code ({ cls := "CensusOffice", name := "sampleOf", desc := "(I)LCensusOffice$Sample;" } : Jvm.MethodName) prog_1_method_61_code (2 : Nat) (Option.some (Jvm.ClassFile.FieldType.object "CensusOffice$Sample"))) ∈ lw_all := lw_g (lw_at lw_m5 194 rfl) rfl
theorem q1265 : (Jvm.Cond.instanceMethod ({ cls := "CensusOffice", name := "chance", desc := "(IIZ)I" } : Jvm.MethodName)) ∈ lw_all := lw_g (lw_at lw_m5 199 rfl) rfl
theorem q1266 : (Jvm.Cond.selects "CensusOffice" ({ cls := "CensusOffice", name := "chance", desc := "(IIZ)I" } : Jvm.MethodName) ({ cls := "CensusOffice", name := "chance", desc := "(IIZ)I" } : Jvm.MethodName)) ∈ lw_all := lw_g (lw_at lw_m5 200 rfl) rfl
theorem q1267 : (Jvm.Cond.code ({ cls := "CensusOffice", name := "chance", desc := "(IIZ)I" } : Jvm.MethodName) prog_1_method_63_code (5 : Nat) (Option.some Jvm.ClassFile.FieldType.int)) ∈ lw_all := lw_g (lw_at lw_m5 201 rfl) rfl
theorem q1272 : (Jvm.Cond.instanceMethod ({ cls := "CensusOffice", name := "overlap", desc := "(II)I" } : Jvm.MethodName)) ∈ lw_all := lw_g (lw_at lw_m5 206 rfl) rfl
theorem q1273 : (Jvm.Cond.selects "CensusOffice" ({ cls := "CensusOffice", name := "overlap", desc := "(II)I" } : Jvm.MethodName) ({ cls := "CensusOffice", name := "overlap", desc := "(II)I" } : Jvm.MethodName)) ∈ lw_all := lw_g (lw_at lw_m5 207 rfl) rfl
theorem q1274 : (Jvm.Cond.code ({ cls := "CensusOffice", name := "overlap", desc := "(II)I" } : Jvm.MethodName) prog_1_method_64_code (7 : Nat) (Option.some Jvm.ClassFile.FieldType.int)) ∈ lw_all := lw_g (lw_at lw_m5 208 rfl) rfl
theorem q1279 : (Jvm.Cond.instanceMethod ({ cls := "CensusOffice", name := "table", desc := "(IIIII)I" } : Jvm.MethodName)) ∈ lw_all := lw_g (lw_at lw_m5 213 rfl) rfl
theorem q1280 : (Jvm.Cond.selects "CensusOffice" ({ cls := "CensusOffice", name := "table", desc := "(IIIII)I" } : Jvm.MethodName) ({ cls := "CensusOffice", name := "table", desc := "(IIIII)I" } : Jvm.MethodName)) ∈ lw_all := lw_g (lw_at lw_m5 214 rfl) rfl
theorem q1281 : (Jvm.Cond.code ({ cls := "CensusOffice", name := "table", desc := "(IIIII)I" } : Jvm.MethodName) prog_1_method_65_code (12 : Nat) (Option.some Jvm.ClassFile.FieldType.int)) ∈ lw_all := lw_g (lw_at lw_m5 215 rfl) rfl
theorem q1283 : (Jvm.Cond.methodLink "CensusOffice" (485 : Nat) ({ cls := "CensusOffice$Table", name := "<init>", desc := "(II)V" } : Jvm.MethodName)) ∈ lw_all := lw_g (lw_at lw_m5 217 rfl) rfl
theorem q1288 : (Jvm.Cond.fieldLinkNest "CensusOffice" (513 : Nat) "CensusOffice$Table" "rows" "I" "CensusOffice") ∈ lw_tbl := lw_at lw_m5 222 rfl
theorem q1290 : (Jvm.Cond.fieldLinkNest "CensusOffice" (491 : Nat) "CensusOffice$Table" "columns" "I" "CensusOffice") ∈ lw_tbl := lw_at lw_m5 224 rfl
theorem q1292 : (Jvm.Cond.fieldLinkNest "CensusOffice" (494 : Nat) "CensusOffice$Table" "sum" "[I" "CensusOffice") ∈ lw_tbl := lw_at lw_m5 226 rfl
theorem q1294 : (Jvm.Cond.fieldLinkNest "CensusOffice" (497 : Nat) "CensusOffice$Table" "number" "[I" "CensusOffice") ∈ lw_tbl := lw_at lw_m5 228 rfl
theorem q1296 : (Jvm.Cond.fieldLinkNest "CensusOffice" (498 : Nat) "CensusOffice$Table" "greatest" "[I" "CensusOffice") ∈ lw_tbl := lw_at lw_m5 230 rfl
theorem q1299 : (Jvm.Cond.fieldLinkNest "CensusOffice" (506 : Nat) "CensusOffice$Table" "rounded" "[I" "CensusOffice") ∈ lw_tbl := lw_at lw_m5 233 rfl
theorem q1300 : (Jvm.Cond.fieldLinkNest "CensusOffice" (535 : Nat) "CensusOffice$Table" "primary" "I" "CensusOffice") ∈ lw_tbl := lw_at lw_m5 234 rfl
theorem q1302 : (Jvm.Cond.fieldLinkNest "CensusOffice" (551 : Nat) "CensusOffice$Table" "secret" "I" "CensusOffice") ∈ lw_tbl := lw_at lw_m5 236 rfl
theorem q1320 : (Jvm.Cond.methodLink "CensusOffice" (500 : Nat) ({ cls := "java/lang/Math", name := "max", desc := "(II)I" } : Jvm.MethodName)) ∈ lw_all := lw_g (lw_at lw_m6 14 rfl) rfl
theorem q1323 : (Jvm.Cond.methodLink "CensusOffice" (503 : Nat) ({ cls := "CensusOffice$Table", name := "cells", desc := "()I" } : Jvm.MethodName)) ∈ lw_all := lw_g (lw_at lw_m6 17 rfl) rfl
theorem q1331 : (Jvm.Cond.instanceMethod ({ cls := "CensusOffice", name := "cell", desc := "(IIII)I" } : Jvm.MethodName)) ∈ lw_all := lw_g (lw_at lw_m6 25 rfl) rfl
theorem q1332 : (Jvm.Cond.selects "CensusOffice" ({ cls := "CensusOffice", name := "cell", desc := "(IIII)I" } : Jvm.MethodName) ({ cls := "CensusOffice", name := "cell", desc := "(IIII)I" } : Jvm.MethodName)) ∈ lw_all := lw_g (lw_at lw_m6 26 rfl) rfl
theorem q1333 : (Jvm.Cond.code ({ cls := "CensusOffice", name := "cell", desc := "(IIII)I" } : Jvm.MethodName) prog_1_method_67_code (6 : Nat) (Option.some Jvm.ClassFile.FieldType.int)) ∈ lw_all := lw_g (lw_at lw_m6 27 rfl) rfl
theorem q1334 : (Jvm.Cond.methodLink "CensusOffice" (509 : Nat) ({ cls := "CensusOffice", name := "tableOf", desc := "(I)LCensusOffice$Table;" } : Jvm.MethodName)) ∈ lw_all := lw_g (lw_at lw_m6 28 rfl) rfl
theorem q1335 : (Jvm.Cond.privateMethod ({ cls := "CensusOffice", name := "tableOf", desc := "(I)LCensusOffice$Table;" } : Jvm.MethodName)) ∈ lw_tbl := lw_at lw_m6 29 rfl
theorem q1336 : (Jvm.Cond.instanceMethod ({ cls := "CensusOffice", name := "tableOf", desc := "(I)LCensusOffice$Table;" } : Jvm.MethodName)) ∈ lw_all := lw_g (lw_at lw_m6 30 rfl) rfl
theorem q1337 : (Jvm.Cond.code ({ cls := "CensusOffice", name := "tableOf", desc := "(I)LCensusOffice$Table;" } : Jvm.MethodName) prog_1_method_66_code (2 : Nat) (Option.some (Jvm.ClassFile.FieldType.object "CensusOffice$Table"))) ∈ lw_all := lw_g (lw_at lw_m6 31 rfl) rfl
theorem q1338 : (Jvm.Cond.methodLink "CensusOffice" (516 : Nat) ({ cls := "CensusOffice$Table", name := "told", desc := "([IIIZ)I" } : Jvm.MethodName)) ∈ lw_all := lw_g (lw_at lw_m6 32 rfl) rfl
theorem q1352 : (Jvm.Cond.instanceMethod ({ cls := "CensusOffice", name := "secrecy", desc := "(IIII)I" } : Jvm.MethodName)) ∈ lw_all := lw_g (lw_at lw_m6 46 rfl) rfl
theorem q1353 : (Jvm.Cond.selects "CensusOffice" ({ cls := "CensusOffice", name := "secrecy", desc := "(IIII)I" } : Jvm.MethodName) ({ cls := "CensusOffice", name := "secrecy", desc := "(IIII)I" } : Jvm.MethodName)) ∈ lw_all := lw_g (lw_at lw_m6 47 rfl) rfl
theorem q1354 : (Jvm.Cond.code ({ cls := "CensusOffice", name := "secrecy", desc := "(IIII)I" } : Jvm.MethodName) prog_1_method_72_code (8 : Nat) (Option.some Jvm.ClassFile.FieldType.int)) ∈ lw_all := lw_g (lw_at lw_m6 48 rfl) rfl
theorem q1355 : (Jvm.Cond.methodLink "CensusOffice" (547 : Nat) ({ cls := "CensusOffice", name := "choose", desc := "(LCensusOffice$Table;IIII)V" } : Jvm.MethodName)) ∈ lw_all := lw_g (lw_at lw_m6 49 rfl) rfl
theorem q1356 : (Jvm.Cond.privateMethod ({ cls := "CensusOffice", name := "choose", desc := "(LCensusOffice$Table;IIII)V" } : Jvm.MethodName)) ∈ lw_tbl := lw_at lw_m6 50 rfl
theorem q1357 : (Jvm.Cond.instanceMethod ({ cls := "CensusOffice", name := "choose", desc := "(LCensusOffice$Table;IIII)V" } : Jvm.MethodName)) ∈ lw_all := lw_g (lw_at lw_m6 51 rfl) rfl
theorem q1358 : (Jvm.Cond.code ({ cls := "CensusOffice", name := "choose", desc := "(LCensusOffice$Table;IIII)V" } : Jvm.MethodName) prog_1_method_71_code (7 : Nat) (Option.none : Option Jvm.ClassFile.FieldType)) ∈ lw_all := lw_g (lw_at lw_m6 52 rfl) rfl
theorem q1359 : (Jvm.Cond.methodLink "CensusOffice" (542 : Nat) ({ cls := "CensusOffice", name := "isGood", desc := "(LCensusOffice$Table;II)Z" } : Jvm.MethodName)) ∈ lw_all := lw_g (lw_at lw_m6 53 rfl) rfl
theorem q1360 : (Jvm.Cond.privateMethod ({ cls := "CensusOffice", name := "isGood", desc := "(LCensusOffice$Table;II)Z" } : Jvm.MethodName)) ∈ lw_tbl := lw_at lw_m6 54 rfl
theorem q1361 : (Jvm.Cond.instanceMethod ({ cls := "CensusOffice", name := "isGood", desc := "(LCensusOffice$Table;II)Z" } : Jvm.MethodName)) ∈ lw_all := lw_g (lw_at lw_m6 55 rfl) rfl
theorem q1362 : (Jvm.Cond.code ({ cls := "CensusOffice", name := "isGood", desc := "(LCensusOffice$Table;II)Z" } : Jvm.MethodName) prog_1_method_70_code (6 : Nat) (Option.some Jvm.ClassFile.FieldType.boolean)) ∈ lw_all := lw_g (lw_at lw_m6 56 rfl) rfl
theorem q1363 : (Jvm.Cond.methodLink "CensusOffice" (531 : Nat) ({ cls := "CensusOffice", name := "reach", desc := "(LCensusOffice$Table;IIZI)I" } : Jvm.MethodName)) ∈ lw_all := lw_g (lw_at lw_m6 57 rfl) rfl
theorem q1364 : (Jvm.Cond.privateMethod ({ cls := "CensusOffice", name := "reach", desc := "(LCensusOffice$Table;IIZI)I" } : Jvm.MethodName)) ∈ lw_tbl := lw_at lw_m6 58 rfl
theorem q1365 : (Jvm.Cond.instanceMethod ({ cls := "CensusOffice", name := "reach", desc := "(LCensusOffice$Table;IIZI)I" } : Jvm.MethodName)) ∈ lw_all := lw_g (lw_at lw_m6 59 rfl) rfl
theorem q1366 : (Jvm.Cond.code ({ cls := "CensusOffice", name := "reach", desc := "(LCensusOffice$Table;IIZI)I" } : Jvm.MethodName) prog_1_method_68_code (9 : Nat) (Option.some Jvm.ClassFile.FieldType.int)) ∈ lw_all := lw_g (lw_at lw_m6 60 rfl) rfl
theorem q1367 : (Jvm.Cond.methodLink "CensusOffice" (520 : Nat) ({ cls := "CensusOffice$Flow", name := "clear", desc := "()V" } : Jvm.MethodName)) ∈ lw_all := lw_g (lw_at lw_m6 61 rfl) rfl
theorem q1371 : (Jvm.Cond.methodLink "CensusOffice" (523 : Nat) ({ cls := "CensusOffice$Flow", name := "let", desc := "(III)V" } : Jvm.MethodName)) ∈ lw_all := lw_g (lw_at lw_m6 65 rfl) rfl
theorem q1375 : (Jvm.Cond.constant "CensusOffice" (526 : Nat) (536870911 : Int32)) ∈ lw_all := lw_g (lw_at lw_m6 69 rfl) rfl
theorem q1376 : (Jvm.Cond.methodLink "CensusOffice" (527 : Nat) ({ cls := "CensusOffice$Flow", name := "go", desc := "(III)I" } : Jvm.MethodName)) ∈ lw_all := lw_g (lw_at lw_m6 70 rfl) rfl
theorem q1387 : (Jvm.Cond.methodLink "CensusOffice" (538 : Nat) ({ cls := "java/lang/Math", name := "min", desc := "(II)I" } : Jvm.MethodName)) ∈ lw_all := lw_g (lw_at lw_m6 81 rfl) rfl
theorem q1392 : (Jvm.Cond.instanceMethod ({ cls := "CensusOffice", name := "secret", desc := "(III)I" } : Jvm.MethodName)) ∈ lw_all := lw_g (lw_at lw_m6 86 rfl) rfl
theorem q1393 : (Jvm.Cond.selects "CensusOffice" ({ cls := "CensusOffice", name := "secret", desc := "(III)I" } : Jvm.MethodName) ({ cls := "CensusOffice", name := "secret", desc := "(III)I" } : Jvm.MethodName)) ∈ lw_all := lw_g (lw_at lw_m6 87 rfl) rfl
theorem q1394 : (Jvm.Cond.code ({ cls := "CensusOffice", name := "secret", desc := "(III)I" } : Jvm.MethodName) prog_1_method_74_code (6 : Nat) (Option.some Jvm.ClassFile.FieldType.int)) ∈ lw_all := lw_g (lw_at lw_m6 88 rfl) rfl
theorem q1395 : (Jvm.Cond.methodLink "CensusOffice" (554 : Nat) ({ cls := "CensusOffice", name := "cellIn", desc := "(III)LCensusOffice$Table;" } : Jvm.MethodName)) ∈ lw_all := lw_g (lw_at lw_m6 89 rfl) rfl
theorem q1396 : (Jvm.Cond.privateMethod ({ cls := "CensusOffice", name := "cellIn", desc := "(III)LCensusOffice$Table;" } : Jvm.MethodName)) ∈ lw_tbl := lw_at lw_m6 90 rfl
theorem q1397 : (Jvm.Cond.instanceMethod ({ cls := "CensusOffice", name := "cellIn", desc := "(III)LCensusOffice$Table;" } : Jvm.MethodName)) ∈ lw_all := lw_g (lw_at lw_m6 91 rfl) rfl
theorem q1398 : (Jvm.Cond.code ({ cls := "CensusOffice", name := "cellIn", desc := "(III)LCensusOffice$Table;" } : Jvm.MethodName) prog_1_method_73_code (5 : Nat) (Option.some (Jvm.ClassFile.FieldType.object "CensusOffice$Table"))) ∈ lw_all := lw_g (lw_at lw_m6 92 rfl) rfl
theorem q1403 : (Jvm.Cond.instanceMethod ({ cls := "CensusOffice", name := "interval", desc := "(IIIZ)I" } : Jvm.MethodName)) ∈ lw_all := lw_g (lw_at lw_m6 97 rfl) rfl
theorem q1404 : (Jvm.Cond.selects "CensusOffice" ({ cls := "CensusOffice", name := "interval", desc := "(IIIZ)I" } : Jvm.MethodName) ({ cls := "CensusOffice", name := "interval", desc := "(IIIZ)I" } : Jvm.MethodName)) ∈ lw_all := lw_g (lw_at lw_m6 98 rfl) rfl
theorem q1405 : (Jvm.Cond.code ({ cls := "CensusOffice", name := "interval", desc := "(IIIZ)I" } : Jvm.MethodName) prog_1_method_75_code (6 : Nat) (Option.some Jvm.ClassFile.FieldType.int)) ∈ lw_all := lw_g (lw_at lw_m6 99 rfl) rfl
theorem q1406 : (Jvm.Cond.methodLink "CensusOffice" (558 : Nat) ({ cls := "CensusOffice", name := "end", desc := "(LCensusOffice$Table;IIZ)I" } : Jvm.MethodName)) ∈ lw_all := lw_g (lw_at lw_m6 100 rfl) rfl
theorem q1407 : (Jvm.Cond.privateMethod ({ cls := "CensusOffice", name := "end", desc := "(LCensusOffice$Table;IIZ)I" } : Jvm.MethodName)) ∈ lw_tbl := lw_at lw_m6 101 rfl
theorem q1408 : (Jvm.Cond.instanceMethod ({ cls := "CensusOffice", name := "end", desc := "(LCensusOffice$Table;IIZ)I" } : Jvm.MethodName)) ∈ lw_all := lw_g (lw_at lw_m6 102 rfl) rfl
theorem q1409 : (Jvm.Cond.code ({ cls := "CensusOffice", name := "end", desc := "(LCensusOffice$Table;IIZ)I" } : Jvm.MethodName) prog_1_method_69_code (5 : Nat) (Option.some Jvm.ClassFile.FieldType.int)) ∈ lw_all := lw_g (lw_at lw_m6 103 rfl) rfl
theorem q1414 : (Jvm.Cond.instanceMethod ({ cls := "CensusOffice", name := "round", desc := "(II)I" } : Jvm.MethodName)) ∈ lw_all := lw_g (lw_at lw_m6 108 rfl) rfl
theorem q1415 : (Jvm.Cond.selects "CensusOffice" ({ cls := "CensusOffice", name := "round", desc := "(II)I" } : Jvm.MethodName) ({ cls := "CensusOffice", name := "round", desc := "(II)I" } : Jvm.MethodName)) ∈ lw_all := lw_g (lw_at lw_m6 109 rfl) rfl
theorem q1416 : (Jvm.Cond.code ({ cls := "CensusOffice", name := "round", desc := "(II)I" } : Jvm.MethodName) prog_1_method_79_code (6 : Nat) (Option.some Jvm.ClassFile.FieldType.int)) ∈ lw_all := lw_g (lw_at lw_m6 110 rfl) rfl
theorem q1417 : (Jvm.Cond.constantLong "CensusOffice" (573 : Nat) (1000 : Int64)) ∈ lw_all := lw_g (lw_at lw_m6 111 rfl) rfl
theorem q1418 : (Jvm.Cond.methodLink "CensusOffice" (575 : Nat) ({ cls := "CensusOffice", name := "isRight", desc := "(LCensusOffice$Table;II)Z" } : Jvm.MethodName)) ∈ lw_all := lw_g (lw_at lw_m6 112 rfl) rfl
theorem q1419 : (Jvm.Cond.privateMethod ({ cls := "CensusOffice", name := "isRight", desc := "(LCensusOffice$Table;II)Z" } : Jvm.MethodName)) ∈ lw_tbl := lw_at lw_m6 113 rfl
theorem q1420 : (Jvm.Cond.instanceMethod ({ cls := "CensusOffice", name := "isRight", desc := "(LCensusOffice$Table;II)Z" } : Jvm.MethodName)) ∈ lw_all := lw_g (lw_at lw_m6 114 rfl) rfl
theorem q1421 : (Jvm.Cond.code ({ cls := "CensusOffice", name := "isRight", desc := "(LCensusOffice$Table;II)Z" } : Jvm.MethodName) prog_1_method_77_code (12 : Nat) (Option.some Jvm.ClassFile.FieldType.boolean)) ∈ lw_all := lw_g (lw_at lw_m6 115 rfl) rfl
theorem q1422 : (Jvm.Cond.methodLink "CensusOffice" (565 : Nat) ({ cls := "CensusOffice", name := "rising", desc := "(LCensusOffice$Table;IIIZ)I" } : Jvm.MethodName)) ∈ lw_all := lw_g (lw_at lw_m6 116 rfl) rfl
theorem q1423 : (Jvm.Cond.static ({ cls := "CensusOffice", name := "rising", desc := "(LCensusOffice$Table;IIIZ)I" } : Jvm.MethodName)) ∈ lw_all := lw_g (lw_at lw_m6 117 rfl) rfl
theorem q1424 : (Jvm.Cond.code ({ cls := "CensusOffice", name := "rising", desc := "(LCensusOffice$Table;IIIZ)I" } : Jvm.MethodName) prog_1_method_76_code (8 : Nat) (Option.some Jvm.ClassFile.FieldType.int)) ∈ lw_all := lw_g (lw_at lw_m6 118 rfl) rfl
theorem q1425 : (Jvm.Cond.methodLinkNest "CensusOffice" (561 : Nat) ({ cls := "CensusOffice$Table", name := "has", desc := "(III)Z" } : Jvm.MethodName) "CensusOffice") ∈ lw_tbl := lw_at lw_m6 119 rfl
theorem q1426 : (Jvm.Cond.methodLink "CensusOffice" (569 : Nat) ({ cls := "CensusOffice", name := "between", desc := "(IIIIII)I" } : Jvm.MethodName)) ∈ lw_all := lw_g (lw_at lw_m6 120 rfl) rfl
theorem q1427 : (Jvm.Cond.privateMethod ({ cls := "CensusOffice", name := "between", desc := "(IIIIII)I" } : Jvm.MethodName)) ∈ lw_tbl := lw_at lw_m6 121 rfl
theorem q1428 : (Jvm.Cond.instanceMethod ({ cls := "CensusOffice", name := "between", desc := "(IIIIII)I" } : Jvm.MethodName)) ∈ lw_all := lw_g (lw_at lw_m6 122 rfl) rfl
theorem q1429 : (Jvm.Cond.code ({ cls := "CensusOffice", name := "between", desc := "(IIIIII)I" } : Jvm.MethodName) prog_1_method_78_code (7 : Nat) (Option.some Jvm.ClassFile.FieldType.int)) ∈ lw_all := lw_g (lw_at lw_m6 123 rfl) rfl
theorem q1434 : (Jvm.Cond.instanceMethod ({ cls := "CensusOffice", name := "person", desc := "(I)I" } : Jvm.MethodName)) ∈ lw_all := lw_g (lw_at lw_m6 128 rfl) rfl
theorem q1435 : (Jvm.Cond.selects "CensusOffice" ({ cls := "CensusOffice", name := "person", desc := "(I)I" } : Jvm.MethodName) ({ cls := "CensusOffice", name := "person", desc := "(I)I" } : Jvm.MethodName)) ∈ lw_all := lw_g (lw_at lw_m6 129 rfl) rfl
theorem q1436 : (Jvm.Cond.code ({ cls := "CensusOffice", name := "person", desc := "(I)I" } : Jvm.MethodName) prog_1_method_80_code (2 : Nat) (Option.some Jvm.ClassFile.FieldType.int)) ∈ lw_all := lw_g (lw_at lw_m6 130 rfl) rfl
theorem q1437 : (Jvm.Cond.constantLong "CensusOffice" (578 : Nat) (7 : Int64)) ∈ lw_all := lw_g (lw_at lw_m6 131 rfl) rfl
theorem q1442 : (Jvm.Cond.instanceMethod ({ cls := "CensusOffice", name := "release", desc := "(III)I" } : Jvm.MethodName)) ∈ lw_all := lw_g (lw_at lw_m6 136 rfl) rfl
theorem q1443 : (Jvm.Cond.selects "CensusOffice" ({ cls := "CensusOffice", name := "release", desc := "(III)I" } : Jvm.MethodName) ({ cls := "CensusOffice", name := "release", desc := "(III)I" } : Jvm.MethodName)) ∈ lw_all := lw_g (lw_at lw_m6 137 rfl) rfl
theorem q1444 : (Jvm.Cond.code ({ cls := "CensusOffice", name := "release", desc := "(III)I" } : Jvm.MethodName) prog_1_method_82_code (5 : Nat) (Option.some Jvm.ClassFile.FieldType.int)) ∈ lw_all := lw_g (lw_at lw_m6 138 rfl) rfl
theorem q1445 : (Jvm.Cond.methodLink "CensusOffice" (583 : Nat) ({ cls := "CensusOffice", name := "personIn", desc := "(I)V" } : Jvm.MethodName)) ∈ lw_all := lw_g (lw_at lw_m6 139 rfl) rfl
theorem q1446 : (Jvm.Cond.privateMethod ({ cls := "CensusOffice", name := "personIn", desc := "(I)V" } : Jvm.MethodName)) ∈ lw_tbl := lw_at lw_m6 140 rfl
theorem q1447 : (Jvm.Cond.instanceMethod ({ cls := "CensusOffice", name := "personIn", desc := "(I)V" } : Jvm.MethodName)) ∈ lw_all := lw_g (lw_at lw_m6 141 rfl) rfl
theorem q1448 : (Jvm.Cond.code ({ cls := "CensusOffice", name := "personIn", desc := "(I)V" } : Jvm.MethodName) prog_1_method_81_code (2 : Nat) (Option.none : Option Jvm.ClassFile.FieldType)) ∈ lw_all := lw_g (lw_at lw_m6 142 rfl) rfl
theorem q1450 : (Jvm.Cond.methodLink "CensusOffice" (589 : Nat) ({ cls := "CensusOffice$Release", name := "<init>", desc := "(IILCensusOffice$Table;)V" } : Jvm.MethodName)) ∈ lw_all := lw_g (lw_at lw_m6 144 rfl) rfl
theorem q1455 : (Jvm.Cond.fieldLinkNest "CensusOffice" (599 : Nat) "CensusOffice$Release" "person" "I" "CensusOffice") ∈ lw_tbl := lw_at lw_m6 149 rfl
theorem q1457 : (Jvm.Cond.fieldLinkNest "CensusOffice" (598 : Nat) "CensusOffice$Release" "minute" "I" "CensusOffice") ∈ lw_tbl := lw_at lw_m6 151 rfl
theorem q1459 : (Jvm.Cond.fieldLinkNest "CensusOffice" (592 : Nat) "CensusOffice$Release" "of" "LCensusOffice$Table;" "CensusOffice") ∈ lw_tbl := lw_at lw_m6 153 rfl
theorem q1461 : (Jvm.Cond.fieldLinkNest "CensusOffice" (602 : Nat) "CensusOffice$Release" "secret" "I" "CensusOffice") ∈ lw_tbl := lw_at lw_m6 155 rfl
theorem q1463 : (Jvm.Cond.fieldLinkNest "CensusOffice" (603 : Nat) "CensusOffice$Release" "numbers" "[I" "CensusOffice") ∈ lw_tbl := lw_at lw_m6 157 rfl
theorem q1479 : (Jvm.Cond.instanceMethod ({ cls := "CensusOffice", name := "look", desc := "(IIII)I" } : Jvm.MethodName)) ∈ lw_all := lw_g (lw_at lw_m6 173 rfl) rfl
theorem q1480 : (Jvm.Cond.selects "CensusOffice" ({ cls := "CensusOffice", name := "look", desc := "(IIII)I" } : Jvm.MethodName) ({ cls := "CensusOffice", name := "look", desc := "(IIII)I" } : Jvm.MethodName)) ∈ lw_all := lw_g (lw_at lw_m6 174 rfl) rfl
theorem q1481 : (Jvm.Cond.code ({ cls := "CensusOffice", name := "look", desc := "(IIII)I" } : Jvm.MethodName) prog_1_method_83_code (9 : Nat) (Option.some Jvm.ClassFile.FieldType.int)) ∈ lw_all := lw_g (lw_at lw_m6 175 rfl) rfl
theorem q1486 : (Jvm.Cond.instanceMethod ({ cls := "CensusOffice", name := "looked", desc := "(II)I" } : Jvm.MethodName)) ∈ lw_all := lw_g (lw_at lw_m6 180 rfl) rfl
theorem q1487 : (Jvm.Cond.selects "CensusOffice" ({ cls := "CensusOffice", name := "looked", desc := "(II)I" } : Jvm.MethodName) ({ cls := "CensusOffice", name := "looked", desc := "(II)I" } : Jvm.MethodName)) ∈ lw_all := lw_g (lw_at lw_m6 181 rfl) rfl
theorem q1488 : (Jvm.Cond.code ({ cls := "CensusOffice", name := "looked", desc := "(II)I" } : Jvm.MethodName) prog_1_method_84_code (3 : Nat) (Option.some Jvm.ClassFile.FieldType.int)) ∈ lw_all := lw_g (lw_at lw_m6 182 rfl) rfl
theorem q1493 : (Jvm.Cond.instanceMethod ({ cls := "CensusOffice", name := "told", desc := "(I)I" } : Jvm.MethodName)) ∈ lw_all := lw_g (lw_at lw_m6 187 rfl) rfl
theorem q1494 : (Jvm.Cond.selects "CensusOffice" ({ cls := "CensusOffice", name := "told", desc := "(I)I" } : Jvm.MethodName) ({ cls := "CensusOffice", name := "told", desc := "(I)I" } : Jvm.MethodName)) ∈ lw_all := lw_g (lw_at lw_m6 188 rfl) rfl
theorem q1495 : (Jvm.Cond.code ({ cls := "CensusOffice", name := "told", desc := "(I)I" } : Jvm.MethodName) prog_1_method_85_code (2 : Nat) (Option.some Jvm.ClassFile.FieldType.int)) ∈ lw_all := lw_g (lw_at lw_m6 189 rfl) rfl
theorem q1496 : (Jvm.Cond.stringRef "CensusOffice" (606 : Nat) "no such what") ∈ lw_tbl := lw_at lw_m6 190 rfl
theorem in_X1 : ∀ w ∈ wsX10, w ∈ lw_all := lw_in wsX10 [353, 355, 357, 359, 361, 363, 365, 367, 369, 371, 373, 375, 377, 379, 381, 383, 385, 387, 389, 391, 393, 395, 397, 399, 401, 403, 405, 407, 409, 411, 413, 415, 417, 419, 421, 423, 425, 427, 429, 431, 433, 435, 437, 439, 441] (by decide +kernel) (by decide +kernel)
/-! CensusOfficeLaw -/
def RX0 : String := "CensusOfficeLaw"
abbrev cX0_tick : ByteArray := method_3_code
def yX0_tick : MethodName := ⟨RX0, "tick", "(LCensusOffice;I[J)I"⟩
abbrev cX0_unit : ByteArray := method_4_code
def yX0_unit : MethodName := ⟨RX0, "unit", "(LCensusOffice;[J)I"⟩
abbrev cX0_tell : ByteArray := method_5_code
def yX0_tell : MethodName := ⟨RX0, "tell", "(LCensusOffice;IIII[J)I"⟩
abbrev cX0_merge : ByteArray := method_6_code
def yX0_merge : MethodName := ⟨RX0, "merge", "(LCensusOffice;II[J)I"⟩
abbrev cX0_value : ByteArray := method_7_code
def yX0_value : MethodName := ⟨RX0, "value", "(LCensusOffice;IIII[J)I"⟩
abbrev cX0_last : ByteArray := method_8_code
def yX0_last : MethodName := ⟨RX0, "last", "(LCensusOffice;I[J)I"⟩
abbrev cX0_feed : ByteArray := method_9_code
def yX0_feed : MethodName := ⟨RX0, "feed", "(LCensusOffice;IIIII[J)I"⟩
abbrev cX0_trim : ByteArray := method_10_code
def yX0_trim : MethodName := ⟨RX0, "trim", "(LCensusOffice;I[J)I"⟩
abbrev cX0_form : ByteArray := method_11_code
def yX0_form : MethodName := ⟨RX0, "form", "(LCensusOffice;[J)I"⟩
abbrev cX0_statement : ByteArray := method_12_code
def yX0_statement : MethodName := ⟨RX0, "statement", "(LCensusOffice;III[J)I"⟩
abbrev cX0_open : ByteArray := method_13_code
def yX0_open : MethodName := ⟨RX0, "open", "(LCensusOffice;II[J)I"⟩
abbrev cX0_question : ByteArray := method_14_code
def yX0_question : MethodName := ⟨RX0, "question", "(LCensusOffice;I[J)I"⟩
abbrev cX0_answer : ByteArray := method_15_code
def yX0_answer : MethodName := ⟨RX0, "answer", "(LCensusOffice;II[J)I"⟩
abbrev cX0_back : ByteArray := method_16_code
def yX0_back : MethodName := ⟨RX0, "back", "(LCensusOffice;I[J)I"⟩
abbrev cX0_given : ByteArray := method_17_code
def yX0_given : MethodName := ⟨RX0, "given", "(LCensusOffice;IIZ[J)I"⟩
abbrev cX0_close : ByteArray := method_18_code
def yX0_close : MethodName := ⟨RX0, "close", "(LCensusOffice;I[J)I"⟩
abbrev cX0_item : ByteArray := method_19_code
def yX0_item : MethodName := ⟨RX0, "item", "(LCensusOffice;II[J)I"⟩
abbrev cX0_mark : ByteArray := method_20_code
def yX0_mark : MethodName := ⟨RX0, "mark", "(LCensusOffice;II[J)I"⟩
abbrev cX0_rule : ByteArray := method_21_code
def yX0_rule : MethodName := ⟨RX0, "rule", "(LCensusOffice;IIII[J)I"⟩
abbrev cX0_cost : ByteArray := method_22_code
def yX0_cost : MethodName := ⟨RX0, "cost", "(LCensusOffice;III[J)I"⟩
abbrev cX0_broken : ByteArray := method_23_code
def yX0_broken : MethodName := ⟨RX0, "broken", "(LCensusOffice;II[J)I"⟩
abbrev cX0_least : ByteArray := method_24_code
def yX0_least : MethodName := ⟨RX0, "least", "(LCensusOffice;IZ[J)I"⟩
abbrev cX0_impute : ByteArray := method_25_code
def yX0_impute : MethodName := ⟨RX0, "impute", "(LCensusOffice;II[J)I"⟩
abbrev cX0_sample : ByteArray := method_26_code
def yX0_sample : MethodName := ⟨RX0, "sample", "(LCensusOffice;IIIIII[J)I"⟩
abbrev cX0_drawn : ByteArray := method_27_code
def yX0_drawn : MethodName := ⟨RX0, "drawn", "(LCensusOffice;II[J)I"⟩
abbrev cX0_chance : ByteArray := method_28_code
def yX0_chance : MethodName := ⟨RX0, "chance", "(LCensusOffice;IIZ[J)I"⟩
abbrev cX0_overlap : ByteArray := method_29_code
def yX0_overlap : MethodName := ⟨RX0, "overlap", "(LCensusOffice;II[J)I"⟩
abbrev cX0_table : ByteArray := method_30_code
def yX0_table : MethodName := ⟨RX0, "table", "(LCensusOffice;IIIII[J)I"⟩
abbrev cX0_cell : ByteArray := method_31_code
def yX0_cell : MethodName := ⟨RX0, "cell", "(LCensusOffice;IIII[J)I"⟩
abbrev cX0_secrecy : ByteArray := method_32_code
def yX0_secrecy : MethodName := ⟨RX0, "secrecy", "(LCensusOffice;IIII[J)I"⟩
abbrev cX0_secret : ByteArray := method_33_code
def yX0_secret : MethodName := ⟨RX0, "secret", "(LCensusOffice;III[J)I"⟩
abbrev cX0_interval : ByteArray := method_34_code
def yX0_interval : MethodName := ⟨RX0, "interval", "(LCensusOffice;IIIZ[J)I"⟩
abbrev cX0_round : ByteArray := method_35_code
def yX0_round : MethodName := ⟨RX0, "round", "(LCensusOffice;II[J)I"⟩
abbrev cX0_person : ByteArray := method_36_code
def yX0_person : MethodName := ⟨RX0, "person", "(LCensusOffice;I[J)I"⟩
abbrev cX0_release : ByteArray := method_37_code
def yX0_release : MethodName := ⟨RX0, "release", "(LCensusOffice;III[J)I"⟩
abbrev cX0_look : ByteArray := method_38_code
def yX0_look : MethodName := ⟨RX0, "look", "(LCensusOffice;IIII[J)I"⟩
abbrev cX0_looked : ByteArray := method_39_code
def yX0_looked : MethodName := ⟨RX0, "looked", "(LCensusOffice;II[J)I"⟩
abbrev cX0_told : ByteArray := method_40_code
def yX0_told : MethodName := ⟨RX0, "told", "(LCensusOffice;I[J)I"⟩
theorem q106 : (Jvm.Cond.initialized "CensusOfficeLaw") ∈ lw_all := lw_g (lw_at lw_m1 0 rfl) rfl
theorem q133 : (Jvm.Cond.classLink "CensusOfficeLaw" (8 : Nat) "CensusOffice") ∈ lw_all := lw_g (lw_at lw_m1 27 rfl) rfl
theorem q135 : (Jvm.Cond.methodLink "CensusOfficeLaw" (141 : Nat) ({ cls := "CensusOffice", name := "<init>", desc := "()V" } : Jvm.MethodName)) ∈ lw_all := lw_g (lw_at lw_m1 29 rfl) rfl
theorem q444 : (Jvm.Cond.methodLink "CensusOfficeLaw" (145 : Nat) ({ cls := "CensusOfficeLaw", name := "tick", desc := "(LCensusOffice;I[J)I" } : Jvm.MethodName)) ∈ lw_all := lw_g (lw_at lw_m2 98 rfl) rfl
theorem q445 : (Jvm.Cond.static ({ cls := "CensusOfficeLaw", name := "tick", desc := "(LCensusOffice;I[J)I" } : Jvm.MethodName)) ∈ lw_all := lw_g (lw_at lw_m2 99 rfl) rfl
theorem q446 : (Jvm.Cond.codeWith ({ cls := "CensusOfficeLaw", name := "tick", desc := "(LCensusOffice;I[J)I" } : Jvm.MethodName) method_3_code (4 : Nat) (Option.some Jvm.ClassFile.FieldType.int) [((0 : Nat), (9 : Nat), (12 : Nat), (13 : Nat))]) ∈ lw_all := lw_g (lw_at lw_m2 100 rfl) rfl
theorem q447 : (Jvm.Cond.classLink "CensusOfficeLaw" (13 : Nat) "java/lang/IllegalArgumentException") ∈ lw_all := lw_g (lw_at lw_m2 101 rfl) rfl
theorem q448 : (Jvm.Cond.methodLink "CensusOfficeLaw" (7 : Nat) ({ cls := "CensusOffice", name := "tick", desc := "(I)I" } : Jvm.MethodName)) ∈ lw_all := lw_g (lw_at lw_m2 102 rfl) rfl
theorem q530 : (Jvm.Cond.methodLink "CensusOfficeLaw" (154 : Nat) ({ cls := "CensusOfficeLaw", name := "unit", desc := "(LCensusOffice;[J)I" } : Jvm.MethodName)) ∈ lw_all := lw_g (lw_at lw_m2 184 rfl) rfl
theorem q531 : (Jvm.Cond.static ({ cls := "CensusOfficeLaw", name := "unit", desc := "(LCensusOffice;[J)I" } : Jvm.MethodName)) ∈ lw_all := lw_g (lw_at lw_m2 185 rfl) rfl
theorem q532 : (Jvm.Cond.codeWith ({ cls := "CensusOfficeLaw", name := "unit", desc := "(LCensusOffice;[J)I" } : Jvm.MethodName) method_4_code (3 : Nat) (Option.some Jvm.ClassFile.FieldType.int) [((0 : Nat), (8 : Nat), (11 : Nat), (19 : Nat))]) ∈ lw_all := lw_g (lw_at lw_m2 186 rfl) rfl
theorem q533 : (Jvm.Cond.classLink "CensusOfficeLaw" (19 : Nat) "java/lang/UnsupportedOperationException") ∈ lw_all := lw_g (lw_at lw_m2 187 rfl) rfl
theorem q534 : (Jvm.Cond.methodLink "CensusOfficeLaw" (15 : Nat) ({ cls := "CensusOffice", name := "unit", desc := "()I" } : Jvm.MethodName)) ∈ lw_all := lw_g (lw_at lw_m2 188 rfl) rfl
theorem q557 : (Jvm.Cond.methodLink "CensusOfficeLaw" (158 : Nat) ({ cls := "CensusOfficeLaw", name := "tell", desc := "(LCensusOffice;IIII[J)I" } : Jvm.MethodName)) ∈ lw_all := lw_g (lw_at lw_m2 211 rfl) rfl
theorem q558 : (Jvm.Cond.static ({ cls := "CensusOfficeLaw", name := "tell", desc := "(LCensusOffice;IIII[J)I" } : Jvm.MethodName)) ∈ lw_all := lw_g (lw_at lw_m2 212 rfl) rfl
theorem q559 : (Jvm.Cond.codeWith ({ cls := "CensusOfficeLaw", name := "tell", desc := "(LCensusOffice;IIII[J)I" } : Jvm.MethodName) method_5_code (7 : Nat) (Option.some Jvm.ClassFile.FieldType.int) [((0 : Nat), (14 : Nat), (17 : Nat), (25 : Nat)), ((0 : Nat), (14 : Nat), (21 : Nat), (13 : Nat)), ((0 : Nat), (14 : Nat), (25 : Nat), (27 : Nat)), ((0 : Nat), (14 : Nat), (29 : Nat), (19 : Nat))]) ∈ lw_all := lw_g (lw_at lw_m2 213 rfl) rfl
theorem q560 : (Jvm.Cond.classLink "CensusOfficeLaw" (25 : Nat) "java/lang/IndexOutOfBoundsException") ∈ lw_all := lw_g (lw_at lw_m2 214 rfl) rfl
theorem q584 : (Jvm.Cond.classLink "CensusOfficeLaw" (27 : Nat) "java/lang/IllegalStateException") ∈ lw_all := lw_g (lw_at lw_m2 238 rfl) rfl
theorem q585 : (Jvm.Cond.methodLink "CensusOfficeLaw" (21 : Nat) ({ cls := "CensusOffice", name := "tell", desc := "(IIII)I" } : Jvm.MethodName)) ∈ lw_all := lw_g (lw_at lw_m2 239 rfl) rfl
theorem q638 : (Jvm.Cond.methodLink "CensusOfficeLaw" (162 : Nat) ({ cls := "CensusOfficeLaw", name := "merge", desc := "(LCensusOffice;II[J)I" } : Jvm.MethodName)) ∈ lw_all := lw_g (lw_at lw_m3 52 rfl) rfl
theorem q639 : (Jvm.Cond.static ({ cls := "CensusOfficeLaw", name := "merge", desc := "(LCensusOffice;II[J)I" } : Jvm.MethodName)) ∈ lw_all := lw_g (lw_at lw_m3 53 rfl) rfl
theorem q640 : (Jvm.Cond.codeWith ({ cls := "CensusOfficeLaw", name := "merge", desc := "(LCensusOffice;II[J)I" } : Jvm.MethodName) method_6_code (5 : Nat) (Option.some Jvm.ClassFile.FieldType.int) [((0 : Nat), (10 : Nat), (13 : Nat), (25 : Nat)), ((0 : Nat), (10 : Nat), (17 : Nat), (27 : Nat))]) ∈ lw_all := lw_g (lw_at lw_m3 54 rfl) rfl
theorem q641 : (Jvm.Cond.methodLink "CensusOfficeLaw" (29 : Nat) ({ cls := "CensusOffice", name := "merge", desc := "(II)I" } : Jvm.MethodName)) ∈ lw_all := lw_g (lw_at lw_m3 55 rfl) rfl
theorem q650 : (Jvm.Cond.methodLink "CensusOfficeLaw" (166 : Nat) ({ cls := "CensusOfficeLaw", name := "value", desc := "(LCensusOffice;IIII[J)I" } : Jvm.MethodName)) ∈ lw_all := lw_g (lw_at lw_m3 64 rfl) rfl
theorem q651 : (Jvm.Cond.static ({ cls := "CensusOfficeLaw", name := "value", desc := "(LCensusOffice;IIII[J)I" } : Jvm.MethodName)) ∈ lw_all := lw_g (lw_at lw_m3 65 rfl) rfl
theorem q652 : (Jvm.Cond.codeWith ({ cls := "CensusOfficeLaw", name := "value", desc := "(LCensusOffice;IIII[J)I" } : Jvm.MethodName) method_7_code (7 : Nat) (Option.some Jvm.ClassFile.FieldType.int) [((0 : Nat), (14 : Nat), (17 : Nat), (25 : Nat)), ((0 : Nat), (14 : Nat), (21 : Nat), (13 : Nat))]) ∈ lw_all := lw_g (lw_at lw_m3 66 rfl) rfl
theorem q653 : (Jvm.Cond.methodLink "CensusOfficeLaw" (33 : Nat) ({ cls := "CensusOffice", name := "value", desc := "(IIII)I" } : Jvm.MethodName)) ∈ lw_all := lw_g (lw_at lw_m3 67 rfl) rfl
theorem q662 : (Jvm.Cond.methodLink "CensusOfficeLaw" (169 : Nat) ({ cls := "CensusOfficeLaw", name := "last", desc := "(LCensusOffice;I[J)I" } : Jvm.MethodName)) ∈ lw_all := lw_g (lw_at lw_m3 76 rfl) rfl
theorem q663 : (Jvm.Cond.static ({ cls := "CensusOfficeLaw", name := "last", desc := "(LCensusOffice;I[J)I" } : Jvm.MethodName)) ∈ lw_all := lw_g (lw_at lw_m3 77 rfl) rfl
theorem q664 : (Jvm.Cond.codeWith ({ cls := "CensusOfficeLaw", name := "last", desc := "(LCensusOffice;I[J)I" } : Jvm.MethodName) method_8_code (4 : Nat) (Option.some Jvm.ClassFile.FieldType.int) [((0 : Nat), (9 : Nat), (12 : Nat), (25 : Nat))]) ∈ lw_all := lw_g (lw_at lw_m3 78 rfl) rfl
theorem q665 : (Jvm.Cond.methodLink "CensusOfficeLaw" (36 : Nat) ({ cls := "CensusOffice", name := "last", desc := "(I)I" } : Jvm.MethodName)) ∈ lw_all := lw_g (lw_at lw_m3 79 rfl) rfl
theorem q669 : (Jvm.Cond.methodLink "CensusOfficeLaw" (172 : Nat) ({ cls := "CensusOfficeLaw", name := "feed", desc := "(LCensusOffice;IIIII[J)I" } : Jvm.MethodName)) ∈ lw_all := lw_g (lw_at lw_m3 83 rfl) rfl
theorem q670 : (Jvm.Cond.static ({ cls := "CensusOfficeLaw", name := "feed", desc := "(LCensusOffice;IIIII[J)I" } : Jvm.MethodName)) ∈ lw_all := lw_g (lw_at lw_m3 84 rfl) rfl
theorem q671 : (Jvm.Cond.codeWith ({ cls := "CensusOfficeLaw", name := "feed", desc := "(LCensusOffice;IIIII[J)I" } : Jvm.MethodName) method_9_code (8 : Nat) (Option.some Jvm.ClassFile.FieldType.int) [((0 : Nat), (16 : Nat), (19 : Nat), (19 : Nat))]) ∈ lw_all := lw_g (lw_at lw_m3 85 rfl) rfl
theorem q672 : (Jvm.Cond.methodLink "CensusOfficeLaw" (39 : Nat) ({ cls := "CensusOffice", name := "feed", desc := "(IIIII)I" } : Jvm.MethodName)) ∈ lw_all := lw_g (lw_at lw_m3 86 rfl) rfl
theorem q676 : (Jvm.Cond.methodLink "CensusOfficeLaw" (176 : Nat) ({ cls := "CensusOfficeLaw", name := "trim", desc := "(LCensusOffice;I[J)I" } : Jvm.MethodName)) ∈ lw_all := lw_g (lw_at lw_m3 90 rfl) rfl
theorem q677 : (Jvm.Cond.static ({ cls := "CensusOfficeLaw", name := "trim", desc := "(LCensusOffice;I[J)I" } : Jvm.MethodName)) ∈ lw_all := lw_g (lw_at lw_m3 91 rfl) rfl
theorem q678 : (Jvm.Cond.codeWith ({ cls := "CensusOfficeLaw", name := "trim", desc := "(LCensusOffice;I[J)I" } : Jvm.MethodName) method_10_code (4 : Nat) (Option.some Jvm.ClassFile.FieldType.int) [((0 : Nat), (9 : Nat), (12 : Nat), (13 : Nat))]) ∈ lw_all := lw_g (lw_at lw_m3 92 rfl) rfl
theorem q679 : (Jvm.Cond.methodLink "CensusOfficeLaw" (43 : Nat) ({ cls := "CensusOffice", name := "trim", desc := "(I)I" } : Jvm.MethodName)) ∈ lw_all := lw_g (lw_at lw_m3 93 rfl) rfl
theorem q683 : (Jvm.Cond.methodLink "CensusOfficeLaw" (179 : Nat) ({ cls := "CensusOfficeLaw", name := "form", desc := "(LCensusOffice;[J)I" } : Jvm.MethodName)) ∈ lw_all := lw_g (lw_at lw_m3 97 rfl) rfl
theorem q684 : (Jvm.Cond.static ({ cls := "CensusOfficeLaw", name := "form", desc := "(LCensusOffice;[J)I" } : Jvm.MethodName)) ∈ lw_all := lw_g (lw_at lw_m3 98 rfl) rfl
theorem q685 : (Jvm.Cond.codeWith ({ cls := "CensusOfficeLaw", name := "form", desc := "(LCensusOffice;[J)I" } : Jvm.MethodName) method_11_code (3 : Nat) (Option.some Jvm.ClassFile.FieldType.int) [((0 : Nat), (8 : Nat), (11 : Nat), (19 : Nat))]) ∈ lw_all := lw_g (lw_at lw_m3 99 rfl) rfl
theorem q686 : (Jvm.Cond.methodLink "CensusOfficeLaw" (46 : Nat) ({ cls := "CensusOffice", name := "form", desc := "()I" } : Jvm.MethodName)) ∈ lw_all := lw_g (lw_at lw_m3 100 rfl) rfl
theorem q900 : (Jvm.Cond.methodLink "CensusOfficeLaw" (182 : Nat) ({ cls := "CensusOfficeLaw", name := "statement", desc := "(LCensusOffice;III[J)I" } : Jvm.MethodName)) ∈ lw_all := lw_g (lw_at lw_m4 74 rfl) rfl
theorem q901 : (Jvm.Cond.static ({ cls := "CensusOfficeLaw", name := "statement", desc := "(LCensusOffice;III[J)I" } : Jvm.MethodName)) ∈ lw_all := lw_g (lw_at lw_m4 75 rfl) rfl
theorem q902 : (Jvm.Cond.codeWith ({ cls := "CensusOfficeLaw", name := "statement", desc := "(LCensusOffice;III[J)I" } : Jvm.MethodName) method_12_code (6 : Nat) (Option.some Jvm.ClassFile.FieldType.int) [((0 : Nat), (12 : Nat), (15 : Nat), (25 : Nat)), ((0 : Nat), (12 : Nat), (19 : Nat), (13 : Nat))]) ∈ lw_all := lw_g (lw_at lw_m4 76 rfl) rfl
theorem q903 : (Jvm.Cond.methodLink "CensusOfficeLaw" (49 : Nat) ({ cls := "CensusOffice", name := "statement", desc := "(III)I" } : Jvm.MethodName)) ∈ lw_all := lw_g (lw_at lw_m4 77 rfl) rfl
theorem q915 : (Jvm.Cond.methodLink "CensusOfficeLaw" (186 : Nat) ({ cls := "CensusOfficeLaw", name := "open", desc := "(LCensusOffice;II[J)I" } : Jvm.MethodName)) ∈ lw_all := lw_g (lw_at lw_m4 89 rfl) rfl
theorem q916 : (Jvm.Cond.static ({ cls := "CensusOfficeLaw", name := "open", desc := "(LCensusOffice;II[J)I" } : Jvm.MethodName)) ∈ lw_all := lw_g (lw_at lw_m4 90 rfl) rfl
theorem q917 : (Jvm.Cond.codeWith ({ cls := "CensusOfficeLaw", name := "open", desc := "(LCensusOffice;II[J)I" } : Jvm.MethodName) method_13_code (5 : Nat) (Option.some Jvm.ClassFile.FieldType.int) [((0 : Nat), (10 : Nat), (13 : Nat), (25 : Nat)), ((0 : Nat), (10 : Nat), (17 : Nat), (27 : Nat)), ((0 : Nat), (10 : Nat), (21 : Nat), (19 : Nat))]) ∈ lw_all := lw_g (lw_at lw_m4 91 rfl) rfl
theorem q918 : (Jvm.Cond.methodLink "CensusOfficeLaw" (53 : Nat) ({ cls := "CensusOffice", name := "open", desc := "(II)I" } : Jvm.MethodName)) ∈ lw_all := lw_g (lw_at lw_m4 92 rfl) rfl
theorem q999 : (Jvm.Cond.methodLink "CensusOfficeLaw" (189 : Nat) ({ cls := "CensusOfficeLaw", name := "question", desc := "(LCensusOffice;I[J)I" } : Jvm.MethodName)) ∈ lw_all := lw_g (lw_at lw_m4 173 rfl) rfl
theorem q1000 : (Jvm.Cond.static ({ cls := "CensusOfficeLaw", name := "question", desc := "(LCensusOffice;I[J)I" } : Jvm.MethodName)) ∈ lw_all := lw_g (lw_at lw_m4 174 rfl) rfl
theorem q1001 : (Jvm.Cond.codeWith ({ cls := "CensusOfficeLaw", name := "question", desc := "(LCensusOffice;I[J)I" } : Jvm.MethodName) method_14_code (4 : Nat) (Option.some Jvm.ClassFile.FieldType.int) [((0 : Nat), (9 : Nat), (12 : Nat), (25 : Nat))]) ∈ lw_all := lw_g (lw_at lw_m4 175 rfl) rfl
theorem q1002 : (Jvm.Cond.methodLink "CensusOfficeLaw" (56 : Nat) ({ cls := "CensusOffice", name := "question", desc := "(I)I" } : Jvm.MethodName)) ∈ lw_all := lw_g (lw_at lw_m4 176 rfl) rfl
theorem q1013 : (Jvm.Cond.methodLink "CensusOfficeLaw" (192 : Nat) ({ cls := "CensusOfficeLaw", name := "answer", desc := "(LCensusOffice;II[J)I" } : Jvm.MethodName)) ∈ lw_all := lw_g (lw_at lw_m4 187 rfl) rfl
theorem q1014 : (Jvm.Cond.static ({ cls := "CensusOfficeLaw", name := "answer", desc := "(LCensusOffice;II[J)I" } : Jvm.MethodName)) ∈ lw_all := lw_g (lw_at lw_m4 188 rfl) rfl
theorem q1015 : (Jvm.Cond.codeWith ({ cls := "CensusOfficeLaw", name := "answer", desc := "(LCensusOffice;II[J)I" } : Jvm.MethodName) method_15_code (5 : Nat) (Option.some Jvm.ClassFile.FieldType.int) [((0 : Nat), (10 : Nat), (13 : Nat), (25 : Nat)), ((0 : Nat), (10 : Nat), (17 : Nat), (27 : Nat)), ((0 : Nat), (10 : Nat), (21 : Nat), (13 : Nat))]) ∈ lw_all := lw_g (lw_at lw_m4 189 rfl) rfl
theorem q1016 : (Jvm.Cond.methodLink "CensusOfficeLaw" (59 : Nat) ({ cls := "CensusOffice", name := "answer", desc := "(II)I" } : Jvm.MethodName)) ∈ lw_all := lw_g (lw_at lw_m4 190 rfl) rfl
theorem q1040 : (Jvm.Cond.methodLink "CensusOfficeLaw" (195 : Nat) ({ cls := "CensusOfficeLaw", name := "back", desc := "(LCensusOffice;I[J)I" } : Jvm.MethodName)) ∈ lw_all := lw_g (lw_at lw_m4 214 rfl) rfl
theorem q1041 : (Jvm.Cond.static ({ cls := "CensusOfficeLaw", name := "back", desc := "(LCensusOffice;I[J)I" } : Jvm.MethodName)) ∈ lw_all := lw_g (lw_at lw_m4 215 rfl) rfl
theorem q1042 : (Jvm.Cond.codeWith ({ cls := "CensusOfficeLaw", name := "back", desc := "(LCensusOffice;I[J)I" } : Jvm.MethodName) method_16_code (4 : Nat) (Option.some Jvm.ClassFile.FieldType.int) [((0 : Nat), (9 : Nat), (12 : Nat), (25 : Nat)), ((0 : Nat), (9 : Nat), (15 : Nat), (27 : Nat))]) ∈ lw_all := lw_g (lw_at lw_m4 216 rfl) rfl
theorem q1043 : (Jvm.Cond.methodLink "CensusOfficeLaw" (62 : Nat) ({ cls := "CensusOffice", name := "back", desc := "(I)I" } : Jvm.MethodName)) ∈ lw_all := lw_g (lw_at lw_m4 217 rfl) rfl
theorem q1047 : (Jvm.Cond.methodLink "CensusOfficeLaw" (198 : Nat) ({ cls := "CensusOfficeLaw", name := "given", desc := "(LCensusOffice;IIZ[J)I" } : Jvm.MethodName)) ∈ lw_all := lw_g (lw_at lw_m4 221 rfl) rfl
theorem q1048 : (Jvm.Cond.static ({ cls := "CensusOfficeLaw", name := "given", desc := "(LCensusOffice;IIZ[J)I" } : Jvm.MethodName)) ∈ lw_all := lw_g (lw_at lw_m4 222 rfl) rfl
theorem q1049 : (Jvm.Cond.codeWith ({ cls := "CensusOfficeLaw", name := "given", desc := "(LCensusOffice;IIZ[J)I" } : Jvm.MethodName) method_17_code (6 : Nat) (Option.some Jvm.ClassFile.FieldType.int) [((0 : Nat), (12 : Nat), (15 : Nat), (25 : Nat))]) ∈ lw_all := lw_g (lw_at lw_m4 223 rfl) rfl
theorem q1050 : (Jvm.Cond.methodLink "CensusOfficeLaw" (65 : Nat) ({ cls := "CensusOffice", name := "given", desc := "(IIZ)I" } : Jvm.MethodName)) ∈ lw_all := lw_g (lw_at lw_m4 224 rfl) rfl
theorem q1054 : (Jvm.Cond.methodLink "CensusOfficeLaw" (202 : Nat) ({ cls := "CensusOfficeLaw", name := "close", desc := "(LCensusOffice;I[J)I" } : Jvm.MethodName)) ∈ lw_all := lw_g (lw_at lw_m4 228 rfl) rfl
theorem q1055 : (Jvm.Cond.static ({ cls := "CensusOfficeLaw", name := "close", desc := "(LCensusOffice;I[J)I" } : Jvm.MethodName)) ∈ lw_all := lw_g (lw_at lw_m4 229 rfl) rfl
theorem q1056 : (Jvm.Cond.codeWith ({ cls := "CensusOfficeLaw", name := "close", desc := "(LCensusOffice;I[J)I" } : Jvm.MethodName) method_18_code (4 : Nat) (Option.some Jvm.ClassFile.FieldType.int) [((0 : Nat), (9 : Nat), (12 : Nat), (25 : Nat)), ((0 : Nat), (9 : Nat), (15 : Nat), (27 : Nat))]) ∈ lw_all := lw_g (lw_at lw_m4 230 rfl) rfl
theorem q1057 : (Jvm.Cond.methodLink "CensusOfficeLaw" (69 : Nat) ({ cls := "CensusOffice", name := "close", desc := "(I)I" } : Jvm.MethodName)) ∈ lw_all := lw_g (lw_at lw_m4 231 rfl) rfl
theorem q1083 : (Jvm.Cond.methodLink "CensusOfficeLaw" (205 : Nat) ({ cls := "CensusOfficeLaw", name := "item", desc := "(LCensusOffice;II[J)I" } : Jvm.MethodName)) ∈ lw_all := lw_g (lw_at lw_m5 17 rfl) rfl
theorem q1084 : (Jvm.Cond.static ({ cls := "CensusOfficeLaw", name := "item", desc := "(LCensusOffice;II[J)I" } : Jvm.MethodName)) ∈ lw_all := lw_g (lw_at lw_m5 18 rfl) rfl
theorem q1085 : (Jvm.Cond.codeWith ({ cls := "CensusOfficeLaw", name := "item", desc := "(LCensusOffice;II[J)I" } : Jvm.MethodName) method_19_code (5 : Nat) (Option.some Jvm.ClassFile.FieldType.int) [((0 : Nat), (10 : Nat), (13 : Nat), (25 : Nat))]) ∈ lw_all := lw_g (lw_at lw_m5 19 rfl) rfl
theorem q1086 : (Jvm.Cond.methodLink "CensusOfficeLaw" (72 : Nat) ({ cls := "CensusOffice", name := "item", desc := "(II)I" } : Jvm.MethodName)) ∈ lw_all := lw_g (lw_at lw_m5 20 rfl) rfl
theorem q1094 : (Jvm.Cond.methodLink "CensusOfficeLaw" (208 : Nat) ({ cls := "CensusOfficeLaw", name := "mark", desc := "(LCensusOffice;II[J)I" } : Jvm.MethodName)) ∈ lw_all := lw_g (lw_at lw_m5 28 rfl) rfl
theorem q1095 : (Jvm.Cond.static ({ cls := "CensusOfficeLaw", name := "mark", desc := "(LCensusOffice;II[J)I" } : Jvm.MethodName)) ∈ lw_all := lw_g (lw_at lw_m5 29 rfl) rfl
theorem q1096 : (Jvm.Cond.codeWith ({ cls := "CensusOfficeLaw", name := "mark", desc := "(LCensusOffice;II[J)I" } : Jvm.MethodName) method_20_code (5 : Nat) (Option.some Jvm.ClassFile.FieldType.int) [((0 : Nat), (10 : Nat), (13 : Nat), (25 : Nat))]) ∈ lw_all := lw_g (lw_at lw_m5 30 rfl) rfl
theorem q1097 : (Jvm.Cond.methodLink "CensusOfficeLaw" (75 : Nat) ({ cls := "CensusOffice", name := "mark", desc := "(II)I" } : Jvm.MethodName)) ∈ lw_all := lw_g (lw_at lw_m5 31 rfl) rfl
theorem q1101 : (Jvm.Cond.methodLink "CensusOfficeLaw" (211 : Nat) ({ cls := "CensusOfficeLaw", name := "rule", desc := "(LCensusOffice;IIII[J)I" } : Jvm.MethodName)) ∈ lw_all := lw_g (lw_at lw_m5 35 rfl) rfl
theorem q1102 : (Jvm.Cond.static ({ cls := "CensusOfficeLaw", name := "rule", desc := "(LCensusOffice;IIII[J)I" } : Jvm.MethodName)) ∈ lw_all := lw_g (lw_at lw_m5 36 rfl) rfl
theorem q1103 : (Jvm.Cond.codeWith ({ cls := "CensusOfficeLaw", name := "rule", desc := "(LCensusOffice;IIII[J)I" } : Jvm.MethodName) method_21_code (7 : Nat) (Option.some Jvm.ClassFile.FieldType.int) [((0 : Nat), (14 : Nat), (17 : Nat), (25 : Nat)), ((0 : Nat), (14 : Nat), (21 : Nat), (13 : Nat)), ((0 : Nat), (14 : Nat), (25 : Nat), (19 : Nat))]) ∈ lw_all := lw_g (lw_at lw_m5 37 rfl) rfl
theorem q1104 : (Jvm.Cond.methodLink "CensusOfficeLaw" (78 : Nat) ({ cls := "CensusOffice", name := "rule", desc := "(IIII)I" } : Jvm.MethodName)) ∈ lw_all := lw_g (lw_at lw_m5 38 rfl) rfl
theorem q1118 : (Jvm.Cond.methodLink "CensusOfficeLaw" (214 : Nat) ({ cls := "CensusOfficeLaw", name := "cost", desc := "(LCensusOffice;III[J)I" } : Jvm.MethodName)) ∈ lw_all := lw_g (lw_at lw_m5 52 rfl) rfl
theorem q1119 : (Jvm.Cond.static ({ cls := "CensusOfficeLaw", name := "cost", desc := "(LCensusOffice;III[J)I" } : Jvm.MethodName)) ∈ lw_all := lw_g (lw_at lw_m5 53 rfl) rfl
theorem q1120 : (Jvm.Cond.codeWith ({ cls := "CensusOfficeLaw", name := "cost", desc := "(LCensusOffice;III[J)I" } : Jvm.MethodName) method_22_code (6 : Nat) (Option.some Jvm.ClassFile.FieldType.int) [((0 : Nat), (12 : Nat), (15 : Nat), (25 : Nat)), ((0 : Nat), (12 : Nat), (19 : Nat), (13 : Nat))]) ∈ lw_all := lw_g (lw_at lw_m5 54 rfl) rfl
theorem q1121 : (Jvm.Cond.methodLink "CensusOfficeLaw" (81 : Nat) ({ cls := "CensusOffice", name := "cost", desc := "(III)I" } : Jvm.MethodName)) ∈ lw_all := lw_g (lw_at lw_m5 55 rfl) rfl
theorem q1126 : (Jvm.Cond.methodLink "CensusOfficeLaw" (217 : Nat) ({ cls := "CensusOfficeLaw", name := "broken", desc := "(LCensusOffice;II[J)I" } : Jvm.MethodName)) ∈ lw_all := lw_g (lw_at lw_m5 60 rfl) rfl
theorem q1127 : (Jvm.Cond.static ({ cls := "CensusOfficeLaw", name := "broken", desc := "(LCensusOffice;II[J)I" } : Jvm.MethodName)) ∈ lw_all := lw_g (lw_at lw_m5 61 rfl) rfl
theorem q1128 : (Jvm.Cond.codeWith ({ cls := "CensusOfficeLaw", name := "broken", desc := "(LCensusOffice;II[J)I" } : Jvm.MethodName) method_23_code (5 : Nat) (Option.some Jvm.ClassFile.FieldType.int) [((0 : Nat), (10 : Nat), (13 : Nat), (25 : Nat))]) ∈ lw_all := lw_g (lw_at lw_m5 62 rfl) rfl
theorem q1129 : (Jvm.Cond.methodLink "CensusOfficeLaw" (84 : Nat) ({ cls := "CensusOffice", name := "broken", desc := "(II)I" } : Jvm.MethodName)) ∈ lw_all := lw_g (lw_at lw_m5 63 rfl) rfl
theorem q1139 : (Jvm.Cond.methodLink "CensusOfficeLaw" (220 : Nat) ({ cls := "CensusOfficeLaw", name := "least", desc := "(LCensusOffice;IZ[J)I" } : Jvm.MethodName)) ∈ lw_all := lw_g (lw_at lw_m5 73 rfl) rfl
theorem q1140 : (Jvm.Cond.static ({ cls := "CensusOfficeLaw", name := "least", desc := "(LCensusOffice;IZ[J)I" } : Jvm.MethodName)) ∈ lw_all := lw_g (lw_at lw_m5 74 rfl) rfl
theorem q1141 : (Jvm.Cond.codeWith ({ cls := "CensusOfficeLaw", name := "least", desc := "(LCensusOffice;IZ[J)I" } : Jvm.MethodName) method_24_code (5 : Nat) (Option.some Jvm.ClassFile.FieldType.int) [((0 : Nat), (10 : Nat), (13 : Nat), (25 : Nat))]) ∈ lw_all := lw_g (lw_at lw_m5 75 rfl) rfl
theorem q1142 : (Jvm.Cond.methodLink "CensusOfficeLaw" (87 : Nat) ({ cls := "CensusOffice", name := "least", desc := "(IZ)I" } : Jvm.MethodName)) ∈ lw_all := lw_g (lw_at lw_m5 76 rfl) rfl
theorem q1173 : (Jvm.Cond.methodLink "CensusOfficeLaw" (224 : Nat) ({ cls := "CensusOfficeLaw", name := "impute", desc := "(LCensusOffice;II[J)I" } : Jvm.MethodName)) ∈ lw_all := lw_g (lw_at lw_m5 107 rfl) rfl
theorem q1174 : (Jvm.Cond.static ({ cls := "CensusOfficeLaw", name := "impute", desc := "(LCensusOffice;II[J)I" } : Jvm.MethodName)) ∈ lw_all := lw_g (lw_at lw_m5 108 rfl) rfl
theorem q1175 : (Jvm.Cond.codeWith ({ cls := "CensusOfficeLaw", name := "impute", desc := "(LCensusOffice;II[J)I" } : Jvm.MethodName) method_25_code (5 : Nat) (Option.some Jvm.ClassFile.FieldType.int) [((0 : Nat), (10 : Nat), (13 : Nat), (25 : Nat)), ((0 : Nat), (10 : Nat), (17 : Nat), (13 : Nat)), ((0 : Nat), (10 : Nat), (21 : Nat), (27 : Nat))]) ∈ lw_all := lw_g (lw_at lw_m5 109 rfl) rfl
theorem q1176 : (Jvm.Cond.methodLink "CensusOfficeLaw" (91 : Nat) ({ cls := "CensusOffice", name := "impute", desc := "(II)I" } : Jvm.MethodName)) ∈ lw_all := lw_g (lw_at lw_m5 110 rfl) rfl
theorem q1207 : (Jvm.Cond.methodLink "CensusOfficeLaw" (227 : Nat) ({ cls := "CensusOfficeLaw", name := "sample", desc := "(LCensusOffice;IIIIII[J)I" } : Jvm.MethodName)) ∈ lw_all := lw_g (lw_at lw_m5 141 rfl) rfl
theorem q1208 : (Jvm.Cond.static ({ cls := "CensusOfficeLaw", name := "sample", desc := "(LCensusOffice;IIIIII[J)I" } : Jvm.MethodName)) ∈ lw_all := lw_g (lw_at lw_m5 142 rfl) rfl
theorem q1209 : (Jvm.Cond.codeWith ({ cls := "CensusOfficeLaw", name := "sample", desc := "(LCensusOffice;IIIIII[J)I" } : Jvm.MethodName) method_26_code (9 : Nat) (Option.some Jvm.ClassFile.FieldType.int) [((0 : Nat), (18 : Nat), (21 : Nat), (25 : Nat)), ((0 : Nat), (18 : Nat), (25 : Nat), (13 : Nat)), ((0 : Nat), (18 : Nat), (29 : Nat), (19 : Nat))]) ∈ lw_all := lw_g (lw_at lw_m5 143 rfl) rfl
theorem q1210 : (Jvm.Cond.methodLink "CensusOfficeLaw" (94 : Nat) ({ cls := "CensusOffice", name := "sample", desc := "(IIIIII)I" } : Jvm.MethodName)) ∈ lw_all := lw_g (lw_at lw_m5 144 rfl) rfl
theorem q1250 : (Jvm.Cond.methodLink "CensusOfficeLaw" (231 : Nat) ({ cls := "CensusOfficeLaw", name := "drawn", desc := "(LCensusOffice;II[J)I" } : Jvm.MethodName)) ∈ lw_all := lw_g (lw_at lw_m5 184 rfl) rfl
theorem q1251 : (Jvm.Cond.static ({ cls := "CensusOfficeLaw", name := "drawn", desc := "(LCensusOffice;II[J)I" } : Jvm.MethodName)) ∈ lw_all := lw_g (lw_at lw_m5 185 rfl) rfl
theorem q1252 : (Jvm.Cond.codeWith ({ cls := "CensusOfficeLaw", name := "drawn", desc := "(LCensusOffice;II[J)I" } : Jvm.MethodName) method_27_code (5 : Nat) (Option.some Jvm.ClassFile.FieldType.int) [((0 : Nat), (10 : Nat), (13 : Nat), (25 : Nat))]) ∈ lw_all := lw_g (lw_at lw_m5 186 rfl) rfl
theorem q1253 : (Jvm.Cond.methodLink "CensusOfficeLaw" (98 : Nat) ({ cls := "CensusOffice", name := "drawn", desc := "(II)I" } : Jvm.MethodName)) ∈ lw_all := lw_g (lw_at lw_m5 187 rfl) rfl
theorem q1261 : (Jvm.Cond.methodLink "CensusOfficeLaw" (234 : Nat) ({ cls := "CensusOfficeLaw", name := "chance", desc := "(LCensusOffice;IIZ[J)I" } : Jvm.MethodName)) ∈ lw_all := lw_g (lw_at lw_m5 195 rfl) rfl
theorem q1262 : (Jvm.Cond.static ({ cls := "CensusOfficeLaw", name := "chance", desc := "(LCensusOffice;IIZ[J)I" } : Jvm.MethodName)) ∈ lw_all := lw_g (lw_at lw_m5 196 rfl) rfl
theorem q1263 : (Jvm.Cond.codeWith ({ cls := "CensusOfficeLaw", name := "chance", desc := "(LCensusOffice;IIZ[J)I" } : Jvm.MethodName) method_28_code (6 : Nat) (Option.some Jvm.ClassFile.FieldType.int) [((0 : Nat), (12 : Nat), (15 : Nat), (25 : Nat))]) ∈ lw_all := lw_g (lw_at lw_m5 197 rfl) rfl
theorem q1264 : (Jvm.Cond.methodLink "CensusOfficeLaw" (101 : Nat) ({ cls := "CensusOffice", name := "chance", desc := "(IIZ)I" } : Jvm.MethodName)) ∈ lw_all := lw_g (lw_at lw_m5 198 rfl) rfl
theorem q1268 : (Jvm.Cond.methodLink "CensusOfficeLaw" (237 : Nat) ({ cls := "CensusOfficeLaw", name := "overlap", desc := "(LCensusOffice;II[J)I" } : Jvm.MethodName)) ∈ lw_all := lw_g (lw_at lw_m5 202 rfl) rfl
theorem q1269 : (Jvm.Cond.static ({ cls := "CensusOfficeLaw", name := "overlap", desc := "(LCensusOffice;II[J)I" } : Jvm.MethodName)) ∈ lw_all := lw_g (lw_at lw_m5 203 rfl) rfl
theorem q1270 : (Jvm.Cond.codeWith ({ cls := "CensusOfficeLaw", name := "overlap", desc := "(LCensusOffice;II[J)I" } : Jvm.MethodName) method_29_code (5 : Nat) (Option.some Jvm.ClassFile.FieldType.int) [((0 : Nat), (10 : Nat), (13 : Nat), (25 : Nat))]) ∈ lw_all := lw_g (lw_at lw_m5 204 rfl) rfl
theorem q1271 : (Jvm.Cond.methodLink "CensusOfficeLaw" (104 : Nat) ({ cls := "CensusOffice", name := "overlap", desc := "(II)I" } : Jvm.MethodName)) ∈ lw_all := lw_g (lw_at lw_m5 205 rfl) rfl
theorem q1275 : (Jvm.Cond.methodLink "CensusOfficeLaw" (240 : Nat) ({ cls := "CensusOfficeLaw", name := "table", desc := "(LCensusOffice;IIIII[J)I" } : Jvm.MethodName)) ∈ lw_all := lw_g (lw_at lw_m5 209 rfl) rfl
theorem q1276 : (Jvm.Cond.static ({ cls := "CensusOfficeLaw", name := "table", desc := "(LCensusOffice;IIIII[J)I" } : Jvm.MethodName)) ∈ lw_all := lw_g (lw_at lw_m5 210 rfl) rfl
theorem q1277 : (Jvm.Cond.codeWith ({ cls := "CensusOfficeLaw", name := "table", desc := "(LCensusOffice;IIIII[J)I" } : Jvm.MethodName) method_30_code (8 : Nat) (Option.some Jvm.ClassFile.FieldType.int) [((0 : Nat), (16 : Nat), (19 : Nat), (25 : Nat)), ((0 : Nat), (16 : Nat), (23 : Nat), (13 : Nat)), ((0 : Nat), (16 : Nat), (27 : Nat), (19 : Nat))]) ∈ lw_all := lw_g (lw_at lw_m5 211 rfl) rfl
theorem q1278 : (Jvm.Cond.methodLink "CensusOfficeLaw" (107 : Nat) ({ cls := "CensusOffice", name := "table", desc := "(IIIII)I" } : Jvm.MethodName)) ∈ lw_all := lw_g (lw_at lw_m5 212 rfl) rfl
theorem q1327 : (Jvm.Cond.methodLink "CensusOfficeLaw" (243 : Nat) ({ cls := "CensusOfficeLaw", name := "cell", desc := "(LCensusOffice;IIII[J)I" } : Jvm.MethodName)) ∈ lw_all := lw_g (lw_at lw_m6 21 rfl) rfl
theorem q1328 : (Jvm.Cond.static ({ cls := "CensusOfficeLaw", name := "cell", desc := "(LCensusOffice;IIII[J)I" } : Jvm.MethodName)) ∈ lw_all := lw_g (lw_at lw_m6 22 rfl) rfl
theorem q1329 : (Jvm.Cond.codeWith ({ cls := "CensusOfficeLaw", name := "cell", desc := "(LCensusOffice;IIII[J)I" } : Jvm.MethodName) method_31_code (7 : Nat) (Option.some Jvm.ClassFile.FieldType.int) [((0 : Nat), (14 : Nat), (17 : Nat), (25 : Nat)), ((0 : Nat), (14 : Nat), (21 : Nat), (13 : Nat))]) ∈ lw_all := lw_g (lw_at lw_m6 23 rfl) rfl
theorem q1330 : (Jvm.Cond.methodLink "CensusOfficeLaw" (110 : Nat) ({ cls := "CensusOffice", name := "cell", desc := "(IIII)I" } : Jvm.MethodName)) ∈ lw_all := lw_g (lw_at lw_m6 24 rfl) rfl
theorem q1348 : (Jvm.Cond.methodLink "CensusOfficeLaw" (246 : Nat) ({ cls := "CensusOfficeLaw", name := "secrecy", desc := "(LCensusOffice;IIII[J)I" } : Jvm.MethodName)) ∈ lw_all := lw_g (lw_at lw_m6 42 rfl) rfl
theorem q1349 : (Jvm.Cond.static ({ cls := "CensusOfficeLaw", name := "secrecy", desc := "(LCensusOffice;IIII[J)I" } : Jvm.MethodName)) ∈ lw_all := lw_g (lw_at lw_m6 43 rfl) rfl
theorem q1350 : (Jvm.Cond.codeWith ({ cls := "CensusOfficeLaw", name := "secrecy", desc := "(LCensusOffice;IIII[J)I" } : Jvm.MethodName) method_32_code (7 : Nat) (Option.some Jvm.ClassFile.FieldType.int) [((0 : Nat), (14 : Nat), (17 : Nat), (25 : Nat)), ((0 : Nat), (14 : Nat), (21 : Nat), (13 : Nat))]) ∈ lw_all := lw_g (lw_at lw_m6 44 rfl) rfl
theorem q1351 : (Jvm.Cond.methodLink "CensusOfficeLaw" (113 : Nat) ({ cls := "CensusOffice", name := "secrecy", desc := "(IIII)I" } : Jvm.MethodName)) ∈ lw_all := lw_g (lw_at lw_m6 45 rfl) rfl
theorem q1388 : (Jvm.Cond.methodLink "CensusOfficeLaw" (249 : Nat) ({ cls := "CensusOfficeLaw", name := "secret", desc := "(LCensusOffice;III[J)I" } : Jvm.MethodName)) ∈ lw_all := lw_g (lw_at lw_m6 82 rfl) rfl
theorem q1389 : (Jvm.Cond.static ({ cls := "CensusOfficeLaw", name := "secret", desc := "(LCensusOffice;III[J)I" } : Jvm.MethodName)) ∈ lw_all := lw_g (lw_at lw_m6 83 rfl) rfl
theorem q1390 : (Jvm.Cond.codeWith ({ cls := "CensusOfficeLaw", name := "secret", desc := "(LCensusOffice;III[J)I" } : Jvm.MethodName) method_33_code (6 : Nat) (Option.some Jvm.ClassFile.FieldType.int) [((0 : Nat), (12 : Nat), (15 : Nat), (25 : Nat))]) ∈ lw_all := lw_g (lw_at lw_m6 84 rfl) rfl
theorem q1391 : (Jvm.Cond.methodLink "CensusOfficeLaw" (116 : Nat) ({ cls := "CensusOffice", name := "secret", desc := "(III)I" } : Jvm.MethodName)) ∈ lw_all := lw_g (lw_at lw_m6 85 rfl) rfl
theorem q1399 : (Jvm.Cond.methodLink "CensusOfficeLaw" (252 : Nat) ({ cls := "CensusOfficeLaw", name := "interval", desc := "(LCensusOffice;IIIZ[J)I" } : Jvm.MethodName)) ∈ lw_all := lw_g (lw_at lw_m6 93 rfl) rfl
theorem q1400 : (Jvm.Cond.static ({ cls := "CensusOfficeLaw", name := "interval", desc := "(LCensusOffice;IIIZ[J)I" } : Jvm.MethodName)) ∈ lw_all := lw_g (lw_at lw_m6 94 rfl) rfl
theorem q1401 : (Jvm.Cond.codeWith ({ cls := "CensusOfficeLaw", name := "interval", desc := "(LCensusOffice;IIIZ[J)I" } : Jvm.MethodName) method_34_code (7 : Nat) (Option.some Jvm.ClassFile.FieldType.int) [((0 : Nat), (14 : Nat), (17 : Nat), (25 : Nat))]) ∈ lw_all := lw_g (lw_at lw_m6 95 rfl) rfl
theorem q1402 : (Jvm.Cond.methodLink "CensusOfficeLaw" (119 : Nat) ({ cls := "CensusOffice", name := "interval", desc := "(IIIZ)I" } : Jvm.MethodName)) ∈ lw_all := lw_g (lw_at lw_m6 96 rfl) rfl
theorem q1410 : (Jvm.Cond.methodLink "CensusOfficeLaw" (256 : Nat) ({ cls := "CensusOfficeLaw", name := "round", desc := "(LCensusOffice;II[J)I" } : Jvm.MethodName)) ∈ lw_all := lw_g (lw_at lw_m6 104 rfl) rfl
theorem q1411 : (Jvm.Cond.static ({ cls := "CensusOfficeLaw", name := "round", desc := "(LCensusOffice;II[J)I" } : Jvm.MethodName)) ∈ lw_all := lw_g (lw_at lw_m6 105 rfl) rfl
theorem q1412 : (Jvm.Cond.codeWith ({ cls := "CensusOfficeLaw", name := "round", desc := "(LCensusOffice;II[J)I" } : Jvm.MethodName) method_35_code (5 : Nat) (Option.some Jvm.ClassFile.FieldType.int) [((0 : Nat), (10 : Nat), (13 : Nat), (25 : Nat)), ((0 : Nat), (10 : Nat), (17 : Nat), (13 : Nat))]) ∈ lw_all := lw_g (lw_at lw_m6 106 rfl) rfl
theorem q1413 : (Jvm.Cond.methodLink "CensusOfficeLaw" (123 : Nat) ({ cls := "CensusOffice", name := "round", desc := "(II)I" } : Jvm.MethodName)) ∈ lw_all := lw_g (lw_at lw_m6 107 rfl) rfl
theorem q1430 : (Jvm.Cond.methodLink "CensusOfficeLaw" (259 : Nat) ({ cls := "CensusOfficeLaw", name := "person", desc := "(LCensusOffice;I[J)I" } : Jvm.MethodName)) ∈ lw_all := lw_g (lw_at lw_m6 124 rfl) rfl
theorem q1431 : (Jvm.Cond.static ({ cls := "CensusOfficeLaw", name := "person", desc := "(LCensusOffice;I[J)I" } : Jvm.MethodName)) ∈ lw_all := lw_g (lw_at lw_m6 125 rfl) rfl
theorem q1432 : (Jvm.Cond.codeWith ({ cls := "CensusOfficeLaw", name := "person", desc := "(LCensusOffice;I[J)I" } : Jvm.MethodName) method_36_code (4 : Nat) (Option.some Jvm.ClassFile.FieldType.int) [((0 : Nat), (9 : Nat), (12 : Nat), (13 : Nat)), ((0 : Nat), (9 : Nat), (15 : Nat), (19 : Nat))]) ∈ lw_all := lw_g (lw_at lw_m6 126 rfl) rfl
theorem q1433 : (Jvm.Cond.methodLink "CensusOfficeLaw" (126 : Nat) ({ cls := "CensusOffice", name := "person", desc := "(I)I" } : Jvm.MethodName)) ∈ lw_all := lw_g (lw_at lw_m6 127 rfl) rfl
theorem q1438 : (Jvm.Cond.methodLink "CensusOfficeLaw" (262 : Nat) ({ cls := "CensusOfficeLaw", name := "release", desc := "(LCensusOffice;III[J)I" } : Jvm.MethodName)) ∈ lw_all := lw_g (lw_at lw_m6 132 rfl) rfl
theorem q1439 : (Jvm.Cond.static ({ cls := "CensusOfficeLaw", name := "release", desc := "(LCensusOffice;III[J)I" } : Jvm.MethodName)) ∈ lw_all := lw_g (lw_at lw_m6 133 rfl) rfl
theorem q1440 : (Jvm.Cond.codeWith ({ cls := "CensusOfficeLaw", name := "release", desc := "(LCensusOffice;III[J)I" } : Jvm.MethodName) method_37_code (6 : Nat) (Option.some Jvm.ClassFile.FieldType.int) [((0 : Nat), (12 : Nat), (15 : Nat), (25 : Nat)), ((0 : Nat), (12 : Nat), (19 : Nat), (27 : Nat)), ((0 : Nat), (12 : Nat), (23 : Nat), (13 : Nat)), ((0 : Nat), (12 : Nat), (27 : Nat), (19 : Nat))]) ∈ lw_all := lw_g (lw_at lw_m6 134 rfl) rfl
theorem q1441 : (Jvm.Cond.methodLink "CensusOfficeLaw" (129 : Nat) ({ cls := "CensusOffice", name := "release", desc := "(III)I" } : Jvm.MethodName)) ∈ lw_all := lw_g (lw_at lw_m6 135 rfl) rfl
theorem q1475 : (Jvm.Cond.methodLink "CensusOfficeLaw" (265 : Nat) ({ cls := "CensusOfficeLaw", name := "look", desc := "(LCensusOffice;IIII[J)I" } : Jvm.MethodName)) ∈ lw_all := lw_g (lw_at lw_m6 169 rfl) rfl
theorem q1476 : (Jvm.Cond.static ({ cls := "CensusOfficeLaw", name := "look", desc := "(LCensusOffice;IIII[J)I" } : Jvm.MethodName)) ∈ lw_all := lw_g (lw_at lw_m6 170 rfl) rfl
theorem q1477 : (Jvm.Cond.codeWith ({ cls := "CensusOfficeLaw", name := "look", desc := "(LCensusOffice;IIII[J)I" } : Jvm.MethodName) method_38_code (7 : Nat) (Option.some Jvm.ClassFile.FieldType.int) [((0 : Nat), (14 : Nat), (17 : Nat), (25 : Nat)), ((0 : Nat), (14 : Nat), (21 : Nat), (19 : Nat))]) ∈ lw_all := lw_g (lw_at lw_m6 171 rfl) rfl
theorem q1478 : (Jvm.Cond.methodLink "CensusOfficeLaw" (132 : Nat) ({ cls := "CensusOffice", name := "look", desc := "(IIII)I" } : Jvm.MethodName)) ∈ lw_all := lw_g (lw_at lw_m6 172 rfl) rfl
theorem q1482 : (Jvm.Cond.methodLink "CensusOfficeLaw" (268 : Nat) ({ cls := "CensusOfficeLaw", name := "looked", desc := "(LCensusOffice;II[J)I" } : Jvm.MethodName)) ∈ lw_all := lw_g (lw_at lw_m6 176 rfl) rfl
theorem q1483 : (Jvm.Cond.static ({ cls := "CensusOfficeLaw", name := "looked", desc := "(LCensusOffice;II[J)I" } : Jvm.MethodName)) ∈ lw_all := lw_g (lw_at lw_m6 177 rfl) rfl
theorem q1484 : (Jvm.Cond.codeWith ({ cls := "CensusOfficeLaw", name := "looked", desc := "(LCensusOffice;II[J)I" } : Jvm.MethodName) method_39_code (5 : Nat) (Option.some Jvm.ClassFile.FieldType.int) [((0 : Nat), (10 : Nat), (13 : Nat), (25 : Nat)), ((0 : Nat), (10 : Nat), (17 : Nat), (13 : Nat))]) ∈ lw_all := lw_g (lw_at lw_m6 178 rfl) rfl
theorem q1485 : (Jvm.Cond.methodLink "CensusOfficeLaw" (135 : Nat) ({ cls := "CensusOffice", name := "looked", desc := "(II)I" } : Jvm.MethodName)) ∈ lw_all := lw_g (lw_at lw_m6 179 rfl) rfl
theorem q1489 : (Jvm.Cond.methodLink "CensusOfficeLaw" (271 : Nat) ({ cls := "CensusOfficeLaw", name := "told", desc := "(LCensusOffice;I[J)I" } : Jvm.MethodName)) ∈ lw_all := lw_g (lw_at lw_m6 183 rfl) rfl
theorem q1490 : (Jvm.Cond.static ({ cls := "CensusOfficeLaw", name := "told", desc := "(LCensusOffice;I[J)I" } : Jvm.MethodName)) ∈ lw_all := lw_g (lw_at lw_m6 184 rfl) rfl
theorem q1491 : (Jvm.Cond.codeWith ({ cls := "CensusOfficeLaw", name := "told", desc := "(LCensusOffice;I[J)I" } : Jvm.MethodName) method_40_code (4 : Nat) (Option.some Jvm.ClassFile.FieldType.int) [((0 : Nat), (9 : Nat), (12 : Nat), (13 : Nat))]) ∈ lw_all := lw_g (lw_at lw_m6 185 rfl) rfl
theorem q1492 : (Jvm.Cond.methodLink "CensusOfficeLaw" (138 : Nat) ({ cls := "CensusOffice", name := "told", desc := "(I)I" } : Jvm.MethodName)) ∈ lw_all := lw_g (lw_at lw_m6 186 rfl) rfl
theorem q1497 : (Jvm.Cond.classLink "CensusOfficeLaw" (142 : Nat) "CensusOfficeModel") ∈ lw_all := lw_g (lw_at lw_m6 191 rfl) rfl
theorem q1499 : (Jvm.Cond.methodLink "CensusOfficeLaw" (144 : Nat) ({ cls := "CensusOfficeModel", name := "<init>", desc := "()V" } : Jvm.MethodName)) ∈ lw_all := lw_g (lw_at lw_m6 193 rfl) rfl
theorem q1777 : (Jvm.Cond.methodLink "CensusOfficeLaw" (151 : Nat) ({ cls := "CensusOfficeModel", name := "thrown", desc := "()I" } : Jvm.MethodName)) ∈ lw_all := lw_g (lw_at lw_m7 231 rfl) rfl
theorem q1781 : (Jvm.Cond.methodLink "CensusOfficeLaw" (150 : Nat) ({ cls := "CensusOfficeModel", name := "tick", desc := "(I)I" } : Jvm.MethodName)) ∈ lw_all := lw_g (lw_at lw_m7 235 rfl) rfl
theorem q1794 : (Jvm.Cond.methodLink "CensusOfficeLaw" (157 : Nat) ({ cls := "CensusOfficeModel", name := "unit", desc := "()I" } : Jvm.MethodName)) ∈ lw_all := lw_g (lw_at lw_m8 8 rfl) rfl
theorem q1798 : (Jvm.Cond.methodLink "CensusOfficeLaw" (161 : Nat) ({ cls := "CensusOfficeModel", name := "tell", desc := "(IIII)I" } : Jvm.MethodName)) ∈ lw_all := lw_g (lw_at lw_m8 12 rfl) rfl
theorem q1813 : (Jvm.Cond.methodLink "CensusOfficeLaw" (165 : Nat) ({ cls := "CensusOfficeModel", name := "merge", desc := "(II)I" } : Jvm.MethodName)) ∈ lw_all := lw_g (lw_at lw_m8 27 rfl) rfl
theorem q1821 : (Jvm.Cond.methodLink "CensusOfficeLaw" (168 : Nat) ({ cls := "CensusOfficeModel", name := "value", desc := "(IIII)I" } : Jvm.MethodName)) ∈ lw_all := lw_g (lw_at lw_m8 35 rfl) rfl
theorem q1830 : (Jvm.Cond.methodLink "CensusOfficeLaw" (171 : Nat) ({ cls := "CensusOfficeModel", name := "last", desc := "(I)I" } : Jvm.MethodName)) ∈ lw_all := lw_g (lw_at lw_m8 44 rfl) rfl
theorem q1834 : (Jvm.Cond.methodLink "CensusOfficeLaw" (175 : Nat) ({ cls := "CensusOfficeModel", name := "feed", desc := "(IIIII)I" } : Jvm.MethodName)) ∈ lw_all := lw_g (lw_at lw_m8 48 rfl) rfl
theorem q1838 : (Jvm.Cond.methodLink "CensusOfficeLaw" (178 : Nat) ({ cls := "CensusOfficeModel", name := "trim", desc := "(I)I" } : Jvm.MethodName)) ∈ lw_all := lw_g (lw_at lw_m8 52 rfl) rfl
theorem q1842 : (Jvm.Cond.methodLink "CensusOfficeLaw" (181 : Nat) ({ cls := "CensusOfficeModel", name := "form", desc := "()I" } : Jvm.MethodName)) ∈ lw_all := lw_g (lw_at lw_m8 56 rfl) rfl
theorem q1912 : (Jvm.Cond.methodLink "CensusOfficeLaw" (185 : Nat) ({ cls := "CensusOfficeModel", name := "statement", desc := "(III)I" } : Jvm.MethodName)) ∈ lw_all := lw_g (lw_at lw_m8 126 rfl) rfl
theorem q1925 : (Jvm.Cond.methodLink "CensusOfficeLaw" (188 : Nat) ({ cls := "CensusOfficeModel", name := "open", desc := "(II)I" } : Jvm.MethodName)) ∈ lw_all := lw_g (lw_at lw_m8 139 rfl) rfl
theorem q1929 : (Jvm.Cond.methodLink "CensusOfficeLaw" (191 : Nat) ({ cls := "CensusOfficeModel", name := "question", desc := "(I)I" } : Jvm.MethodName)) ∈ lw_all := lw_g (lw_at lw_m8 143 rfl) rfl
theorem q1953 : (Jvm.Cond.methodLink "CensusOfficeLaw" (194 : Nat) ({ cls := "CensusOfficeModel", name := "answer", desc := "(II)I" } : Jvm.MethodName)) ∈ lw_all := lw_g (lw_at lw_m8 167 rfl) rfl
theorem q1965 : (Jvm.Cond.methodLink "CensusOfficeLaw" (197 : Nat) ({ cls := "CensusOfficeModel", name := "back", desc := "(I)I" } : Jvm.MethodName)) ∈ lw_all := lw_g (lw_at lw_m8 179 rfl) rfl
theorem q1969 : (Jvm.Cond.methodLink "CensusOfficeLaw" (201 : Nat) ({ cls := "CensusOfficeModel", name := "given", desc := "(IIZ)I" } : Jvm.MethodName)) ∈ lw_all := lw_g (lw_at lw_m8 183 rfl) rfl
theorem q1973 : (Jvm.Cond.methodLink "CensusOfficeLaw" (204 : Nat) ({ cls := "CensusOfficeModel", name := "close", desc := "(I)I" } : Jvm.MethodName)) ∈ lw_all := lw_g (lw_at lw_m8 187 rfl) rfl
theorem q1977 : (Jvm.Cond.methodLink "CensusOfficeLaw" (207 : Nat) ({ cls := "CensusOfficeModel", name := "item", desc := "(II)I" } : Jvm.MethodName)) ∈ lw_all := lw_g (lw_at lw_m8 191 rfl) rfl
theorem q1989 : (Jvm.Cond.methodLink "CensusOfficeLaw" (210 : Nat) ({ cls := "CensusOfficeModel", name := "mark", desc := "(II)I" } : Jvm.MethodName)) ∈ lw_all := lw_g (lw_at lw_m8 203 rfl) rfl
theorem q1993 : (Jvm.Cond.methodLink "CensusOfficeLaw" (213 : Nat) ({ cls := "CensusOfficeModel", name := "rule", desc := "(IIII)I" } : Jvm.MethodName)) ∈ lw_all := lw_g (lw_at lw_m8 207 rfl) rfl
theorem q2003 : (Jvm.Cond.methodLink "CensusOfficeLaw" (216 : Nat) ({ cls := "CensusOfficeModel", name := "cost", desc := "(III)I" } : Jvm.MethodName)) ∈ lw_all := lw_g (lw_at lw_m8 217 rfl) rfl
theorem q2008 : (Jvm.Cond.methodLink "CensusOfficeLaw" (219 : Nat) ({ cls := "CensusOfficeModel", name := "broken", desc := "(II)I" } : Jvm.MethodName)) ∈ lw_all := lw_g (lw_at lw_m8 222 rfl) rfl
theorem q2016 : (Jvm.Cond.methodLink "CensusOfficeLaw" (223 : Nat) ({ cls := "CensusOfficeModel", name := "least", desc := "(IZ)I" } : Jvm.MethodName)) ∈ lw_all := lw_g (lw_at lw_m8 230 rfl) rfl
theorem q2032 : (Jvm.Cond.methodLink "CensusOfficeLaw" (226 : Nat) ({ cls := "CensusOfficeModel", name := "impute", desc := "(II)I" } : Jvm.MethodName)) ∈ lw_all := lw_g (lw_at lw_m9 6 rfl) rfl
theorem q2052 : (Jvm.Cond.methodLink "CensusOfficeLaw" (230 : Nat) ({ cls := "CensusOfficeModel", name := "sample", desc := "(IIIIII)I" } : Jvm.MethodName)) ∈ lw_all := lw_g (lw_at lw_m9 26 rfl) rfl
theorem q2070 : (Jvm.Cond.methodLink "CensusOfficeLaw" (233 : Nat) ({ cls := "CensusOfficeModel", name := "drawn", desc := "(II)I" } : Jvm.MethodName)) ∈ lw_all := lw_g (lw_at lw_m9 44 rfl) rfl
theorem q2078 : (Jvm.Cond.methodLink "CensusOfficeLaw" (236 : Nat) ({ cls := "CensusOfficeModel", name := "chance", desc := "(IIZ)I" } : Jvm.MethodName)) ∈ lw_all := lw_g (lw_at lw_m9 52 rfl) rfl
theorem q2085 : (Jvm.Cond.methodLink "CensusOfficeLaw" (239 : Nat) ({ cls := "CensusOfficeModel", name := "overlap", desc := "(II)I" } : Jvm.MethodName)) ∈ lw_all := lw_g (lw_at lw_m9 59 rfl) rfl
theorem q2089 : (Jvm.Cond.methodLink "CensusOfficeLaw" (242 : Nat) ({ cls := "CensusOfficeModel", name := "table", desc := "(IIIII)I" } : Jvm.MethodName)) ∈ lw_all := lw_g (lw_at lw_m9 63 rfl) rfl
theorem q2093 : (Jvm.Cond.methodLink "CensusOfficeLaw" (245 : Nat) ({ cls := "CensusOfficeModel", name := "cell", desc := "(IIII)I" } : Jvm.MethodName)) ∈ lw_all := lw_g (lw_at lw_m9 67 rfl) rfl
theorem q2105 : (Jvm.Cond.methodLink "CensusOfficeLaw" (248 : Nat) ({ cls := "CensusOfficeModel", name := "secrecy", desc := "(IIII)I" } : Jvm.MethodName)) ∈ lw_all := lw_g (lw_at lw_m9 79 rfl) rfl
theorem q2118 : (Jvm.Cond.methodLink "CensusOfficeLaw" (251 : Nat) ({ cls := "CensusOfficeModel", name := "secret", desc := "(III)I" } : Jvm.MethodName)) ∈ lw_all := lw_g (lw_at lw_m9 92 rfl) rfl
theorem q2126 : (Jvm.Cond.methodLink "CensusOfficeLaw" (255 : Nat) ({ cls := "CensusOfficeModel", name := "interval", desc := "(IIIZ)I" } : Jvm.MethodName)) ∈ lw_all := lw_g (lw_at lw_m9 100 rfl) rfl
theorem q2130 : (Jvm.Cond.methodLink "CensusOfficeLaw" (258 : Nat) ({ cls := "CensusOfficeModel", name := "round", desc := "(II)I" } : Jvm.MethodName)) ∈ lw_all := lw_g (lw_at lw_m9 104 rfl) rfl
theorem q2143 : (Jvm.Cond.methodLink "CensusOfficeLaw" (261 : Nat) ({ cls := "CensusOfficeModel", name := "person", desc := "(I)I" } : Jvm.MethodName)) ∈ lw_all := lw_g (lw_at lw_m9 117 rfl) rfl
theorem q2148 : (Jvm.Cond.methodLink "CensusOfficeLaw" (264 : Nat) ({ cls := "CensusOfficeModel", name := "release", desc := "(III)I" } : Jvm.MethodName)) ∈ lw_all := lw_g (lw_at lw_m9 122 rfl) rfl
theorem q2152 : (Jvm.Cond.methodLink "CensusOfficeLaw" (267 : Nat) ({ cls := "CensusOfficeModel", name := "look", desc := "(IIII)I" } : Jvm.MethodName)) ∈ lw_all := lw_g (lw_at lw_m9 126 rfl) rfl
theorem q2156 : (Jvm.Cond.methodLink "CensusOfficeLaw" (270 : Nat) ({ cls := "CensusOfficeModel", name := "looked", desc := "(II)I" } : Jvm.MethodName)) ∈ lw_all := lw_g (lw_at lw_m9 130 rfl) rfl
theorem q2160 : (Jvm.Cond.methodLink "CensusOfficeLaw" (273 : Nat) ({ cls := "CensusOfficeModel", name := "told", desc := "(I)I" } : Jvm.MethodName)) ∈ lw_all := lw_g (lw_at lw_m9 134 rfl) rfl
/-! the law's own entry -/
abbrev cL_law : ByteArray := code
theorem q142 : (Jvm.Cond.arrayOver (Jvm.ClassFile.FieldType.object "CensusOffice$Form")) ∈ lw_tbl := lw_at lw_m1 36 rfl
theorem q228 : (Jvm.Cond.arrayClass Jvm.ClassFile.FieldType.int) ∈ lw_all := lw_g (lw_at lw_m1 122 rfl) rfl
theorem q229 : (Jvm.Cond.arrayClass Jvm.ClassFile.FieldType.long) ∈ lw_all := lw_g (lw_at lw_m1 123 rfl) rfl
theorem q231 : (Jvm.Cond.arrayOver (Jvm.ClassFile.FieldType.object "CensusOffice$Session")) ∈ lw_tbl := lw_at lw_m1 125 rfl
theorem q233 : (Jvm.Cond.arrayOver (Jvm.ClassFile.FieldType.object "CensusOffice$Record")) ∈ lw_tbl := lw_at lw_m1 127 rfl
theorem q279 : (Jvm.Cond.arrayClass Jvm.ClassFile.FieldType.byte) ∈ lw_all := lw_g (lw_at lw_m1 173 rfl) rfl
theorem q281 : (Jvm.Cond.arrayOver (Jvm.ClassFile.FieldType.object "CensusOffice$Sample")) ∈ lw_tbl := lw_at lw_m1 175 rfl
theorem q302 : (Jvm.Cond.arrayOver (Jvm.ClassFile.FieldType.object "CensusOffice$Table")) ∈ lw_tbl := lw_at lw_m1 196 rfl
theorem q304 : (Jvm.Cond.arrayOver (Jvm.ClassFile.FieldType.object "CensusOffice$Release")) ∈ lw_tbl := lw_at lw_m1 198 rfl
theorem q978 : (Jvm.Cond.arrayClass Jvm.ClassFile.FieldType.boolean) ∈ lw_all := lw_g (lw_at lw_m4 152 rfl) rfl
