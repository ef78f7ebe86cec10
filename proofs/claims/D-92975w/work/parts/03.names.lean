/-! java/util/AbstractCollection -/
set_option maxRecDepth 100000
def RJ0 : String := "java/util/AbstractCollection"
abbrev cJ0_init : ByteArray := prog_30_method_1_code
def yJ0_init : MethodName := ⟨RJ0, "<init>", "()V"⟩
theorem dJ0_init_0 : decode cJ0_init 0 = .ok (.aload_n 0, 1) := by decide +kernel
theorem dJ0_init_1 : decode cJ0_init 1 = .ok (.invokespecial 1, 3) := by decide +kernel
theorem dJ0_init_4 : decode cJ0_init 4 = .ok (.return_, 1) := by decide +kernel
theorem q53 : (Jvm.Cond.initialized "java/util/AbstractCollection") ∈ lw_all := lw_g (lw_at lw_m1 3 rfl) rfl
theorem q106 : (Jvm.Cond.instanceMethod ({ cls := "java/util/AbstractCollection", name := "<init>", desc := "()V" } : Jvm.MethodName)) ∈ lw_all := lw_g (lw_at lw_m1 56 rfl) rfl
theorem q107 : (Jvm.Cond.code ({ cls := "java/util/AbstractCollection", name := "<init>", desc := "()V" } : Jvm.MethodName) prog_30_method_1_code (1 : Nat) (Option.none : Option Jvm.ClassFile.FieldType)) ∈ lw_all := lw_g (lw_at lw_m1 57 rfl) rfl
theorem q108 : (Jvm.Cond.methodLink "java/util/AbstractCollection" (1 : Nat) ({ cls := "java/lang/Object", name := "<init>", desc := "()V" } : Jvm.MethodName)) ∈ lw_all := lw_g (lw_at lw_m1 58 rfl) rfl

/-! java/util/AbstractList -/
set_option maxRecDepth 100000
def RJ1 : String := "java/util/AbstractList"
abbrev cJ1_init : ByteArray := prog_31_method_1_code
def yJ1_init : MethodName := ⟨RJ1, "<init>", "()V"⟩
def dkwJ1_init_0 : List UInt8 := [42, 183, 0, 1, 42, 3, 181, 0, 7, 177]
abbrev dktJ1_init_0 : List UInt8 := dkwJ1_init_0 ++ []
theorem dksJ1_init_0 : cJ1_init.data.toList.drop 0 = dktJ1_init_0 := by decide +kernel
theorem dJ1_init_0 : decode cJ1_init 0 = .ok (.aload_n 0, 1) := dk_42 (dk_at dksJ1_init_0 0 rfl rfl)
theorem dJ1_init_1 : decode cJ1_init 1 = .ok (.invokespecial 1, 3) := dk_183 0 1 (dk_at dksJ1_init_0 1 rfl rfl)
theorem dJ1_init_4 : decode cJ1_init 4 = .ok (.aload_n 0, 1) := dk_42 (dk_at dksJ1_init_0 4 rfl rfl)
theorem dJ1_init_5 : decode cJ1_init 5 = .ok (.iconst 0, 1) := dk_3 (dk_at dksJ1_init_0 5 rfl rfl)
theorem dJ1_init_6 : decode cJ1_init 6 = .ok (.putfield 7, 3) := dk_181 0 7 (dk_at dksJ1_init_0 6 rfl rfl)
theorem dJ1_init_9 : decode cJ1_init 9 = .ok (.return_, 1) := dk_177 (dk_at dksJ1_init_0 9 rfl rfl)
theorem q54 : (Jvm.Cond.initialized "java/util/AbstractList") ∈ lw_all := lw_g (lw_at lw_m1 4 rfl) rfl
theorem q103 : (Jvm.Cond.instanceMethod ({ cls := "java/util/AbstractList", name := "<init>", desc := "()V" } : Jvm.MethodName)) ∈ lw_all := lw_g (lw_at lw_m1 53 rfl) rfl
theorem q104 : (Jvm.Cond.code ({ cls := "java/util/AbstractList", name := "<init>", desc := "()V" } : Jvm.MethodName) prog_31_method_1_code (1 : Nat) (Option.none : Option Jvm.ClassFile.FieldType)) ∈ lw_all := lw_g (lw_at lw_m1 54 rfl) rfl
theorem q105 : (Jvm.Cond.methodLink "java/util/AbstractList" (1 : Nat) ({ cls := "java/util/AbstractCollection", name := "<init>", desc := "()V" } : Jvm.MethodName)) ∈ lw_all := lw_g (lw_at lw_m1 55 rfl) rfl
theorem q113 : (Jvm.Cond.fieldLink "java/util/AbstractList" (7 : Nat) "java/util/AbstractList" "modCount" "I") ∈ lw_all := lw_g (lw_at lw_m1 63 rfl) rfl
theorem q121 : (Jvm.Cond.soleField "java/util/AbstractList" "modCount") ∈ lw_all := lw_g (lw_at lw_m1 71 rfl) rfl

/-! java/lang/RuntimeException -/
set_option maxRecDepth 100000
def RJ10 : String := "java/lang/RuntimeException"
abbrev cJ10_init : ByteArray := prog_26_method_2_code
def yJ10_init : MethodName := ⟨RJ10, "<init>", "(Ljava/lang/String;)V"⟩
def dkwJ10_init_0 : List UInt8 := [42, 43, 183, 0, 7, 177]
abbrev dktJ10_init_0 : List UInt8 := dkwJ10_init_0 ++ []
theorem dksJ10_init_0 : cJ10_init.data.toList.drop 0 = dktJ10_init_0 := by decide +kernel
theorem dJ10_init_0 : decode cJ10_init 0 = .ok (.aload_n 0, 1) := dk_42 (dk_at dksJ10_init_0 0 rfl rfl)
theorem dJ10_init_1 : decode cJ10_init 1 = .ok (.aload_n 1, 1) := dk_43 (dk_at dksJ10_init_0 1 rfl rfl)
theorem dJ10_init_2 : decode cJ10_init 2 = .ok (.invokespecial 7, 3) := dk_183 0 7 (dk_at dksJ10_init_0 2 rfl rfl)
theorem dJ10_init_5 : decode cJ10_init 5 = .ok (.return_, 1) := dk_177 (dk_at dksJ10_init_0 5 rfl rfl)
abbrev cJ10_init_2 : ByteArray := prog_26_method_1_code
def yJ10_init_2 : MethodName := ⟨RJ10, "<init>", "()V"⟩
theorem dJ10_init_2_0 : decode cJ10_init_2 0 = .ok (.aload_n 0, 1) := by decide +kernel
theorem dJ10_init_2_1 : decode cJ10_init_2 1 = .ok (.invokespecial 1, 3) := by decide +kernel
theorem dJ10_init_2_4 : decode cJ10_init_2 4 = .ok (.return_, 1) := by decide +kernel
theorem q75 : (Jvm.Cond.initialized "java/lang/RuntimeException") ∈ lw_all := lw_g (lw_at lw_m1 25 rfl) rfl
theorem q204 : (Jvm.Cond.sameMethod "java/lang/RuntimeException" "java/lang/Throwable" "fillInStackTrace" "()Ljava/lang/Throwable;") ∈ lw_all := lw_g (lw_at lw_m1 154 rfl) rfl
theorem q207 : (Jvm.Cond.superclass "java/lang/RuntimeException" "java/lang/Exception") ∈ lw_all := lw_g (lw_at lw_m1 157 rfl) rfl
theorem q902 : (Jvm.Cond.instanceMethod ({ cls := "java/lang/RuntimeException", name := "<init>", desc := "(Ljava/lang/String;)V" } : Jvm.MethodName)) ∈ lw_all := lw_g (lw_at lw_m4 132 rfl) rfl
theorem q903 : (Jvm.Cond.code ({ cls := "java/lang/RuntimeException", name := "<init>", desc := "(Ljava/lang/String;)V" } : Jvm.MethodName) prog_26_method_2_code (2 : Nat) (Option.none : Option Jvm.ClassFile.FieldType)) ∈ lw_all := lw_g (lw_at lw_m4 133 rfl) rfl
theorem q904 : (Jvm.Cond.methodLink "java/lang/RuntimeException" (7 : Nat) ({ cls := "java/lang/Exception", name := "<init>", desc := "(Ljava/lang/String;)V" } : Jvm.MethodName)) ∈ lw_all := lw_g (lw_at lw_m4 134 rfl) rfl
theorem q918 : (Jvm.Cond.declares ({ cls := "java/lang/RuntimeException", name := "<init>", desc := "()V" } : Jvm.MethodName)) ∈ lw_tbl := lw_at lw_m4 148 rfl
theorem q919 : (Jvm.Cond.declares ({ cls := "java/lang/RuntimeException", name := "<init>", desc := "(Ljava/lang/String;)V" } : Jvm.MethodName)) ∈ lw_tbl := lw_at lw_m4 149 rfl
theorem q939 : (Jvm.Cond.instanceMethod ({ cls := "java/lang/RuntimeException", name := "<init>", desc := "()V" } : Jvm.MethodName)) ∈ lw_all := lw_g (lw_at lw_m4 169 rfl) rfl
theorem q940 : (Jvm.Cond.code ({ cls := "java/lang/RuntimeException", name := "<init>", desc := "()V" } : Jvm.MethodName) prog_26_method_1_code (1 : Nat) (Option.none : Option Jvm.ClassFile.FieldType)) ∈ lw_all := lw_g (lw_at lw_m4 170 rfl) rfl
theorem q941 : (Jvm.Cond.methodLink "java/lang/RuntimeException" (1 : Nat) ({ cls := "java/lang/Exception", name := "<init>", desc := "()V" } : Jvm.MethodName)) ∈ lw_all := lw_g (lw_at lw_m4 171 rfl) rfl
theorem q959 : (Jvm.Cond.castable "java/lang/RuntimeException" "java/lang/Throwable") ∈ lw_tbl := lw_at lw_m4 189 rfl

/-! java/lang/NegativeArraySizeException -/
set_option maxRecDepth 100000
def RJ11 : String := "java/lang/NegativeArraySizeException"
def TJ11 : u_T := fun k => match k with
  | 0 => ("java/lang/Throwable", "backtrace", "Ljava/lang/Object;", false)
  | 1 => ("java/lang/Throwable", "detailMessage", "Ljava/lang/String;", false)
  | 2 => ("java/lang/Throwable", "cause", "Ljava/lang/Throwable;", false)
  | 3 => ("java/lang/Throwable", "stackTrace", "[Ljava/lang/StackTraceElement;", false)
  | 4 => ("java/lang/Throwable", "depth", "I", false)
  | _ => ("java/lang/Throwable", "suppressedExceptions", "Ljava/util/List;", false)
def tyJ11 : Nat → FieldType := fun k => match k with
  | 0 => .object "java/lang/Object"
  | 1 => .object "java/lang/String"
  | 2 => .object "java/lang/Throwable"
  | 3 => .array (.object "java/lang/StackTraceElement")
  | 4 => .int
  | _ => .object "java/util/List"
abbrev wsJ110 : List Cond := u_ws RJ11 TJ11 6
theorem nmJ11 : ∀ a, a < 6 → ∀ b, b < 6 → a ≠ b → (TJ11 a).2.1 ≠ (TJ11 b).2.1 := by decide +kernel
theorem tyJ11_ok : ∀ k, k < 6 → parseFieldDescriptor (TJ11 k).2.2.1 = some (tyJ11 k) := by decide +kernel
abbrev cJ11_init : ByteArray := prog_24_method_2_code
def yJ11_init : MethodName := ⟨RJ11, "<init>", "(Ljava/lang/String;)V"⟩
def dkwJ11_init_0 : List UInt8 := [42, 43, 183, 0, 7, 177]
abbrev dktJ11_init_0 : List UInt8 := dkwJ11_init_0 ++ []
theorem dksJ11_init_0 : cJ11_init.data.toList.drop 0 = dktJ11_init_0 := by decide +kernel
theorem dJ11_init_0 : decode cJ11_init 0 = .ok (.aload_n 0, 1) := dk_42 (dk_at dksJ11_init_0 0 rfl rfl)
theorem dJ11_init_1 : decode cJ11_init 1 = .ok (.aload_n 1, 1) := dk_43 (dk_at dksJ11_init_0 1 rfl rfl)
theorem dJ11_init_2 : decode cJ11_init 2 = .ok (.invokespecial 7, 3) := dk_183 0 7 (dk_at dksJ11_init_0 2 rfl rfl)
theorem dJ11_init_5 : decode cJ11_init 5 = .ok (.return_, 1) := dk_177 (dk_at dksJ11_init_0 5 rfl rfl)
theorem q76 : (Jvm.Cond.initialized "java/lang/NegativeArraySizeException") ∈ lw_all := lw_g (lw_at lw_m1 26 rfl) rfl
theorem q194 : (Jvm.Cond.selects "java/lang/NegativeArraySizeException" ({ cls := "java/lang/Throwable", name := "fillInStackTrace", desc := "()Ljava/lang/Throwable;" } : Jvm.MethodName) ({ cls := "java/lang/Throwable", name := "fillInStackTrace", desc := "()Ljava/lang/Throwable;" } : Jvm.MethodName)) ∈ lw_all := lw_g (lw_at lw_m1 144 rfl) rfl
theorem q640 : (Jvm.Cond.selects "java/lang/NegativeArraySizeException" ({ cls := "java/lang/Object", name := "getClass", desc := "()Ljava/lang/Class;" } : Jvm.MethodName) ({ cls := "java/lang/Object", name := "getClass", desc := "()Ljava/lang/Class;" } : Jvm.MethodName)) ∈ lw_all := lw_g (lw_at lw_m3 110 rfl) rfl
theorem q898 : (Jvm.Cond.instantiable "java/lang/NegativeArraySizeException" (6 : Nat)) ∈ lw_all := lw_g (lw_at lw_m4 128 rfl) rfl
theorem q899 : (Jvm.Cond.instanceMethod ({ cls := "java/lang/NegativeArraySizeException", name := "<init>", desc := "(Ljava/lang/String;)V" } : Jvm.MethodName)) ∈ lw_all := lw_g (lw_at lw_m4 129 rfl) rfl
theorem q900 : (Jvm.Cond.code ({ cls := "java/lang/NegativeArraySizeException", name := "<init>", desc := "(Ljava/lang/String;)V" } : Jvm.MethodName) prog_24_method_2_code (2 : Nat) (Option.none : Option Jvm.ClassFile.FieldType)) ∈ lw_all := lw_g (lw_at lw_m4 130 rfl) rfl
theorem q901 : (Jvm.Cond.methodLink "java/lang/NegativeArraySizeException" (7 : Nat) ({ cls := "java/lang/RuntimeException", name := "<init>", desc := "(Ljava/lang/String;)V" } : Jvm.MethodName)) ∈ lw_all := lw_g (lw_at lw_m4 131 rfl) rfl
theorem q910 : (Jvm.Cond.lays "java/lang/NegativeArraySizeException" "java/lang/Throwable" "backtrace" "Ljava/lang/Object;") ∈ lw_all := lw_g (lw_at lw_m4 140 rfl) rfl
theorem q911 : (Jvm.Cond.lays "java/lang/NegativeArraySizeException" "java/lang/Throwable" "detailMessage" "Ljava/lang/String;") ∈ lw_all := lw_g (lw_at lw_m4 141 rfl) rfl
theorem q912 : (Jvm.Cond.lays "java/lang/NegativeArraySizeException" "java/lang/Throwable" "cause" "Ljava/lang/Throwable;") ∈ lw_all := lw_g (lw_at lw_m4 142 rfl) rfl
theorem q913 : (Jvm.Cond.lays "java/lang/NegativeArraySizeException" "java/lang/Throwable" "stackTrace" "[Ljava/lang/StackTraceElement;") ∈ lw_all := lw_g (lw_at lw_m4 143 rfl) rfl
theorem q914 : (Jvm.Cond.lays "java/lang/NegativeArraySizeException" "java/lang/Throwable" "depth" "I") ∈ lw_all := lw_g (lw_at lw_m4 144 rfl) rfl
theorem q915 : (Jvm.Cond.lays "java/lang/NegativeArraySizeException" "java/lang/Throwable" "suppressedExceptions" "Ljava/util/List;") ∈ lw_all := lw_g (lw_at lw_m4 145 rfl) rfl
theorem q916 : (Jvm.Cond.superclass "java/lang/NegativeArraySizeException" "java/lang/RuntimeException") ∈ lw_all := lw_g (lw_at lw_m4 146 rfl) rfl
theorem q917 : (Jvm.Cond.castable "java/lang/NegativeArraySizeException" "java/lang/NegativeArraySizeException") ∈ lw_tbl := lw_at lw_m4 147 rfl
theorem q920 : (Jvm.Cond.selects "java/lang/NegativeArraySizeException" ({ cls := "java/lang/Throwable", name := "fillInStackTrace", desc := "(I)Ljava/lang/Throwable;" } : Jvm.MethodName) ({ cls := "java/lang/Throwable", name := "fillInStackTrace", desc := "(I)Ljava/lang/Throwable;" } : Jvm.MethodName)) ∈ lw_all := lw_g (lw_at lw_m4 150 rfl) rfl
theorem q1426 : (Jvm.Cond.castable "java/lang/NegativeArraySizeException" "java/lang/Object") ∈ lw_tbl := lw_at lw_m6 176 rfl
theorem in_J11 : ∀ w ∈ wsJ110, w ∈ lw_all := lw_in wsJ110 [910, 911, 912, 913, 914, 915] (by decide +kernel) (by decide +kernel)

/-! java/lang/String -/
set_option maxRecDepth 100000
def RJ12 : String := "java/lang/String"
def TJ12 : u_T := fun k => match k with
  | 0 => ("java/lang/String", "value", "[B", true)
  | _ => ("java/lang/String", "coder", "B", true)
def tyJ12 : Nat → FieldType := fun k => match k with
  | 0 => .array .byte
  | _ => .byte
abbrev wsJ120 : List Cond := u_ws RJ12 TJ12 2
theorem nmJ12 : ∀ a, a < 2 → ∀ b, b < 2 → a ≠ b → (TJ12 a).2.1 ≠ (TJ12 b).2.1 := by decide +kernel
theorem tyJ12_ok : ∀ k, k < 2 → parseFieldDescriptor (TJ12 k).2.2.1 = some (tyJ12 k) := by decide +kernel
theorem q77 : (Jvm.Cond.initialized "java/lang/String") ∈ lw_all := lw_g (lw_at lw_m1 27 rfl) rfl
theorem q921 : (Jvm.Cond.instantiable "java/lang/String" (4 : Nat)) ∈ lw_all := lw_g (lw_at lw_m4 151 rfl) rfl
theorem q922 : (Jvm.Cond.laysFinal "java/lang/String" "java/lang/String" "value" "[B") ∈ lw_all := lw_g (lw_at lw_m4 152 rfl) rfl
theorem q923 : (Jvm.Cond.soleField "java/lang/String" "value") ∈ lw_all := lw_g (lw_at lw_m4 153 rfl) rfl
theorem q924 : (Jvm.Cond.laysFinal "java/lang/String" "java/lang/String" "coder" "B") ∈ lw_all := lw_g (lw_at lw_m4 154 rfl) rfl
theorem q925 : (Jvm.Cond.soleField "java/lang/String" "coder") ∈ lw_all := lw_g (lw_at lw_m4 155 rfl) rfl
theorem q1432 : (Jvm.Cond.castable "java/lang/String" "java/lang/Object") ∈ lw_tbl := lw_at lw_m6 182 rfl
theorem in_J12 : ∀ w ∈ wsJ120, w ∈ lw_all := lw_in wsJ120 [922, 924] (by decide +kernel) (by decide +kernel)

/-! java/lang/NullPointerException -/
set_option maxRecDepth 100000
def RJ13 : String := "java/lang/NullPointerException"
def TJ13 : u_T := fun k => match k with
  | 0 => ("java/lang/Throwable", "backtrace", "Ljava/lang/Object;", false)
  | 1 => ("java/lang/Throwable", "detailMessage", "Ljava/lang/String;", false)
  | 2 => ("java/lang/Throwable", "cause", "Ljava/lang/Throwable;", false)
  | 3 => ("java/lang/Throwable", "stackTrace", "[Ljava/lang/StackTraceElement;", false)
  | 4 => ("java/lang/Throwable", "depth", "I", false)
  | 5 => ("java/lang/Throwable", "suppressedExceptions", "Ljava/util/List;", false)
  | 6 => ("java/lang/NullPointerException", "extendedMessageState", "I", false)
  | _ => ("java/lang/NullPointerException", "extendedMessage", "Ljava/lang/String;", false)
def tyJ13 : Nat → FieldType := fun k => match k with
  | 0 => .object "java/lang/Object"
  | 1 => .object "java/lang/String"
  | 2 => .object "java/lang/Throwable"
  | 3 => .array (.object "java/lang/StackTraceElement")
  | 4 => .int
  | 5 => .object "java/util/List"
  | 6 => .int
  | _ => .object "java/lang/String"
abbrev wsJ130 : List Cond := u_ws RJ13 TJ13 8
theorem nmJ13 : ∀ a, a < 8 → ∀ b, b < 8 → a ≠ b → (TJ13 a).2.1 ≠ (TJ13 b).2.1 := by decide +kernel
theorem tyJ13_ok : ∀ k, k < 8 → parseFieldDescriptor (TJ13 k).2.2.1 = some (tyJ13 k) := by decide +kernel
abbrev cJ13_init : ByteArray := prog_25_method_1_code
def yJ13_init : MethodName := ⟨RJ13, "<init>", "()V"⟩
theorem dJ13_init_0 : decode cJ13_init 0 = .ok (.aload_n 0, 1) := by decide +kernel
theorem dJ13_init_1 : decode cJ13_init 1 = .ok (.invokespecial 1, 3) := by decide +kernel
theorem dJ13_init_4 : decode cJ13_init 4 = .ok (.return_, 1) := by decide +kernel
theorem q78 : (Jvm.Cond.initialized "java/lang/NullPointerException") ∈ lw_all := lw_g (lw_at lw_m1 28 rfl) rfl
theorem q195 : (Jvm.Cond.selects "java/lang/NullPointerException" ({ cls := "java/lang/Throwable", name := "fillInStackTrace", desc := "()Ljava/lang/Throwable;" } : Jvm.MethodName) ({ cls := "java/lang/NullPointerException", name := "fillInStackTrace", desc := "()Ljava/lang/Throwable;" } : Jvm.MethodName)) ∈ lw_all := lw_g (lw_at lw_m1 145 rfl) rfl
theorem q196 : (Jvm.Cond.instanceMethod ({ cls := "java/lang/NullPointerException", name := "fillInStackTrace", desc := "()Ljava/lang/Throwable;" } : Jvm.MethodName)) ∈ lw_all := lw_g (lw_at lw_m1 146 rfl) rfl
theorem q197 : (Jvm.Cond.codeSync ({ cls := "java/lang/NullPointerException", name := "fillInStackTrace", desc := "()Ljava/lang/Throwable;" } : Jvm.MethodName) prog_25_method_3_code (1 : Nat) (Option.some (Jvm.ClassFile.FieldType.object "java/lang/Throwable"))) ∈ lw_all := lw_g (lw_at lw_m1 147 rfl) rfl
theorem q198 : (Jvm.Cond.methodLink "java/lang/NullPointerException" (16 : Nat) ({ cls := "java/lang/NullPointerException", name := "getExtendedNPEMessage", desc := "()Ljava/lang/String;" } : Jvm.MethodName)) ∈ lw_all := lw_g (lw_at lw_m1 148 rfl) rfl
theorem q199 : (Jvm.Cond.privateMethod ({ cls := "java/lang/NullPointerException", name := "getExtendedNPEMessage", desc := "()Ljava/lang/String;" } : Jvm.MethodName)) ∈ lw_tbl := lw_at lw_m1 149 rfl
theorem q200 : (Jvm.Cond.instanceMethod ({ cls := "java/lang/NullPointerException", name := "getExtendedNPEMessage", desc := "()Ljava/lang/String;" } : Jvm.MethodName)) ∈ lw_all := lw_g (lw_at lw_m1 150 rfl) rfl
theorem q201 : (Jvm.Cond.instantiable "java/lang/NullPointerException" (8 : Nat)) ∈ lw_all := lw_g (lw_at lw_m1 151 rfl) rfl
theorem q202 : (Jvm.Cond.native ({ cls := "java/lang/NullPointerException", name := "getExtendedNPEMessage", desc := "()Ljava/lang/String;" } : Jvm.MethodName)) ∈ lw_all := lw_g (lw_at lw_m1 152 rfl) rfl
theorem q203 : (Jvm.Cond.methodLink "java/lang/NullPointerException" (24 : Nat) ({ cls := "java/lang/RuntimeException", name := "fillInStackTrace", desc := "()Ljava/lang/Throwable;" } : Jvm.MethodName)) ∈ lw_all := lw_g (lw_at lw_m1 153 rfl) rfl
theorem q206 : (Jvm.Cond.superclass "java/lang/NullPointerException" "java/lang/RuntimeException") ∈ lw_all := lw_g (lw_at lw_m1 156 rfl) rfl
theorem q641 : (Jvm.Cond.selects "java/lang/NullPointerException" ({ cls := "java/lang/Object", name := "getClass", desc := "()Ljava/lang/Class;" } : Jvm.MethodName) ({ cls := "java/lang/Object", name := "getClass", desc := "()Ljava/lang/Class;" } : Jvm.MethodName)) ∈ lw_all := lw_g (lw_at lw_m3 111 rfl) rfl
theorem q936 : (Jvm.Cond.instanceMethod ({ cls := "java/lang/NullPointerException", name := "<init>", desc := "()V" } : Jvm.MethodName)) ∈ lw_all := lw_g (lw_at lw_m4 166 rfl) rfl
theorem q937 : (Jvm.Cond.code ({ cls := "java/lang/NullPointerException", name := "<init>", desc := "()V" } : Jvm.MethodName) prog_25_method_1_code (1 : Nat) (Option.none : Option Jvm.ClassFile.FieldType)) ∈ lw_all := lw_g (lw_at lw_m4 167 rfl) rfl
theorem q938 : (Jvm.Cond.methodLink "java/lang/NullPointerException" (1 : Nat) ({ cls := "java/lang/RuntimeException", name := "<init>", desc := "()V" } : Jvm.MethodName)) ∈ lw_all := lw_g (lw_at lw_m4 168 rfl) rfl
theorem q945 : (Jvm.Cond.fieldLink "java/lang/NullPointerException" (10 : Nat) "java/lang/NullPointerException" "extendedMessageState" "I") ∈ lw_all := lw_g (lw_at lw_m4 175 rfl) rfl
theorem q946 : (Jvm.Cond.fieldLink "java/lang/NullPointerException" (20 : Nat) "java/lang/NullPointerException" "extendedMessage" "Ljava/lang/String;") ∈ lw_all := lw_g (lw_at lw_m4 176 rfl) rfl
theorem q947 : (Jvm.Cond.lays "java/lang/NullPointerException" "java/lang/NullPointerException" "extendedMessageState" "I") ∈ lw_all := lw_g (lw_at lw_m4 177 rfl) rfl
theorem q948 : (Jvm.Cond.soleField "java/lang/NullPointerException" "extendedMessageState") ∈ lw_all := lw_g (lw_at lw_m4 178 rfl) rfl
theorem q949 : (Jvm.Cond.lays "java/lang/NullPointerException" "java/lang/NullPointerException" "extendedMessage" "Ljava/lang/String;") ∈ lw_all := lw_g (lw_at lw_m4 179 rfl) rfl
theorem q950 : (Jvm.Cond.soleField "java/lang/NullPointerException" "extendedMessage") ∈ lw_all := lw_g (lw_at lw_m4 180 rfl) rfl
theorem q951 : (Jvm.Cond.lays "java/lang/NullPointerException" "java/lang/Throwable" "backtrace" "Ljava/lang/Object;") ∈ lw_all := lw_g (lw_at lw_m4 181 rfl) rfl
theorem q952 : (Jvm.Cond.lays "java/lang/NullPointerException" "java/lang/Throwable" "detailMessage" "Ljava/lang/String;") ∈ lw_all := lw_g (lw_at lw_m4 182 rfl) rfl
theorem q953 : (Jvm.Cond.lays "java/lang/NullPointerException" "java/lang/Throwable" "cause" "Ljava/lang/Throwable;") ∈ lw_all := lw_g (lw_at lw_m4 183 rfl) rfl
theorem q954 : (Jvm.Cond.lays "java/lang/NullPointerException" "java/lang/Throwable" "stackTrace" "[Ljava/lang/StackTraceElement;") ∈ lw_all := lw_g (lw_at lw_m4 184 rfl) rfl
theorem q955 : (Jvm.Cond.lays "java/lang/NullPointerException" "java/lang/Throwable" "depth" "I") ∈ lw_all := lw_g (lw_at lw_m4 185 rfl) rfl
theorem q956 : (Jvm.Cond.lays "java/lang/NullPointerException" "java/lang/Throwable" "suppressedExceptions" "Ljava/util/List;") ∈ lw_all := lw_g (lw_at lw_m4 186 rfl) rfl
theorem q957 : (Jvm.Cond.castable "java/lang/NullPointerException" "java/lang/NullPointerException") ∈ lw_tbl := lw_at lw_m4 187 rfl
theorem q958 : (Jvm.Cond.selects "java/lang/NullPointerException" ({ cls := "java/lang/Throwable", name := "fillInStackTrace", desc := "(I)Ljava/lang/Throwable;" } : Jvm.MethodName) ({ cls := "java/lang/Throwable", name := "fillInStackTrace", desc := "(I)Ljava/lang/Throwable;" } : Jvm.MethodName)) ∈ lw_all := lw_g (lw_at lw_m4 188 rfl) rfl
theorem q1427 : (Jvm.Cond.castable "java/lang/NullPointerException" "java/lang/Object") ∈ lw_tbl := lw_at lw_m6 177 rfl
theorem in_J13 : ∀ w ∈ wsJ130, w ∈ lw_all := lw_in wsJ130 [951, 952, 953, 954, 955, 956, 947, 949] (by decide +kernel) (by decide +kernel)

/-! java/lang/ClassCastException -/
set_option maxRecDepth 100000
def RJ14 : String := "java/lang/ClassCastException"
def TJ14 : u_T := fun k => match k with
  | 0 => ("java/lang/Throwable", "backtrace", "Ljava/lang/Object;", false)
  | 1 => ("java/lang/Throwable", "detailMessage", "Ljava/lang/String;", false)
  | 2 => ("java/lang/Throwable", "cause", "Ljava/lang/Throwable;", false)
  | 3 => ("java/lang/Throwable", "stackTrace", "[Ljava/lang/StackTraceElement;", false)
  | 4 => ("java/lang/Throwable", "depth", "I", false)
  | _ => ("java/lang/Throwable", "suppressedExceptions", "Ljava/util/List;", false)
def tyJ14 : Nat → FieldType := fun k => match k with
  | 0 => .object "java/lang/Object"
  | 1 => .object "java/lang/String"
  | 2 => .object "java/lang/Throwable"
  | 3 => .array (.object "java/lang/StackTraceElement")
  | 4 => .int
  | _ => .object "java/util/List"
abbrev wsJ140 : List Cond := u_ws RJ14 TJ14 6
theorem nmJ14 : ∀ a, a < 6 → ∀ b, b < 6 → a ≠ b → (TJ14 a).2.1 ≠ (TJ14 b).2.1 := by decide +kernel
theorem tyJ14_ok : ∀ k, k < 6 → parseFieldDescriptor (TJ14 k).2.2.1 = some (tyJ14 k) := by decide +kernel
abbrev cJ14_init : ByteArray := prog_18_method_2_code
def yJ14_init : MethodName := ⟨RJ14, "<init>", "(Ljava/lang/String;)V"⟩
def dkwJ14_init_0 : List UInt8 := [42, 43, 183, 0, 7, 177]
abbrev dktJ14_init_0 : List UInt8 := dkwJ14_init_0 ++ []
theorem dksJ14_init_0 : cJ14_init.data.toList.drop 0 = dktJ14_init_0 := by decide +kernel
theorem dJ14_init_0 : decode cJ14_init 0 = .ok (.aload_n 0, 1) := dk_42 (dk_at dksJ14_init_0 0 rfl rfl)
theorem dJ14_init_1 : decode cJ14_init 1 = .ok (.aload_n 1, 1) := dk_43 (dk_at dksJ14_init_0 1 rfl rfl)
theorem dJ14_init_2 : decode cJ14_init 2 = .ok (.invokespecial 7, 3) := dk_183 0 7 (dk_at dksJ14_init_0 2 rfl rfl)
theorem dJ14_init_5 : decode cJ14_init 5 = .ok (.return_, 1) := dk_177 (dk_at dksJ14_init_0 5 rfl rfl)
theorem q79 : (Jvm.Cond.initialized "java/lang/ClassCastException") ∈ lw_all := lw_g (lw_at lw_m1 29 rfl) rfl
theorem q193 : (Jvm.Cond.selects "java/lang/ClassCastException" ({ cls := "java/lang/Throwable", name := "fillInStackTrace", desc := "()Ljava/lang/Throwable;" } : Jvm.MethodName) ({ cls := "java/lang/Throwable", name := "fillInStackTrace", desc := "()Ljava/lang/Throwable;" } : Jvm.MethodName)) ∈ lw_all := lw_g (lw_at lw_m1 143 rfl) rfl
theorem q639 : (Jvm.Cond.selects "java/lang/ClassCastException" ({ cls := "java/lang/Object", name := "getClass", desc := "()Ljava/lang/Class;" } : Jvm.MethodName) ({ cls := "java/lang/Object", name := "getClass", desc := "()Ljava/lang/Class;" } : Jvm.MethodName)) ∈ lw_all := lw_g (lw_at lw_m3 109 rfl) rfl
theorem q961 : (Jvm.Cond.instantiable "java/lang/ClassCastException" (6 : Nat)) ∈ lw_all := lw_g (lw_at lw_m4 191 rfl) rfl
theorem q962 : (Jvm.Cond.instanceMethod ({ cls := "java/lang/ClassCastException", name := "<init>", desc := "(Ljava/lang/String;)V" } : Jvm.MethodName)) ∈ lw_all := lw_g (lw_at lw_m4 192 rfl) rfl
theorem q963 : (Jvm.Cond.code ({ cls := "java/lang/ClassCastException", name := "<init>", desc := "(Ljava/lang/String;)V" } : Jvm.MethodName) prog_18_method_2_code (2 : Nat) (Option.none : Option Jvm.ClassFile.FieldType)) ∈ lw_all := lw_g (lw_at lw_m4 193 rfl) rfl
theorem q964 : (Jvm.Cond.methodLink "java/lang/ClassCastException" (7 : Nat) ({ cls := "java/lang/RuntimeException", name := "<init>", desc := "(Ljava/lang/String;)V" } : Jvm.MethodName)) ∈ lw_all := lw_g (lw_at lw_m4 194 rfl) rfl
theorem q965 : (Jvm.Cond.lays "java/lang/ClassCastException" "java/lang/Throwable" "backtrace" "Ljava/lang/Object;") ∈ lw_all := lw_g (lw_at lw_m4 195 rfl) rfl
theorem q966 : (Jvm.Cond.lays "java/lang/ClassCastException" "java/lang/Throwable" "detailMessage" "Ljava/lang/String;") ∈ lw_all := lw_g (lw_at lw_m4 196 rfl) rfl
theorem q967 : (Jvm.Cond.lays "java/lang/ClassCastException" "java/lang/Throwable" "cause" "Ljava/lang/Throwable;") ∈ lw_all := lw_g (lw_at lw_m4 197 rfl) rfl
theorem q968 : (Jvm.Cond.lays "java/lang/ClassCastException" "java/lang/Throwable" "stackTrace" "[Ljava/lang/StackTraceElement;") ∈ lw_all := lw_g (lw_at lw_m4 198 rfl) rfl
theorem q969 : (Jvm.Cond.lays "java/lang/ClassCastException" "java/lang/Throwable" "depth" "I") ∈ lw_all := lw_g (lw_at lw_m4 199 rfl) rfl
theorem q970 : (Jvm.Cond.lays "java/lang/ClassCastException" "java/lang/Throwable" "suppressedExceptions" "Ljava/util/List;") ∈ lw_all := lw_g (lw_at lw_m4 200 rfl) rfl
theorem q971 : (Jvm.Cond.superclass "java/lang/ClassCastException" "java/lang/RuntimeException") ∈ lw_all := lw_g (lw_at lw_m4 201 rfl) rfl
theorem q972 : (Jvm.Cond.castable "java/lang/ClassCastException" "java/lang/ClassCastException") ∈ lw_tbl := lw_at lw_m4 202 rfl
theorem q973 : (Jvm.Cond.selects "java/lang/ClassCastException" ({ cls := "java/lang/Throwable", name := "fillInStackTrace", desc := "(I)Ljava/lang/Throwable;" } : Jvm.MethodName) ({ cls := "java/lang/Throwable", name := "fillInStackTrace", desc := "(I)Ljava/lang/Throwable;" } : Jvm.MethodName)) ∈ lw_all := lw_g (lw_at lw_m4 203 rfl) rfl
theorem q1428 : (Jvm.Cond.castable "java/lang/ClassCastException" "java/lang/Object") ∈ lw_tbl := lw_at lw_m6 178 rfl
theorem in_J14 : ∀ w ∈ wsJ140, w ∈ lw_all := lw_in wsJ140 [965, 966, 967, 968, 969, 970] (by decide +kernel) (by decide +kernel)

/-! java/lang/IndexOutOfBoundsException -/
set_option maxRecDepth 100000
def RJ15 : String := "java/lang/IndexOutOfBoundsException"
abbrev cJ15_init : ByteArray := prog_21_method_2_code
def yJ15_init : MethodName := ⟨RJ15, "<init>", "(Ljava/lang/String;)V"⟩
def dkwJ15_init_0 : List UInt8 := [42, 43, 183, 0, 7, 177]
abbrev dktJ15_init_0 : List UInt8 := dkwJ15_init_0 ++ []
theorem dksJ15_init_0 : cJ15_init.data.toList.drop 0 = dktJ15_init_0 := by decide +kernel
theorem dJ15_init_0 : decode cJ15_init 0 = .ok (.aload_n 0, 1) := dk_42 (dk_at dksJ15_init_0 0 rfl rfl)
theorem dJ15_init_1 : decode cJ15_init 1 = .ok (.aload_n 1, 1) := dk_43 (dk_at dksJ15_init_0 1 rfl rfl)
theorem dJ15_init_2 : decode cJ15_init 2 = .ok (.invokespecial 7, 3) := dk_183 0 7 (dk_at dksJ15_init_0 2 rfl rfl)
theorem dJ15_init_5 : decode cJ15_init 5 = .ok (.return_, 1) := dk_177 (dk_at dksJ15_init_0 5 rfl rfl)
theorem q80 : (Jvm.Cond.initialized "java/lang/IndexOutOfBoundsException") ∈ lw_all := lw_g (lw_at lw_m1 30 rfl) rfl
theorem q979 : (Jvm.Cond.instanceMethod ({ cls := "java/lang/IndexOutOfBoundsException", name := "<init>", desc := "(Ljava/lang/String;)V" } : Jvm.MethodName)) ∈ lw_all := lw_g (lw_at lw_m4 209 rfl) rfl
theorem q980 : (Jvm.Cond.code ({ cls := "java/lang/IndexOutOfBoundsException", name := "<init>", desc := "(Ljava/lang/String;)V" } : Jvm.MethodName) prog_21_method_2_code (2 : Nat) (Option.none : Option Jvm.ClassFile.FieldType)) ∈ lw_all := lw_g (lw_at lw_m4 210 rfl) rfl
theorem q981 : (Jvm.Cond.methodLink "java/lang/IndexOutOfBoundsException" (7 : Nat) ({ cls := "java/lang/RuntimeException", name := "<init>", desc := "(Ljava/lang/String;)V" } : Jvm.MethodName)) ∈ lw_all := lw_g (lw_at lw_m4 211 rfl) rfl
theorem q990 : (Jvm.Cond.declares ({ cls := "java/lang/IndexOutOfBoundsException", name := "<init>", desc := "()V" } : Jvm.MethodName)) ∈ lw_tbl := lw_at lw_m4 220 rfl
theorem q991 : (Jvm.Cond.declares ({ cls := "java/lang/IndexOutOfBoundsException", name := "<init>", desc := "(Ljava/lang/String;)V" } : Jvm.MethodName)) ∈ lw_tbl := lw_at lw_m4 221 rfl

/-! java/lang/ArrayIndexOutOfBoundsException -/
set_option maxRecDepth 100000
def RJ16 : String := "java/lang/ArrayIndexOutOfBoundsException"
def TJ16 : u_T := fun k => match k with
  | 0 => ("java/lang/Throwable", "backtrace", "Ljava/lang/Object;", false)
  | 1 => ("java/lang/Throwable", "detailMessage", "Ljava/lang/String;", false)
  | 2 => ("java/lang/Throwable", "cause", "Ljava/lang/Throwable;", false)
  | 3 => ("java/lang/Throwable", "stackTrace", "[Ljava/lang/StackTraceElement;", false)
  | 4 => ("java/lang/Throwable", "depth", "I", false)
  | _ => ("java/lang/Throwable", "suppressedExceptions", "Ljava/util/List;", false)
def tyJ16 : Nat → FieldType := fun k => match k with
  | 0 => .object "java/lang/Object"
  | 1 => .object "java/lang/String"
  | 2 => .object "java/lang/Throwable"
  | 3 => .array (.object "java/lang/StackTraceElement")
  | 4 => .int
  | _ => .object "java/util/List"
abbrev wsJ160 : List Cond := u_ws RJ16 TJ16 6
theorem nmJ16 : ∀ a, a < 6 → ∀ b, b < 6 → a ≠ b → (TJ16 a).2.1 ≠ (TJ16 b).2.1 := by decide +kernel
theorem tyJ16_ok : ∀ k, k < 6 → parseFieldDescriptor (TJ16 k).2.2.1 = some (tyJ16 k) := by decide +kernel
abbrev cJ16_init : ByteArray := prog_16_method_2_code
def yJ16_init : MethodName := ⟨RJ16, "<init>", "(Ljava/lang/String;)V"⟩
def dkwJ16_init_0 : List UInt8 := [42, 43, 183, 0, 7, 177]
abbrev dktJ16_init_0 : List UInt8 := dkwJ16_init_0 ++ []
theorem dksJ16_init_0 : cJ16_init.data.toList.drop 0 = dktJ16_init_0 := by decide +kernel
theorem dJ16_init_0 : decode cJ16_init 0 = .ok (.aload_n 0, 1) := dk_42 (dk_at dksJ16_init_0 0 rfl rfl)
theorem dJ16_init_1 : decode cJ16_init 1 = .ok (.aload_n 1, 1) := dk_43 (dk_at dksJ16_init_0 1 rfl rfl)
theorem dJ16_init_2 : decode cJ16_init 2 = .ok (.invokespecial 7, 3) := dk_183 0 7 (dk_at dksJ16_init_0 2 rfl rfl)
theorem dJ16_init_5 : decode cJ16_init 5 = .ok (.return_, 1) := dk_177 (dk_at dksJ16_init_0 5 rfl rfl)
theorem q81 : (Jvm.Cond.initialized "java/lang/ArrayIndexOutOfBoundsException") ∈ lw_all := lw_g (lw_at lw_m1 31 rfl) rfl
theorem q191 : (Jvm.Cond.selects "java/lang/ArrayIndexOutOfBoundsException" ({ cls := "java/lang/Throwable", name := "fillInStackTrace", desc := "()Ljava/lang/Throwable;" } : Jvm.MethodName) ({ cls := "java/lang/Throwable", name := "fillInStackTrace", desc := "()Ljava/lang/Throwable;" } : Jvm.MethodName)) ∈ lw_all := lw_g (lw_at lw_m1 141 rfl) rfl
theorem q637 : (Jvm.Cond.selects "java/lang/ArrayIndexOutOfBoundsException" ({ cls := "java/lang/Object", name := "getClass", desc := "()Ljava/lang/Class;" } : Jvm.MethodName) ({ cls := "java/lang/Object", name := "getClass", desc := "()Ljava/lang/Class;" } : Jvm.MethodName)) ∈ lw_all := lw_g (lw_at lw_m3 107 rfl) rfl
theorem q975 : (Jvm.Cond.instantiable "java/lang/ArrayIndexOutOfBoundsException" (6 : Nat)) ∈ lw_all := lw_g (lw_at lw_m4 205 rfl) rfl
theorem q976 : (Jvm.Cond.instanceMethod ({ cls := "java/lang/ArrayIndexOutOfBoundsException", name := "<init>", desc := "(Ljava/lang/String;)V" } : Jvm.MethodName)) ∈ lw_all := lw_g (lw_at lw_m4 206 rfl) rfl
theorem q977 : (Jvm.Cond.code ({ cls := "java/lang/ArrayIndexOutOfBoundsException", name := "<init>", desc := "(Ljava/lang/String;)V" } : Jvm.MethodName) prog_16_method_2_code (2 : Nat) (Option.none : Option Jvm.ClassFile.FieldType)) ∈ lw_all := lw_g (lw_at lw_m4 207 rfl) rfl
theorem q978 : (Jvm.Cond.methodLink "java/lang/ArrayIndexOutOfBoundsException" (7 : Nat) ({ cls := "java/lang/IndexOutOfBoundsException", name := "<init>", desc := "(Ljava/lang/String;)V" } : Jvm.MethodName)) ∈ lw_all := lw_g (lw_at lw_m4 208 rfl) rfl
theorem q982 : (Jvm.Cond.lays "java/lang/ArrayIndexOutOfBoundsException" "java/lang/Throwable" "backtrace" "Ljava/lang/Object;") ∈ lw_all := lw_g (lw_at lw_m4 212 rfl) rfl
theorem q983 : (Jvm.Cond.lays "java/lang/ArrayIndexOutOfBoundsException" "java/lang/Throwable" "detailMessage" "Ljava/lang/String;") ∈ lw_all := lw_g (lw_at lw_m4 213 rfl) rfl
theorem q984 : (Jvm.Cond.lays "java/lang/ArrayIndexOutOfBoundsException" "java/lang/Throwable" "cause" "Ljava/lang/Throwable;") ∈ lw_all := lw_g (lw_at lw_m4 214 rfl) rfl
theorem q985 : (Jvm.Cond.lays "java/lang/ArrayIndexOutOfBoundsException" "java/lang/Throwable" "stackTrace" "[Ljava/lang/StackTraceElement;") ∈ lw_all := lw_g (lw_at lw_m4 215 rfl) rfl
theorem q986 : (Jvm.Cond.lays "java/lang/ArrayIndexOutOfBoundsException" "java/lang/Throwable" "depth" "I") ∈ lw_all := lw_g (lw_at lw_m4 216 rfl) rfl
theorem q987 : (Jvm.Cond.lays "java/lang/ArrayIndexOutOfBoundsException" "java/lang/Throwable" "suppressedExceptions" "Ljava/util/List;") ∈ lw_all := lw_g (lw_at lw_m4 217 rfl) rfl
theorem q988 : (Jvm.Cond.superclass "java/lang/ArrayIndexOutOfBoundsException" "java/lang/IndexOutOfBoundsException") ∈ lw_all := lw_g (lw_at lw_m4 218 rfl) rfl
theorem q989 : (Jvm.Cond.castable "java/lang/ArrayIndexOutOfBoundsException" "java/lang/ArrayIndexOutOfBoundsException") ∈ lw_tbl := lw_at lw_m4 219 rfl
theorem q992 : (Jvm.Cond.selects "java/lang/ArrayIndexOutOfBoundsException" ({ cls := "java/lang/Throwable", name := "fillInStackTrace", desc := "(I)Ljava/lang/Throwable;" } : Jvm.MethodName) ({ cls := "java/lang/Throwable", name := "fillInStackTrace", desc := "(I)Ljava/lang/Throwable;" } : Jvm.MethodName)) ∈ lw_all := lw_g (lw_at lw_m4 222 rfl) rfl
theorem q1412 : (Jvm.Cond.castable "java/lang/ArrayIndexOutOfBoundsException" "java/lang/IndexOutOfBoundsException") ∈ lw_tbl := lw_at lw_m6 162 rfl
theorem q1429 : (Jvm.Cond.castable "java/lang/ArrayIndexOutOfBoundsException" "java/lang/Object") ∈ lw_tbl := lw_at lw_m6 179 rfl
theorem in_J16 : ∀ w ∈ wsJ160, w ∈ lw_all := lw_in wsJ160 [982, 983, 984, 985, 986, 987] (by decide +kernel) (by decide +kernel)

/-! java/lang/ArrayStoreException -/
set_option maxRecDepth 100000
def RJ17 : String := "java/lang/ArrayStoreException"
def TJ17 : u_T := fun k => match k with
  | 0 => ("java/lang/Throwable", "backtrace", "Ljava/lang/Object;", false)
  | 1 => ("java/lang/Throwable", "detailMessage", "Ljava/lang/String;", false)
  | 2 => ("java/lang/Throwable", "cause", "Ljava/lang/Throwable;", false)
  | 3 => ("java/lang/Throwable", "stackTrace", "[Ljava/lang/StackTraceElement;", false)
  | 4 => ("java/lang/Throwable", "depth", "I", false)
  | _ => ("java/lang/Throwable", "suppressedExceptions", "Ljava/util/List;", false)
def tyJ17 : Nat → FieldType := fun k => match k with
  | 0 => .object "java/lang/Object"
  | 1 => .object "java/lang/String"
  | 2 => .object "java/lang/Throwable"
  | 3 => .array (.object "java/lang/StackTraceElement")
  | 4 => .int
  | _ => .object "java/util/List"
abbrev wsJ170 : List Cond := u_ws RJ17 TJ17 6
theorem nmJ17 : ∀ a, a < 6 → ∀ b, b < 6 → a ≠ b → (TJ17 a).2.1 ≠ (TJ17 b).2.1 := by decide +kernel
theorem tyJ17_ok : ∀ k, k < 6 → parseFieldDescriptor (TJ17 k).2.2.1 = some (tyJ17 k) := by decide +kernel
abbrev cJ17_init : ByteArray := prog_17_method_2_code
def yJ17_init : MethodName := ⟨RJ17, "<init>", "(Ljava/lang/String;)V"⟩
def dkwJ17_init_0 : List UInt8 := [42, 43, 183, 0, 7, 177]
abbrev dktJ17_init_0 : List UInt8 := dkwJ17_init_0 ++ []
theorem dksJ17_init_0 : cJ17_init.data.toList.drop 0 = dktJ17_init_0 := by decide +kernel
theorem dJ17_init_0 : decode cJ17_init 0 = .ok (.aload_n 0, 1) := dk_42 (dk_at dksJ17_init_0 0 rfl rfl)
theorem dJ17_init_1 : decode cJ17_init 1 = .ok (.aload_n 1, 1) := dk_43 (dk_at dksJ17_init_0 1 rfl rfl)
theorem dJ17_init_2 : decode cJ17_init 2 = .ok (.invokespecial 7, 3) := dk_183 0 7 (dk_at dksJ17_init_0 2 rfl rfl)
theorem dJ17_init_5 : decode cJ17_init 5 = .ok (.return_, 1) := dk_177 (dk_at dksJ17_init_0 5 rfl rfl)
theorem q82 : (Jvm.Cond.initialized "java/lang/ArrayStoreException") ∈ lw_all := lw_g (lw_at lw_m1 32 rfl) rfl
theorem q192 : (Jvm.Cond.selects "java/lang/ArrayStoreException" ({ cls := "java/lang/Throwable", name := "fillInStackTrace", desc := "()Ljava/lang/Throwable;" } : Jvm.MethodName) ({ cls := "java/lang/Throwable", name := "fillInStackTrace", desc := "()Ljava/lang/Throwable;" } : Jvm.MethodName)) ∈ lw_all := lw_g (lw_at lw_m1 142 rfl) rfl
theorem q638 : (Jvm.Cond.selects "java/lang/ArrayStoreException" ({ cls := "java/lang/Object", name := "getClass", desc := "()Ljava/lang/Class;" } : Jvm.MethodName) ({ cls := "java/lang/Object", name := "getClass", desc := "()Ljava/lang/Class;" } : Jvm.MethodName)) ∈ lw_all := lw_g (lw_at lw_m3 108 rfl) rfl
theorem q1001 : (Jvm.Cond.instantiable "java/lang/ArrayStoreException" (6 : Nat)) ∈ lw_all := lw_g (lw_at lw_m4 231 rfl) rfl
theorem q1002 : (Jvm.Cond.instanceMethod ({ cls := "java/lang/ArrayStoreException", name := "<init>", desc := "(Ljava/lang/String;)V" } : Jvm.MethodName)) ∈ lw_all := lw_g (lw_at lw_m4 232 rfl) rfl
theorem q1003 : (Jvm.Cond.code ({ cls := "java/lang/ArrayStoreException", name := "<init>", desc := "(Ljava/lang/String;)V" } : Jvm.MethodName) prog_17_method_2_code (2 : Nat) (Option.none : Option Jvm.ClassFile.FieldType)) ∈ lw_all := lw_g (lw_at lw_m4 233 rfl) rfl
theorem q1004 : (Jvm.Cond.methodLink "java/lang/ArrayStoreException" (7 : Nat) ({ cls := "java/lang/RuntimeException", name := "<init>", desc := "(Ljava/lang/String;)V" } : Jvm.MethodName)) ∈ lw_all := lw_g (lw_at lw_m4 234 rfl) rfl
theorem q1005 : (Jvm.Cond.lays "java/lang/ArrayStoreException" "java/lang/Throwable" "backtrace" "Ljava/lang/Object;") ∈ lw_all := lw_g (lw_at lw_m4 235 rfl) rfl
theorem q1006 : (Jvm.Cond.lays "java/lang/ArrayStoreException" "java/lang/Throwable" "detailMessage" "Ljava/lang/String;") ∈ lw_all := lw_g (lw_at lw_m4 236 rfl) rfl
theorem q1007 : (Jvm.Cond.lays "java/lang/ArrayStoreException" "java/lang/Throwable" "cause" "Ljava/lang/Throwable;") ∈ lw_all := lw_g (lw_at lw_m4 237 rfl) rfl
theorem q1008 : (Jvm.Cond.lays "java/lang/ArrayStoreException" "java/lang/Throwable" "stackTrace" "[Ljava/lang/StackTraceElement;") ∈ lw_all := lw_g (lw_at lw_m4 238 rfl) rfl
theorem q1009 : (Jvm.Cond.lays "java/lang/ArrayStoreException" "java/lang/Throwable" "depth" "I") ∈ lw_all := lw_g (lw_at lw_m4 239 rfl) rfl
theorem q1010 : (Jvm.Cond.lays "java/lang/ArrayStoreException" "java/lang/Throwable" "suppressedExceptions" "Ljava/util/List;") ∈ lw_all := lw_g (lw_at lw_m5 0 rfl) rfl
theorem q1011 : (Jvm.Cond.superclass "java/lang/ArrayStoreException" "java/lang/RuntimeException") ∈ lw_all := lw_g (lw_at lw_m5 1 rfl) rfl
theorem q1012 : (Jvm.Cond.castable "java/lang/ArrayStoreException" "java/lang/ArrayStoreException") ∈ lw_tbl := lw_at lw_m5 2 rfl
theorem q1013 : (Jvm.Cond.selects "java/lang/ArrayStoreException" ({ cls := "java/lang/Throwable", name := "fillInStackTrace", desc := "(I)Ljava/lang/Throwable;" } : Jvm.MethodName) ({ cls := "java/lang/Throwable", name := "fillInStackTrace", desc := "(I)Ljava/lang/Throwable;" } : Jvm.MethodName)) ∈ lw_all := lw_g (lw_at lw_m5 3 rfl) rfl
theorem q1430 : (Jvm.Cond.castable "java/lang/ArrayStoreException" "java/lang/Object") ∈ lw_tbl := lw_at lw_m6 180 rfl
theorem in_J17 : ∀ w ∈ wsJ170, w ∈ lw_all := lw_in wsJ170 [1005, 1006, 1007, 1008, 1009, 1010] (by decide +kernel) (by decide +kernel)

/-! java/lang/Object -/
set_option maxRecDepth 100000
def RJ18 : String := "java/lang/Object"
abbrev cJ18_init : ByteArray := object_method_1_code
def yJ18_init : MethodName := ⟨RJ18, "<init>", "()V"⟩
theorem dJ18_init_0 : decode cJ18_init 0 = .ok (.return_, 1) := by decide +kernel
theorem q89 : (Jvm.Cond.instanceMethod ({ cls := "java/lang/Object", name := "<init>", desc := "()V" } : Jvm.MethodName)) ∈ lw_all := lw_g (lw_at lw_m1 39 rfl) rfl
theorem q90 : (Jvm.Cond.code ({ cls := "java/lang/Object", name := "<init>", desc := "()V" } : Jvm.MethodName) object_method_1_code (1 : Nat) (Option.none : Option Jvm.ClassFile.FieldType)) ∈ lw_all := lw_g (lw_at lw_m1 40 rfl) rfl
theorem q623 : (Jvm.Cond.instanceMethod ({ cls := "java/lang/Object", name := "getClass", desc := "()Ljava/lang/Class;" } : Jvm.MethodName)) ∈ lw_all := lw_g (lw_at lw_m3 93 rfl) rfl
theorem q624 : (Jvm.Cond.sameMethod "java/lang/Object" "java/lang/Object" "getClass" "()Ljava/lang/Class;") ∈ lw_all := lw_g (lw_at lw_m3 94 rfl) rfl
theorem q643 : (Jvm.Cond.native ({ cls := "java/lang/Object", name := "getClass", desc := "()Ljava/lang/Class;" } : Jvm.MethodName)) ∈ lw_all := lw_g (lw_at lw_m3 113 rfl) rfl
theorem q1435 : (Jvm.Cond.declares ({ cls := "java/lang/Object", name := "getClass", desc := "()Ljava/lang/Class;" } : Jvm.MethodName)) ∈ lw_tbl := lw_at lw_m6 185 rfl

/-! java/util/ArrayList -/
set_option maxRecDepth 100000
def RJ2 : String := "java/util/ArrayList"
def TJ2 : u_T := fun k => match k with
  | 0 => ("java/util/AbstractList", "modCount", "I", false)
  | 1 => ("java/util/ArrayList", "elementData", "[Ljava/lang/Object;", false)
  | _ => ("java/util/ArrayList", "size", "I", false)
def tyJ2 : Nat → FieldType := fun k => match k with
  | 0 => .int
  | 1 => .array (.object "java/lang/Object")
  | _ => .int
abbrev wsJ20 : List Cond := u_ws RJ2 TJ2 3
theorem nmJ2 : ∀ a, a < 3 → ∀ b, b < 3 → a ≠ b → (TJ2 a).2.1 ≠ (TJ2 b).2.1 := by decide +kernel
theorem tyJ2_ok : ∀ k, k < 3 → parseFieldDescriptor (TJ2 k).2.2.1 = some (tyJ2 k) := by decide +kernel
abbrev cJ2_init : ByteArray := prog_32_method_2_code
def yJ2_init : MethodName := ⟨RJ2, "<init>", "()V"⟩
def dkwJ2_init_0 : List UInt8 := [42, 183, 0, 1, 42, 178, 0, 39, 181, 0, 9, 177]
abbrev dktJ2_init_0 : List UInt8 := dkwJ2_init_0 ++ []
theorem dksJ2_init_0 : cJ2_init.data.toList.drop 0 = dktJ2_init_0 := by decide +kernel
theorem dJ2_init_0 : decode cJ2_init 0 = .ok (.aload_n 0, 1) := dk_42 (dk_at dksJ2_init_0 0 rfl rfl)
theorem dJ2_init_1 : decode cJ2_init 1 = .ok (.invokespecial 1, 3) := dk_183 0 1 (dk_at dksJ2_init_0 1 rfl rfl)
theorem dJ2_init_4 : decode cJ2_init 4 = .ok (.aload_n 0, 1) := dk_42 (dk_at dksJ2_init_0 4 rfl rfl)
theorem dJ2_init_5 : decode cJ2_init 5 = .ok (.getstatic 39, 3) := dk_178 0 39 (dk_at dksJ2_init_0 5 rfl rfl)
theorem dJ2_init_8 : decode cJ2_init 8 = .ok (.putfield 9, 3) := dk_181 0 9 (dk_at dksJ2_init_0 8 rfl rfl)
theorem dJ2_init_11 : decode cJ2_init 11 = .ok (.return_, 1) := dk_177 (dk_at dksJ2_init_0 11 rfl rfl)
abbrev cJ2_size : ByteArray := prog_32_method_8_code
def yJ2_size : MethodName := ⟨RJ2, "size", "()I"⟩
theorem dJ2_size_0 : decode cJ2_size 0 = .ok (.aload_n 0, 1) := by decide +kernel
theorem dJ2_size_1 : decode cJ2_size 1 = .ok (.getfield 48, 3) := by decide +kernel
theorem dJ2_size_4 : decode cJ2_size 4 = .ok (.ireturn, 1) := by decide +kernel
abbrev cJ2_add : ByteArray := prog_32_method_25_code
def yJ2_add : MethodName := ⟨RJ2, "add", "(Ljava/lang/Object;)Z"⟩
def dkwJ2_add_1 : List UInt8 := [172]
abbrev dktJ2_add_1 : List UInt8 := dkwJ2_add_1 ++ []
def dkwJ2_add_0 : List UInt8 := [42, 89, 180, 0, 63, 4, 96, 181, 0, 63, 42, 43, 42, 180, 0, 9, 42, 180, 0, 48, 182, 0, 131, 4]
abbrev dktJ2_add_0 : List UInt8 := dkwJ2_add_0 ++ dktJ2_add_1
theorem dksJ2_add_0 : cJ2_add.data.toList.drop 0 = dktJ2_add_0 := by decide +kernel
theorem dksJ2_add_1 : cJ2_add.data.toList.drop 24 = dktJ2_add_1 := dk_seg dksJ2_add_0 24 rfl rfl
theorem dJ2_add_0 : decode cJ2_add 0 = .ok (.aload_n 0, 1) := dk_42 (dk_at dksJ2_add_0 0 rfl rfl)
theorem dJ2_add_1 : decode cJ2_add 1 = .ok (.dup, 1) := dk_89 (dk_at dksJ2_add_0 1 rfl rfl)
theorem dJ2_add_2 : decode cJ2_add 2 = .ok (.getfield 63, 3) := dk_180 0 63 (dk_at dksJ2_add_0 2 rfl rfl)
theorem dJ2_add_5 : decode cJ2_add 5 = .ok (.iconst 1, 1) := dk_4 (dk_at dksJ2_add_0 5 rfl rfl)
theorem dJ2_add_6 : decode cJ2_add 6 = .ok (.iadd, 1) := dk_96 (dk_at dksJ2_add_0 6 rfl rfl)
theorem dJ2_add_7 : decode cJ2_add 7 = .ok (.putfield 63, 3) := dk_181 0 63 (dk_at dksJ2_add_0 7 rfl rfl)
theorem dJ2_add_10 : decode cJ2_add 10 = .ok (.aload_n 0, 1) := dk_42 (dk_at dksJ2_add_0 10 rfl rfl)
theorem dJ2_add_11 : decode cJ2_add 11 = .ok (.aload_n 1, 1) := dk_43 (dk_at dksJ2_add_0 11 rfl rfl)
theorem dJ2_add_12 : decode cJ2_add 12 = .ok (.aload_n 0, 1) := dk_42 (dk_at dksJ2_add_0 12 rfl rfl)
theorem dJ2_add_13 : decode cJ2_add 13 = .ok (.getfield 9, 3) := dk_180 0 9 (dk_at dksJ2_add_0 13 rfl rfl)
theorem dJ2_add_16 : decode cJ2_add 16 = .ok (.aload_n 0, 1) := dk_42 (dk_at dksJ2_add_0 16 rfl rfl)
theorem dJ2_add_17 : decode cJ2_add 17 = .ok (.getfield 48, 3) := dk_180 0 48 (dk_at dksJ2_add_0 17 rfl rfl)
theorem dJ2_add_20 : decode cJ2_add 20 = .ok (.invokevirtual 131, 3) := dk_182 0 131 (dk_at dksJ2_add_0 20 rfl rfl)
theorem dJ2_add_23 : decode cJ2_add 23 = .ok (.iconst 1, 1) := dk_4 (dk_at dksJ2_add_0 23 rfl rfl)
theorem dJ2_add_24 : decode cJ2_add 24 = .ok (.ireturn, 1) := dk_172 (dk_at dksJ2_add_1 0 rfl rfl)
abbrev cJ2_add_2 : ByteArray := prog_32_method_24_code
def yJ2_add_2 : MethodName := ⟨RJ2, "add", "(Ljava/lang/Object;[Ljava/lang/Object;I)V"⟩
def dkwJ2_add_2_0 : List UInt8 := [29, 44, 190, 160, 0, 8, 42, 182, 0, 129, 77, 44, 29, 43, 83, 42, 29, 4, 96, 181, 0, 48, 177]
abbrev dktJ2_add_2_0 : List UInt8 := dkwJ2_add_2_0 ++ []
theorem dksJ2_add_2_0 : cJ2_add_2.data.toList.drop 0 = dktJ2_add_2_0 := by decide +kernel
theorem dJ2_add_2_0 : decode cJ2_add_2 0 = .ok (.iload_n 3, 1) := dk_29 (dk_at dksJ2_add_2_0 0 rfl rfl)
theorem dJ2_add_2_1 : decode cJ2_add_2 1 = .ok (.aload_n 2, 1) := dk_44 (dk_at dksJ2_add_2_0 1 rfl rfl)
theorem dJ2_add_2_2 : decode cJ2_add_2 2 = .ok (.arraylength, 1) := dk_190 (dk_at dksJ2_add_2_0 2 rfl rfl)
theorem dJ2_add_2_3 : decode cJ2_add_2 3 = .ok (.if_icmp .ne 8, 3) := dk_160 0 8 (dk_at dksJ2_add_2_0 3 rfl rfl)
theorem dJ2_add_2_6 : decode cJ2_add_2 6 = .ok (.aload_n 0, 1) := dk_42 (dk_at dksJ2_add_2_0 6 rfl rfl)
theorem dJ2_add_2_7 : decode cJ2_add_2 7 = .ok (.invokevirtual 129, 3) := dk_182 0 129 (dk_at dksJ2_add_2_0 7 rfl rfl)
theorem dJ2_add_2_10 : decode cJ2_add_2 10 = .ok (.astore_n 2, 1) := dk_77 (dk_at dksJ2_add_2_0 10 rfl rfl)
theorem dJ2_add_2_11 : decode cJ2_add_2 11 = .ok (.aload_n 2, 1) := dk_44 (dk_at dksJ2_add_2_0 11 rfl rfl)
theorem dJ2_add_2_12 : decode cJ2_add_2 12 = .ok (.iload_n 3, 1) := dk_29 (dk_at dksJ2_add_2_0 12 rfl rfl)
theorem dJ2_add_2_13 : decode cJ2_add_2 13 = .ok (.aload_n 1, 1) := dk_43 (dk_at dksJ2_add_2_0 13 rfl rfl)
theorem dJ2_add_2_14 : decode cJ2_add_2 14 = .ok (.aastore, 1) := dk_83 (dk_at dksJ2_add_2_0 14 rfl rfl)
theorem dJ2_add_2_15 : decode cJ2_add_2 15 = .ok (.aload_n 0, 1) := dk_42 (dk_at dksJ2_add_2_0 15 rfl rfl)
theorem dJ2_add_2_16 : decode cJ2_add_2 16 = .ok (.iload_n 3, 1) := dk_29 (dk_at dksJ2_add_2_0 16 rfl rfl)
theorem dJ2_add_2_17 : decode cJ2_add_2 17 = .ok (.iconst 1, 1) := dk_4 (dk_at dksJ2_add_2_0 17 rfl rfl)
theorem dJ2_add_2_18 : decode cJ2_add_2 18 = .ok (.iadd, 1) := dk_96 (dk_at dksJ2_add_2_0 18 rfl rfl)
theorem dJ2_add_2_19 : decode cJ2_add_2 19 = .ok (.putfield 48, 3) := dk_181 0 48 (dk_at dksJ2_add_2_0 19 rfl rfl)
theorem dJ2_add_2_22 : decode cJ2_add_2 22 = .ok (.return_, 1) := dk_177 (dk_at dksJ2_add_2_0 22 rfl rfl)
abbrev cJ2_grow : ByteArray := prog_32_method_7_code
def yJ2_grow : MethodName := ⟨RJ2, "grow", "()[Ljava/lang/Object;"⟩
def dkwJ2_grow_0 : List UInt8 := [42, 42, 180, 0, 48, 4, 96, 182, 0, 69, 176]
abbrev dktJ2_grow_0 : List UInt8 := dkwJ2_grow_0 ++ []
theorem dksJ2_grow_0 : cJ2_grow.data.toList.drop 0 = dktJ2_grow_0 := by decide +kernel
theorem dJ2_grow_0 : decode cJ2_grow 0 = .ok (.aload_n 0, 1) := dk_42 (dk_at dksJ2_grow_0 0 rfl rfl)
theorem dJ2_grow_1 : decode cJ2_grow 1 = .ok (.aload_n 0, 1) := dk_42 (dk_at dksJ2_grow_0 1 rfl rfl)
theorem dJ2_grow_2 : decode cJ2_grow 2 = .ok (.getfield 48, 3) := dk_180 0 48 (dk_at dksJ2_grow_0 2 rfl rfl)
theorem dJ2_grow_5 : decode cJ2_grow 5 = .ok (.iconst 1, 1) := dk_4 (dk_at dksJ2_grow_0 5 rfl rfl)
theorem dJ2_grow_6 : decode cJ2_grow 6 = .ok (.iadd, 1) := dk_96 (dk_at dksJ2_grow_0 6 rfl rfl)
theorem dJ2_grow_7 : decode cJ2_grow 7 = .ok (.invokevirtual 69, 3) := dk_182 0 69 (dk_at dksJ2_grow_0 7 rfl rfl)
theorem dJ2_grow_10 : decode cJ2_grow 10 = .ok (.areturn, 1) := dk_176 (dk_at dksJ2_grow_0 10 rfl rfl)
abbrev cJ2_grow_2 : ByteArray := prog_32_method_6_code
def yJ2_grow_2 : MethodName := ⟨RJ2, "grow", "(I)[Ljava/lang/Object;"⟩
def dkwJ2_grow_2_2 : List UInt8 := [27, 184, 0, 79, 189, 0, 7, 90, 181, 0, 9, 176]
abbrev dktJ2_grow_2_2 : List UInt8 := dkwJ2_grow_2_2 ++ []
def dkwJ2_grow_2_1 : List UInt8 := [28, 4, 122, 184, 0, 73, 62, 42, 42, 180, 0, 9, 29, 184, 0, 66, 90, 181, 0, 9, 176, 42, 16, 10]
abbrev dktJ2_grow_2_1 : List UInt8 := dkwJ2_grow_2_1 ++ dktJ2_grow_2_2
def dkwJ2_grow_2_0 : List UInt8 := [42, 180, 0, 9, 190, 61, 28, 157, 0, 13, 42, 180, 0, 9, 178, 0, 39, 165, 0, 28, 28, 27, 28, 100]
abbrev dktJ2_grow_2_0 : List UInt8 := dkwJ2_grow_2_0 ++ dktJ2_grow_2_1
theorem dksJ2_grow_2_0 : cJ2_grow_2.data.toList.drop 0 = dktJ2_grow_2_0 := by decide +kernel
theorem dksJ2_grow_2_1 : cJ2_grow_2.data.toList.drop 24 = dktJ2_grow_2_1 := dk_seg dksJ2_grow_2_0 24 rfl rfl
theorem dksJ2_grow_2_2 : cJ2_grow_2.data.toList.drop 48 = dktJ2_grow_2_2 := dk_seg dksJ2_grow_2_1 24 rfl rfl
theorem dJ2_grow_2_0 : decode cJ2_grow_2 0 = .ok (.aload_n 0, 1) := dk_42 (dk_at dksJ2_grow_2_0 0 rfl rfl)
theorem dJ2_grow_2_1 : decode cJ2_grow_2 1 = .ok (.getfield 9, 3) := dk_180 0 9 (dk_at dksJ2_grow_2_0 1 rfl rfl)
theorem dJ2_grow_2_4 : decode cJ2_grow_2 4 = .ok (.arraylength, 1) := dk_190 (dk_at dksJ2_grow_2_0 4 rfl rfl)
theorem dJ2_grow_2_5 : decode cJ2_grow_2 5 = .ok (.istore_n 2, 1) := dk_61 (dk_at dksJ2_grow_2_0 5 rfl rfl)
theorem dJ2_grow_2_6 : decode cJ2_grow_2 6 = .ok (.iload_n 2, 1) := dk_28 (dk_at dksJ2_grow_2_0 6 rfl rfl)
theorem dJ2_grow_2_7 : decode cJ2_grow_2 7 = .ok (.ifCond .gt 13, 3) := dk_157 0 13 (dk_at dksJ2_grow_2_0 7 rfl rfl)
theorem dJ2_grow_2_10 : decode cJ2_grow_2 10 = .ok (.aload_n 0, 1) := dk_42 (dk_at dksJ2_grow_2_0 10 rfl rfl)
theorem dJ2_grow_2_11 : decode cJ2_grow_2 11 = .ok (.getfield 9, 3) := dk_180 0 9 (dk_at dksJ2_grow_2_0 11 rfl rfl)
theorem dJ2_grow_2_14 : decode cJ2_grow_2 14 = .ok (.getstatic 39, 3) := dk_178 0 39 (dk_at dksJ2_grow_2_0 14 rfl rfl)
theorem dJ2_grow_2_17 : decode cJ2_grow_2 17 = .ok (.if_acmp .eq 28, 3) := dk_165 0 28 (dk_at dksJ2_grow_2_0 17 rfl rfl)
theorem dJ2_grow_2_20 : decode cJ2_grow_2 20 = .ok (.iload_n 2, 1) := dk_28 (dk_at dksJ2_grow_2_0 20 rfl rfl)
theorem dJ2_grow_2_21 : decode cJ2_grow_2 21 = .ok (.iload_n 1, 1) := dk_27 (dk_at dksJ2_grow_2_0 21 rfl rfl)
theorem dJ2_grow_2_22 : decode cJ2_grow_2 22 = .ok (.iload_n 2, 1) := dk_28 (dk_at dksJ2_grow_2_0 22 rfl rfl)
theorem dJ2_grow_2_23 : decode cJ2_grow_2 23 = .ok (.isub, 1) := dk_100 (dk_at dksJ2_grow_2_0 23 rfl rfl)
theorem dJ2_grow_2_24 : decode cJ2_grow_2 24 = .ok (.iload_n 2, 1) := dk_28 (dk_at dksJ2_grow_2_1 0 rfl rfl)
theorem dJ2_grow_2_25 : decode cJ2_grow_2 25 = .ok (.iconst 1, 1) := dk_4 (dk_at dksJ2_grow_2_1 1 rfl rfl)
theorem dJ2_grow_2_26 : decode cJ2_grow_2 26 = .ok (.ishr, 1) := dk_122 (dk_at dksJ2_grow_2_1 2 rfl rfl)
theorem dJ2_grow_2_27 : decode cJ2_grow_2 27 = .ok (.invokestatic 73, 3) := dk_184 0 73 (dk_at dksJ2_grow_2_1 3 rfl rfl)
theorem dJ2_grow_2_30 : decode cJ2_grow_2 30 = .ok (.istore_n 3, 1) := dk_62 (dk_at dksJ2_grow_2_1 6 rfl rfl)
theorem dJ2_grow_2_31 : decode cJ2_grow_2 31 = .ok (.aload_n 0, 1) := dk_42 (dk_at dksJ2_grow_2_1 7 rfl rfl)
theorem dJ2_grow_2_32 : decode cJ2_grow_2 32 = .ok (.aload_n 0, 1) := dk_42 (dk_at dksJ2_grow_2_1 8 rfl rfl)
theorem dJ2_grow_2_33 : decode cJ2_grow_2 33 = .ok (.getfield 9, 3) := dk_180 0 9 (dk_at dksJ2_grow_2_1 9 rfl rfl)
theorem dJ2_grow_2_36 : decode cJ2_grow_2 36 = .ok (.iload_n 3, 1) := dk_29 (dk_at dksJ2_grow_2_1 12 rfl rfl)
theorem dJ2_grow_2_37 : decode cJ2_grow_2 37 = .ok (.invokestatic 66, 3) := dk_184 0 66 (dk_at dksJ2_grow_2_1 13 rfl rfl)
theorem dJ2_grow_2_40 : decode cJ2_grow_2 40 = .ok (.dup_x1, 1) := dk_90 (dk_at dksJ2_grow_2_1 16 rfl rfl)
theorem dJ2_grow_2_41 : decode cJ2_grow_2 41 = .ok (.putfield 9, 3) := dk_181 0 9 (dk_at dksJ2_grow_2_1 17 rfl rfl)
theorem dJ2_grow_2_44 : decode cJ2_grow_2 44 = .ok (.areturn, 1) := dk_176 (dk_at dksJ2_grow_2_1 20 rfl rfl)
theorem dJ2_grow_2_45 : decode cJ2_grow_2 45 = .ok (.aload_n 0, 1) := dk_42 (dk_at dksJ2_grow_2_1 21 rfl rfl)
theorem dJ2_grow_2_46 : decode cJ2_grow_2 46 = .ok (.bipush 10, 2) := dk_16 10 (dk_at dksJ2_grow_2_1 22 rfl rfl)
theorem dJ2_grow_2_48 : decode cJ2_grow_2 48 = .ok (.iload_n 1, 1) := dk_27 (dk_at dksJ2_grow_2_2 0 rfl rfl)
theorem dJ2_grow_2_49 : decode cJ2_grow_2 49 = .ok (.invokestatic 79, 3) := dk_184 0 79 (dk_at dksJ2_grow_2_2 1 rfl rfl)
theorem dJ2_grow_2_52 : decode cJ2_grow_2 52 = .ok (.anewarray 7, 3) := dk_189 0 7 (dk_at dksJ2_grow_2_2 4 rfl rfl)
theorem dJ2_grow_2_55 : decode cJ2_grow_2 55 = .ok (.dup_x1, 1) := dk_90 (dk_at dksJ2_grow_2_2 7 rfl rfl)
theorem dJ2_grow_2_56 : decode cJ2_grow_2 56 = .ok (.putfield 9, 3) := dk_181 0 9 (dk_at dksJ2_grow_2_2 8 rfl rfl)
theorem dJ2_grow_2_59 : decode cJ2_grow_2 59 = .ok (.areturn, 1) := dk_176 (dk_at dksJ2_grow_2_2 11 rfl rfl)
abbrev cJ2_get : ByteArray := prog_32_method_20_code
def yJ2_get : MethodName := ⟨RJ2, "get", "(I)Ljava/lang/Object;"⟩
def dkwJ2_get_0 : List UInt8 := [27, 42, 180, 0, 48, 184, 0, 118, 87, 42, 27, 182, 0, 123, 176]
abbrev dktJ2_get_0 : List UInt8 := dkwJ2_get_0 ++ []
theorem dksJ2_get_0 : cJ2_get.data.toList.drop 0 = dktJ2_get_0 := by decide +kernel
theorem dJ2_get_0 : decode cJ2_get 0 = .ok (.iload_n 1, 1) := dk_27 (dk_at dksJ2_get_0 0 rfl rfl)
theorem dJ2_get_1 : decode cJ2_get 1 = .ok (.aload_n 0, 1) := dk_42 (dk_at dksJ2_get_0 1 rfl rfl)
theorem dJ2_get_2 : decode cJ2_get 2 = .ok (.getfield 48, 3) := dk_180 0 48 (dk_at dksJ2_get_0 2 rfl rfl)
theorem dJ2_get_5 : decode cJ2_get 5 = .ok (.invokestatic 118, 3) := dk_184 0 118 (dk_at dksJ2_get_0 5 rfl rfl)
theorem dJ2_get_8 : decode cJ2_get 8 = .ok (.pop, 1) := dk_87 (dk_at dksJ2_get_0 8 rfl rfl)
theorem dJ2_get_9 : decode cJ2_get 9 = .ok (.aload_n 0, 1) := dk_42 (dk_at dksJ2_get_0 9 rfl rfl)
theorem dJ2_get_10 : decode cJ2_get 10 = .ok (.iload_n 1, 1) := dk_27 (dk_at dksJ2_get_0 10 rfl rfl)
theorem dJ2_get_11 : decode cJ2_get 11 = .ok (.invokevirtual 123, 3) := dk_182 0 123 (dk_at dksJ2_get_0 11 rfl rfl)
theorem dJ2_get_14 : decode cJ2_get 14 = .ok (.areturn, 1) := dk_176 (dk_at dksJ2_get_0 14 rfl rfl)
abbrev cJ2_elementData : ByteArray := prog_32_method_18_code
def yJ2_elementData : MethodName := ⟨RJ2, "elementData", "(I)Ljava/lang/Object;"⟩
def dkwJ2_elementData_0 : List UInt8 := [42, 180, 0, 9, 27, 50, 176]
abbrev dktJ2_elementData_0 : List UInt8 := dkwJ2_elementData_0 ++ []
theorem dksJ2_elementData_0 : cJ2_elementData.data.toList.drop 0 = dktJ2_elementData_0 := by decide +kernel
theorem dJ2_elementData_0 : decode cJ2_elementData 0 = .ok (.aload_n 0, 1) := dk_42 (dk_at dksJ2_elementData_0 0 rfl rfl)
theorem dJ2_elementData_1 : decode cJ2_elementData 1 = .ok (.getfield 9, 3) := dk_180 0 9 (dk_at dksJ2_elementData_0 1 rfl rfl)
theorem dJ2_elementData_4 : decode cJ2_elementData 4 = .ok (.iload_n 1, 1) := dk_27 (dk_at dksJ2_elementData_0 4 rfl rfl)
theorem dJ2_elementData_5 : decode cJ2_elementData 5 = .ok (.aaload, 1) := dk_50 (dk_at dksJ2_elementData_0 5 rfl rfl)
theorem dJ2_elementData_6 : decode cJ2_elementData 6 = .ok (.areturn, 1) := dk_176 (dk_at dksJ2_elementData_0 6 rfl rfl)
abbrev cJ2_clear : ByteArray := prog_32_method_40_code
def yJ2_clear : MethodName := ⟨RJ2, "clear", "()V"⟩
def dkwJ2_clear_1 : List UInt8 := [181, 0, 48, 62, 29, 28, 162, 0, 13, 43, 29, 1, 83, 132, 3, 1, 167, 255, 244, 177]
abbrev dktJ2_clear_1 : List UInt8 := dkwJ2_clear_1 ++ []
def dkwJ2_clear_0 : List UInt8 := [42, 89, 180, 0, 63, 4, 96, 181, 0, 63, 42, 180, 0, 9, 76, 42, 180, 0, 48, 61, 42, 3, 90]
abbrev dktJ2_clear_0 : List UInt8 := dkwJ2_clear_0 ++ dktJ2_clear_1
theorem dksJ2_clear_0 : cJ2_clear.data.toList.drop 0 = dktJ2_clear_0 := by decide +kernel
theorem dksJ2_clear_1 : cJ2_clear.data.toList.drop 23 = dktJ2_clear_1 := dk_seg dksJ2_clear_0 23 rfl rfl
theorem dJ2_clear_0 : decode cJ2_clear 0 = .ok (.aload_n 0, 1) := dk_42 (dk_at dksJ2_clear_0 0 rfl rfl)
theorem dJ2_clear_1 : decode cJ2_clear 1 = .ok (.dup, 1) := dk_89 (dk_at dksJ2_clear_0 1 rfl rfl)
theorem dJ2_clear_2 : decode cJ2_clear 2 = .ok (.getfield 63, 3) := dk_180 0 63 (dk_at dksJ2_clear_0 2 rfl rfl)
theorem dJ2_clear_5 : decode cJ2_clear 5 = .ok (.iconst 1, 1) := dk_4 (dk_at dksJ2_clear_0 5 rfl rfl)
theorem dJ2_clear_6 : decode cJ2_clear 6 = .ok (.iadd, 1) := dk_96 (dk_at dksJ2_clear_0 6 rfl rfl)
theorem dJ2_clear_7 : decode cJ2_clear 7 = .ok (.putfield 63, 3) := dk_181 0 63 (dk_at dksJ2_clear_0 7 rfl rfl)
theorem dJ2_clear_10 : decode cJ2_clear 10 = .ok (.aload_n 0, 1) := dk_42 (dk_at dksJ2_clear_0 10 rfl rfl)
theorem dJ2_clear_11 : decode cJ2_clear 11 = .ok (.getfield 9, 3) := dk_180 0 9 (dk_at dksJ2_clear_0 11 rfl rfl)
theorem dJ2_clear_14 : decode cJ2_clear 14 = .ok (.astore_n 1, 1) := dk_76 (dk_at dksJ2_clear_0 14 rfl rfl)
theorem dJ2_clear_15 : decode cJ2_clear 15 = .ok (.aload_n 0, 1) := dk_42 (dk_at dksJ2_clear_0 15 rfl rfl)
theorem dJ2_clear_16 : decode cJ2_clear 16 = .ok (.getfield 48, 3) := dk_180 0 48 (dk_at dksJ2_clear_0 16 rfl rfl)
theorem dJ2_clear_19 : decode cJ2_clear 19 = .ok (.istore_n 2, 1) := dk_61 (dk_at dksJ2_clear_0 19 rfl rfl)
theorem dJ2_clear_20 : decode cJ2_clear 20 = .ok (.aload_n 0, 1) := dk_42 (dk_at dksJ2_clear_0 20 rfl rfl)
theorem dJ2_clear_21 : decode cJ2_clear 21 = .ok (.iconst 0, 1) := dk_3 (dk_at dksJ2_clear_0 21 rfl rfl)
theorem dJ2_clear_22 : decode cJ2_clear 22 = .ok (.dup_x1, 1) := dk_90 (dk_at dksJ2_clear_0 22 rfl rfl)
theorem dJ2_clear_23 : decode cJ2_clear 23 = .ok (.putfield 48, 3) := dk_181 0 48 (dk_at dksJ2_clear_1 0 rfl rfl)
theorem dJ2_clear_26 : decode cJ2_clear 26 = .ok (.istore_n 3, 1) := dk_62 (dk_at dksJ2_clear_1 3 rfl rfl)
theorem dJ2_clear_27 : decode cJ2_clear 27 = .ok (.iload_n 3, 1) := dk_29 (dk_at dksJ2_clear_1 4 rfl rfl)
theorem dJ2_clear_28 : decode cJ2_clear 28 = .ok (.iload_n 2, 1) := dk_28 (dk_at dksJ2_clear_1 5 rfl rfl)
theorem dJ2_clear_29 : decode cJ2_clear 29 = .ok (.if_icmp .ge 13, 3) := dk_162 0 13 (dk_at dksJ2_clear_1 6 rfl rfl)
theorem dJ2_clear_32 : decode cJ2_clear 32 = .ok (.aload_n 1, 1) := dk_43 (dk_at dksJ2_clear_1 9 rfl rfl)
theorem dJ2_clear_33 : decode cJ2_clear 33 = .ok (.iload_n 3, 1) := dk_29 (dk_at dksJ2_clear_1 10 rfl rfl)
theorem dJ2_clear_34 : decode cJ2_clear 34 = .ok (.aconst_null, 1) := dk_1 (dk_at dksJ2_clear_1 11 rfl rfl)
theorem dJ2_clear_35 : decode cJ2_clear 35 = .ok (.aastore, 1) := dk_83 (dk_at dksJ2_clear_1 12 rfl rfl)
theorem dJ2_clear_36 : decode cJ2_clear 36 = .ok (.iinc 3 1, 3) := dk_132 3 1 (dk_at dksJ2_clear_1 13 rfl rfl)
theorem dJ2_clear_39 : decode cJ2_clear 39 = .ok (.goto (-12), 3) := dk_167 255 244 (dk_at dksJ2_clear_1 16 rfl rfl)
theorem dJ2_clear_42 : decode cJ2_clear 42 = .ok (.return_, 1) := dk_177 (dk_at dksJ2_clear_1 19 rfl rfl)
abbrev cJ2_addAll : ByteArray := prog_32_method_41_code
def yJ2_addAll : MethodName := ⟨RJ2, "addAll", "(Ljava/util/Collection;)Z"⟩
def dkwJ2_addAll_3 : List UInt8 := [181, 0, 48, 4, 172]
abbrev dktJ2_addAll_3 : List UInt8 := dkwJ2_addAll_3 ++ []
def dkwJ2_addAll_2 : List UInt8 := [21, 5, 29, 96, 182, 0, 69, 58, 4, 44, 3, 25, 4, 21, 5, 29, 184, 0, 112, 42, 21, 5, 29, 96]
abbrev dktJ2_addAll_2 : List UInt8 := dkwJ2_addAll_2 ++ dktJ2_addAll_3
def dkwJ2_addAll_1 : List UInt8 := [3, 172, 29, 42, 180, 0, 9, 89, 58, 4, 190, 42, 180, 0, 48, 89, 54, 5, 100, 164, 0, 13, 42]
abbrev dktJ2_addAll_1 : List UInt8 := dkwJ2_addAll_1 ++ dktJ2_addAll_2
def dkwJ2_addAll_0 : List UInt8 := [43, 185, 0, 42, 1, 0, 77, 42, 89, 180, 0, 63, 4, 96, 181, 0, 63, 44, 190, 62, 29, 154, 0, 5]
abbrev dktJ2_addAll_0 : List UInt8 := dkwJ2_addAll_0 ++ dktJ2_addAll_1
theorem dksJ2_addAll_0 : cJ2_addAll.data.toList.drop 0 = dktJ2_addAll_0 := by decide +kernel
theorem dksJ2_addAll_1 : cJ2_addAll.data.toList.drop 24 = dktJ2_addAll_1 := dk_seg dksJ2_addAll_0 24 rfl rfl
theorem dksJ2_addAll_2 : cJ2_addAll.data.toList.drop 47 = dktJ2_addAll_2 := dk_seg dksJ2_addAll_1 23 rfl rfl
theorem dksJ2_addAll_3 : cJ2_addAll.data.toList.drop 71 = dktJ2_addAll_3 := dk_seg dksJ2_addAll_2 24 rfl rfl
theorem dJ2_addAll_0 : decode cJ2_addAll 0 = .ok (.aload_n 1, 1) := dk_43 (dk_at dksJ2_addAll_0 0 rfl rfl)
theorem dJ2_addAll_1 : decode cJ2_addAll 1 = .ok (.invokeinterface 42 1, 5) := by decide +kernel
theorem dJ2_addAll_6 : decode cJ2_addAll 6 = .ok (.astore_n 2, 1) := dk_77 (dk_at dksJ2_addAll_0 6 rfl rfl)
theorem dJ2_addAll_7 : decode cJ2_addAll 7 = .ok (.aload_n 0, 1) := dk_42 (dk_at dksJ2_addAll_0 7 rfl rfl)
theorem dJ2_addAll_8 : decode cJ2_addAll 8 = .ok (.dup, 1) := dk_89 (dk_at dksJ2_addAll_0 8 rfl rfl)
theorem dJ2_addAll_9 : decode cJ2_addAll 9 = .ok (.getfield 63, 3) := dk_180 0 63 (dk_at dksJ2_addAll_0 9 rfl rfl)
theorem dJ2_addAll_12 : decode cJ2_addAll 12 = .ok (.iconst 1, 1) := dk_4 (dk_at dksJ2_addAll_0 12 rfl rfl)
theorem dJ2_addAll_13 : decode cJ2_addAll 13 = .ok (.iadd, 1) := dk_96 (dk_at dksJ2_addAll_0 13 rfl rfl)
theorem dJ2_addAll_14 : decode cJ2_addAll 14 = .ok (.putfield 63, 3) := dk_181 0 63 (dk_at dksJ2_addAll_0 14 rfl rfl)
theorem dJ2_addAll_17 : decode cJ2_addAll 17 = .ok (.aload_n 2, 1) := dk_44 (dk_at dksJ2_addAll_0 17 rfl rfl)
theorem dJ2_addAll_18 : decode cJ2_addAll 18 = .ok (.arraylength, 1) := dk_190 (dk_at dksJ2_addAll_0 18 rfl rfl)
theorem dJ2_addAll_19 : decode cJ2_addAll 19 = .ok (.istore_n 3, 1) := dk_62 (dk_at dksJ2_addAll_0 19 rfl rfl)
theorem dJ2_addAll_20 : decode cJ2_addAll 20 = .ok (.iload_n 3, 1) := dk_29 (dk_at dksJ2_addAll_0 20 rfl rfl)
theorem dJ2_addAll_21 : decode cJ2_addAll 21 = .ok (.ifCond .ne 5, 3) := dk_154 0 5 (dk_at dksJ2_addAll_0 21 rfl rfl)
theorem dJ2_addAll_24 : decode cJ2_addAll 24 = .ok (.iconst 0, 1) := dk_3 (dk_at dksJ2_addAll_1 0 rfl rfl)
theorem dJ2_addAll_25 : decode cJ2_addAll 25 = .ok (.ireturn, 1) := dk_172 (dk_at dksJ2_addAll_1 1 rfl rfl)
theorem dJ2_addAll_26 : decode cJ2_addAll 26 = .ok (.iload_n 3, 1) := dk_29 (dk_at dksJ2_addAll_1 2 rfl rfl)
theorem dJ2_addAll_27 : decode cJ2_addAll 27 = .ok (.aload_n 0, 1) := dk_42 (dk_at dksJ2_addAll_1 3 rfl rfl)
theorem dJ2_addAll_28 : decode cJ2_addAll 28 = .ok (.getfield 9, 3) := dk_180 0 9 (dk_at dksJ2_addAll_1 4 rfl rfl)
theorem dJ2_addAll_31 : decode cJ2_addAll 31 = .ok (.dup, 1) := dk_89 (dk_at dksJ2_addAll_1 7 rfl rfl)
theorem dJ2_addAll_32 : decode cJ2_addAll 32 = .ok (.astore 4, 2) := dk_58 4 (dk_at dksJ2_addAll_1 8 rfl rfl)
theorem dJ2_addAll_34 : decode cJ2_addAll 34 = .ok (.arraylength, 1) := dk_190 (dk_at dksJ2_addAll_1 10 rfl rfl)
theorem dJ2_addAll_35 : decode cJ2_addAll 35 = .ok (.aload_n 0, 1) := dk_42 (dk_at dksJ2_addAll_1 11 rfl rfl)
theorem dJ2_addAll_36 : decode cJ2_addAll 36 = .ok (.getfield 48, 3) := dk_180 0 48 (dk_at dksJ2_addAll_1 12 rfl rfl)
theorem dJ2_addAll_39 : decode cJ2_addAll 39 = .ok (.dup, 1) := dk_89 (dk_at dksJ2_addAll_1 15 rfl rfl)
theorem dJ2_addAll_40 : decode cJ2_addAll 40 = .ok (.istore 5, 2) := dk_54 5 (dk_at dksJ2_addAll_1 16 rfl rfl)
theorem dJ2_addAll_42 : decode cJ2_addAll 42 = .ok (.isub, 1) := dk_100 (dk_at dksJ2_addAll_1 18 rfl rfl)
theorem dJ2_addAll_43 : decode cJ2_addAll 43 = .ok (.if_icmp .le 13, 3) := dk_164 0 13 (dk_at dksJ2_addAll_1 19 rfl rfl)
theorem dJ2_addAll_46 : decode cJ2_addAll 46 = .ok (.aload_n 0, 1) := dk_42 (dk_at dksJ2_addAll_1 22 rfl rfl)
theorem dJ2_addAll_47 : decode cJ2_addAll 47 = .ok (.iload 5, 2) := dk_21 5 (dk_at dksJ2_addAll_2 0 rfl rfl)
theorem dJ2_addAll_49 : decode cJ2_addAll 49 = .ok (.iload_n 3, 1) := dk_29 (dk_at dksJ2_addAll_2 2 rfl rfl)
theorem dJ2_addAll_50 : decode cJ2_addAll 50 = .ok (.iadd, 1) := dk_96 (dk_at dksJ2_addAll_2 3 rfl rfl)
theorem dJ2_addAll_51 : decode cJ2_addAll 51 = .ok (.invokevirtual 69, 3) := dk_182 0 69 (dk_at dksJ2_addAll_2 4 rfl rfl)
theorem dJ2_addAll_54 : decode cJ2_addAll 54 = .ok (.astore 4, 2) := dk_58 4 (dk_at dksJ2_addAll_2 7 rfl rfl)
theorem dJ2_addAll_56 : decode cJ2_addAll 56 = .ok (.aload_n 2, 1) := dk_44 (dk_at dksJ2_addAll_2 9 rfl rfl)
theorem dJ2_addAll_57 : decode cJ2_addAll 57 = .ok (.iconst 0, 1) := dk_3 (dk_at dksJ2_addAll_2 10 rfl rfl)
theorem dJ2_addAll_58 : decode cJ2_addAll 58 = .ok (.aload 4, 2) := dk_25 4 (dk_at dksJ2_addAll_2 11 rfl rfl)
theorem dJ2_addAll_60 : decode cJ2_addAll 60 = .ok (.iload 5, 2) := dk_21 5 (dk_at dksJ2_addAll_2 13 rfl rfl)
theorem dJ2_addAll_62 : decode cJ2_addAll 62 = .ok (.iload_n 3, 1) := dk_29 (dk_at dksJ2_addAll_2 15 rfl rfl)
theorem dJ2_addAll_63 : decode cJ2_addAll 63 = .ok (.invokestatic 112, 3) := dk_184 0 112 (dk_at dksJ2_addAll_2 16 rfl rfl)
theorem dJ2_addAll_66 : decode cJ2_addAll 66 = .ok (.aload_n 0, 1) := dk_42 (dk_at dksJ2_addAll_2 19 rfl rfl)
theorem dJ2_addAll_67 : decode cJ2_addAll 67 = .ok (.iload 5, 2) := dk_21 5 (dk_at dksJ2_addAll_2 20 rfl rfl)
theorem dJ2_addAll_69 : decode cJ2_addAll 69 = .ok (.iload_n 3, 1) := dk_29 (dk_at dksJ2_addAll_2 22 rfl rfl)
theorem dJ2_addAll_70 : decode cJ2_addAll 70 = .ok (.iadd, 1) := dk_96 (dk_at dksJ2_addAll_2 23 rfl rfl)
theorem dJ2_addAll_71 : decode cJ2_addAll 71 = .ok (.putfield 48, 3) := dk_181 0 48 (dk_at dksJ2_addAll_3 0 rfl rfl)
theorem dJ2_addAll_74 : decode cJ2_addAll 74 = .ok (.iconst 1, 1) := dk_4 (dk_at dksJ2_addAll_3 3 rfl rfl)
theorem dJ2_addAll_75 : decode cJ2_addAll 75 = .ok (.ireturn, 1) := dk_172 (dk_at dksJ2_addAll_3 4 rfl rfl)
abbrev cJ2_toArray : ByteArray := prog_32_method_16_code
def yJ2_toArray : MethodName := ⟨RJ2, "toArray", "()[Ljava/lang/Object;"⟩
def dkwJ2_toArray_0 : List UInt8 := [42, 180, 0, 9, 42, 180, 0, 48, 184, 0, 66, 176]
abbrev dktJ2_toArray_0 : List UInt8 := dkwJ2_toArray_0 ++ []
theorem dksJ2_toArray_0 : cJ2_toArray.data.toList.drop 0 = dktJ2_toArray_0 := by decide +kernel
theorem dJ2_toArray_0 : decode cJ2_toArray 0 = .ok (.aload_n 0, 1) := dk_42 (dk_at dksJ2_toArray_0 0 rfl rfl)
theorem dJ2_toArray_1 : decode cJ2_toArray 1 = .ok (.getfield 9, 3) := dk_180 0 9 (dk_at dksJ2_toArray_0 1 rfl rfl)
theorem dJ2_toArray_4 : decode cJ2_toArray 4 = .ok (.aload_n 0, 1) := dk_42 (dk_at dksJ2_toArray_0 4 rfl rfl)
theorem dJ2_toArray_5 : decode cJ2_toArray 5 = .ok (.getfield 48, 3) := dk_180 0 48 (dk_at dksJ2_toArray_0 5 rfl rfl)
theorem dJ2_toArray_8 : decode cJ2_toArray 8 = .ok (.invokestatic 66, 3) := dk_184 0 66 (dk_at dksJ2_toArray_0 8 rfl rfl)
theorem dJ2_toArray_11 : decode cJ2_toArray 11 = .ok (.areturn, 1) := dk_176 (dk_at dksJ2_toArray_0 11 rfl rfl)
theorem q55 : (Jvm.Cond.initialized "java/util/ArrayList") ∈ lw_all := lw_g (lw_at lw_m1 5 rfl) rfl
theorem q98 : (Jvm.Cond.instantiable "java/util/ArrayList" (3 : Nat)) ∈ lw_all := lw_g (lw_at lw_m1 48 rfl) rfl
theorem q100 : (Jvm.Cond.instanceMethod ({ cls := "java/util/ArrayList", name := "<init>", desc := "()V" } : Jvm.MethodName)) ∈ lw_all := lw_g (lw_at lw_m1 50 rfl) rfl
theorem q101 : (Jvm.Cond.code ({ cls := "java/util/ArrayList", name := "<init>", desc := "()V" } : Jvm.MethodName) prog_32_method_2_code (1 : Nat) (Option.none : Option Jvm.ClassFile.FieldType)) ∈ lw_all := lw_g (lw_at lw_m1 51 rfl) rfl
theorem q102 : (Jvm.Cond.methodLink "java/util/ArrayList" (1 : Nat) ({ cls := "java/util/AbstractList", name := "<init>", desc := "()V" } : Jvm.MethodName)) ∈ lw_all := lw_g (lw_at lw_m1 52 rfl) rfl
theorem q109 : (Jvm.Cond.fieldLink "java/util/ArrayList" (39 : Nat) "java/util/ArrayList" "DEFAULTCAPACITY_EMPTY_ELEMENTDATA" "[Ljava/lang/Object;") ∈ lw_all := lw_g (lw_at lw_m1 59 rfl) rfl
theorem q110 : (Jvm.Cond.laysStatic "java/util/ArrayList" "DEFAULTCAPACITY_EMPTY_ELEMENTDATA" "[Ljava/lang/Object;") ∈ lw_tbl := lw_at lw_m1 60 rfl
theorem q111 : (Jvm.Cond.fieldLink "java/util/ArrayList" (9 : Nat) "java/util/ArrayList" "elementData" "[Ljava/lang/Object;") ∈ lw_all := lw_g (lw_at lw_m1 61 rfl) rfl
theorem q112 : (Jvm.Cond.fieldLink "java/util/ArrayList" (48 : Nat) "java/util/ArrayList" "size" "I") ∈ lw_all := lw_g (lw_at lw_m1 62 rfl) rfl
theorem q114 : (Jvm.Cond.fieldLink "java/util/ArrayList" (63 : Nat) "java/util/ArrayList" "modCount" "I") ∈ lw_all := lw_g (lw_at lw_m1 64 rfl) rfl
theorem q115 : (Jvm.Cond.sameField "java/util/ArrayList" "java/util/AbstractList" "modCount" "I") ∈ lw_all := lw_g (lw_at lw_m1 65 rfl) rfl
theorem q116 : (Jvm.Cond.lays "java/util/ArrayList" "java/util/ArrayList" "elementData" "[Ljava/lang/Object;") ∈ lw_all := lw_g (lw_at lw_m1 66 rfl) rfl
theorem q117 : (Jvm.Cond.soleField "java/util/ArrayList" "elementData") ∈ lw_all := lw_g (lw_at lw_m1 67 rfl) rfl
theorem q118 : (Jvm.Cond.lays "java/util/ArrayList" "java/util/ArrayList" "size" "I") ∈ lw_all := lw_g (lw_at lw_m1 68 rfl) rfl
theorem q119 : (Jvm.Cond.soleField "java/util/ArrayList" "size") ∈ lw_all := lw_g (lw_at lw_m1 69 rfl) rfl
theorem q120 : (Jvm.Cond.lays "java/util/ArrayList" "java/util/AbstractList" "modCount" "I") ∈ lw_all := lw_g (lw_at lw_m1 70 rfl) rfl
theorem q122 : (Jvm.Cond.superclass "java/util/ArrayList" "java/util/AbstractList") ∈ lw_all := lw_g (lw_at lw_m1 72 rfl) rfl
theorem q560 : (Jvm.Cond.castable "java/util/ArrayList" "java/util/List") ∈ lw_tbl := lw_at lw_m3 30 rfl
theorem q561 : (Jvm.Cond.selects "java/util/ArrayList" ({ cls := "java/util/List", name := "size", desc := "()I" } : Jvm.MethodName) ({ cls := "java/util/ArrayList", name := "size", desc := "()I" } : Jvm.MethodName)) ∈ lw_all := lw_g (lw_at lw_m3 31 rfl) rfl
theorem q562 : (Jvm.Cond.unhidden "java/util/ArrayList" "size" "()I") ∈ lw_tbl := lw_at lw_m3 32 rfl
theorem q563 : (Jvm.Cond.instanceMethod ({ cls := "java/util/ArrayList", name := "size", desc := "()I" } : Jvm.MethodName)) ∈ lw_all := lw_g (lw_at lw_m3 33 rfl) rfl
theorem q564 : (Jvm.Cond.publicMethod ({ cls := "java/util/ArrayList", name := "size", desc := "()I" } : Jvm.MethodName)) ∈ lw_tbl := lw_at lw_m3 34 rfl
theorem q565 : (Jvm.Cond.code ({ cls := "java/util/ArrayList", name := "size", desc := "()I" } : Jvm.MethodName) prog_32_method_8_code (1 : Nat) (Option.some Jvm.ClassFile.FieldType.int)) ∈ lw_all := lw_g (lw_at lw_m3 35 rfl) rfl
theorem q592 : (Jvm.Cond.selects "java/util/ArrayList" ({ cls := "java/util/List", name := "add", desc := "(Ljava/lang/Object;)Z" } : Jvm.MethodName) ({ cls := "java/util/ArrayList", name := "add", desc := "(Ljava/lang/Object;)Z" } : Jvm.MethodName)) ∈ lw_all := lw_g (lw_at lw_m3 62 rfl) rfl
theorem q593 : (Jvm.Cond.unhidden "java/util/ArrayList" "add" "(Ljava/lang/Object;)Z") ∈ lw_tbl := lw_at lw_m3 63 rfl
theorem q594 : (Jvm.Cond.instanceMethod ({ cls := "java/util/ArrayList", name := "add", desc := "(Ljava/lang/Object;)Z" } : Jvm.MethodName)) ∈ lw_all := lw_g (lw_at lw_m3 64 rfl) rfl
theorem q595 : (Jvm.Cond.publicMethod ({ cls := "java/util/ArrayList", name := "add", desc := "(Ljava/lang/Object;)Z" } : Jvm.MethodName)) ∈ lw_tbl := lw_at lw_m3 65 rfl
theorem q596 : (Jvm.Cond.code ({ cls := "java/util/ArrayList", name := "add", desc := "(Ljava/lang/Object;)Z" } : Jvm.MethodName) prog_32_method_25_code (2 : Nat) (Option.some Jvm.ClassFile.FieldType.boolean)) ∈ lw_all := lw_g (lw_at lw_m3 66 rfl) rfl
theorem q597 : (Jvm.Cond.methodLink "java/util/ArrayList" (131 : Nat) ({ cls := "java/util/ArrayList", name := "add", desc := "(Ljava/lang/Object;[Ljava/lang/Object;I)V" } : Jvm.MethodName)) ∈ lw_all := lw_g (lw_at lw_m3 67 rfl) rfl
theorem q598 : (Jvm.Cond.privateMethod ({ cls := "java/util/ArrayList", name := "add", desc := "(Ljava/lang/Object;[Ljava/lang/Object;I)V" } : Jvm.MethodName)) ∈ lw_tbl := lw_at lw_m3 68 rfl
theorem q599 : (Jvm.Cond.instanceMethod ({ cls := "java/util/ArrayList", name := "add", desc := "(Ljava/lang/Object;[Ljava/lang/Object;I)V" } : Jvm.MethodName)) ∈ lw_all := lw_g (lw_at lw_m3 69 rfl) rfl
theorem q600 : (Jvm.Cond.code ({ cls := "java/util/ArrayList", name := "add", desc := "(Ljava/lang/Object;[Ljava/lang/Object;I)V" } : Jvm.MethodName) prog_32_method_24_code (4 : Nat) (Option.none : Option Jvm.ClassFile.FieldType)) ∈ lw_all := lw_g (lw_at lw_m3 70 rfl) rfl
theorem q601 : (Jvm.Cond.methodLink "java/util/ArrayList" (129 : Nat) ({ cls := "java/util/ArrayList", name := "grow", desc := "()[Ljava/lang/Object;" } : Jvm.MethodName)) ∈ lw_all := lw_g (lw_at lw_m3 71 rfl) rfl
theorem q602 : (Jvm.Cond.privateMethod ({ cls := "java/util/ArrayList", name := "grow", desc := "()[Ljava/lang/Object;" } : Jvm.MethodName)) ∈ lw_tbl := lw_at lw_m3 72 rfl
theorem q603 : (Jvm.Cond.instanceMethod ({ cls := "java/util/ArrayList", name := "grow", desc := "()[Ljava/lang/Object;" } : Jvm.MethodName)) ∈ lw_all := lw_g (lw_at lw_m3 73 rfl) rfl
theorem q604 : (Jvm.Cond.code ({ cls := "java/util/ArrayList", name := "grow", desc := "()[Ljava/lang/Object;" } : Jvm.MethodName) prog_32_method_7_code (1 : Nat) (Option.some (Jvm.ClassFile.FieldType.array (Jvm.ClassFile.FieldType.object "java/lang/Object")))) ∈ lw_all := lw_g (lw_at lw_m3 74 rfl) rfl
theorem q605 : (Jvm.Cond.methodLink "java/util/ArrayList" (69 : Nat) ({ cls := "java/util/ArrayList", name := "grow", desc := "(I)[Ljava/lang/Object;" } : Jvm.MethodName)) ∈ lw_all := lw_g (lw_at lw_m3 75 rfl) rfl
theorem q606 : (Jvm.Cond.privateMethod ({ cls := "java/util/ArrayList", name := "grow", desc := "(I)[Ljava/lang/Object;" } : Jvm.MethodName)) ∈ lw_tbl := lw_at lw_m3 76 rfl
theorem q607 : (Jvm.Cond.instanceMethod ({ cls := "java/util/ArrayList", name := "grow", desc := "(I)[Ljava/lang/Object;" } : Jvm.MethodName)) ∈ lw_all := lw_g (lw_at lw_m3 77 rfl) rfl
theorem q608 : (Jvm.Cond.code ({ cls := "java/util/ArrayList", name := "grow", desc := "(I)[Ljava/lang/Object;" } : Jvm.MethodName) prog_32_method_6_code (4 : Nat) (Option.some (Jvm.ClassFile.FieldType.array (Jvm.ClassFile.FieldType.object "java/lang/Object")))) ∈ lw_all := lw_g (lw_at lw_m3 78 rfl) rfl
theorem q609 : (Jvm.Cond.methodLink "java/util/ArrayList" (73 : Nat) ({ cls := "jdk/internal/util/ArraysSupport", name := "newLength", desc := "(III)I" } : Jvm.MethodName)) ∈ lw_all := lw_g (lw_at lw_m3 79 rfl) rfl
theorem q619 : (Jvm.Cond.methodLink "java/util/ArrayList" (66 : Nat) ({ cls := "java/util/Arrays", name := "copyOf", desc := "([Ljava/lang/Object;I)[Ljava/lang/Object;" } : Jvm.MethodName)) ∈ lw_all := lw_g (lw_at lw_m3 89 rfl) rfl
theorem q642 : (Jvm.Cond.selects "java/util/ArrayList" ({ cls := "java/lang/Object", name := "getClass", desc := "()Ljava/lang/Class;" } : Jvm.MethodName) ({ cls := "java/lang/Object", name := "getClass", desc := "()Ljava/lang/Class;" } : Jvm.MethodName)) ∈ lw_all := lw_g (lw_at lw_m3 112 rfl) rfl
theorem q652 : (Jvm.Cond.methodLink "java/util/ArrayList" (79 : Nat) ({ cls := "java/lang/Math", name := "max", desc := "(II)I" } : Jvm.MethodName)) ∈ lw_all := lw_g (lw_at lw_m3 122 rfl) rfl
theorem q653 : (Jvm.Cond.classLink "java/util/ArrayList" (7 : Nat) "java/lang/Object") ∈ lw_all := lw_g (lw_at lw_m3 123 rfl) rfl
theorem q675 : (Jvm.Cond.selects "java/util/ArrayList" ({ cls := "java/util/List", name := "get", desc := "(I)Ljava/lang/Object;" } : Jvm.MethodName) ({ cls := "java/util/ArrayList", name := "get", desc := "(I)Ljava/lang/Object;" } : Jvm.MethodName)) ∈ lw_all := lw_g (lw_at lw_m3 145 rfl) rfl
theorem q676 : (Jvm.Cond.unhidden "java/util/ArrayList" "get" "(I)Ljava/lang/Object;") ∈ lw_tbl := lw_at lw_m3 146 rfl
theorem q677 : (Jvm.Cond.instanceMethod ({ cls := "java/util/ArrayList", name := "get", desc := "(I)Ljava/lang/Object;" } : Jvm.MethodName)) ∈ lw_all := lw_g (lw_at lw_m3 147 rfl) rfl
theorem q678 : (Jvm.Cond.publicMethod ({ cls := "java/util/ArrayList", name := "get", desc := "(I)Ljava/lang/Object;" } : Jvm.MethodName)) ∈ lw_tbl := lw_at lw_m3 148 rfl
theorem q679 : (Jvm.Cond.code ({ cls := "java/util/ArrayList", name := "get", desc := "(I)Ljava/lang/Object;" } : Jvm.MethodName) prog_32_method_20_code (2 : Nat) (Option.some (Jvm.ClassFile.FieldType.object "java/lang/Object"))) ∈ lw_all := lw_g (lw_at lw_m3 149 rfl) rfl
theorem q680 : (Jvm.Cond.methodLink "java/util/ArrayList" (118 : Nat) ({ cls := "java/util/Objects", name := "checkIndex", desc := "(II)I" } : Jvm.MethodName)) ∈ lw_all := lw_g (lw_at lw_m3 150 rfl) rfl
theorem q686 : (Jvm.Cond.methodLink "java/util/ArrayList" (123 : Nat) ({ cls := "java/util/ArrayList", name := "elementData", desc := "(I)Ljava/lang/Object;" } : Jvm.MethodName)) ∈ lw_all := lw_g (lw_at lw_m3 156 rfl) rfl
theorem q687 : (Jvm.Cond.instanceMethod ({ cls := "java/util/ArrayList", name := "elementData", desc := "(I)Ljava/lang/Object;" } : Jvm.MethodName)) ∈ lw_all := lw_g (lw_at lw_m3 157 rfl) rfl
theorem q688 : (Jvm.Cond.selects "java/util/ArrayList" ({ cls := "java/util/ArrayList", name := "elementData", desc := "(I)Ljava/lang/Object;" } : Jvm.MethodName) ({ cls := "java/util/ArrayList", name := "elementData", desc := "(I)Ljava/lang/Object;" } : Jvm.MethodName)) ∈ lw_all := lw_g (lw_at lw_m3 158 rfl) rfl
theorem q689 : (Jvm.Cond.code ({ cls := "java/util/ArrayList", name := "elementData", desc := "(I)Ljava/lang/Object;" } : Jvm.MethodName) prog_32_method_18_code (2 : Nat) (Option.some (Jvm.ClassFile.FieldType.object "java/lang/Object"))) ∈ lw_all := lw_g (lw_at lw_m3 159 rfl) rfl
theorem q724 : (Jvm.Cond.selects "java/util/ArrayList" ({ cls := "java/util/List", name := "clear", desc := "()V" } : Jvm.MethodName) ({ cls := "java/util/ArrayList", name := "clear", desc := "()V" } : Jvm.MethodName)) ∈ lw_all := lw_g (lw_at lw_m3 194 rfl) rfl
theorem q725 : (Jvm.Cond.unhidden "java/util/ArrayList" "clear" "()V") ∈ lw_tbl := lw_at lw_m3 195 rfl
theorem q726 : (Jvm.Cond.instanceMethod ({ cls := "java/util/ArrayList", name := "clear", desc := "()V" } : Jvm.MethodName)) ∈ lw_all := lw_g (lw_at lw_m3 196 rfl) rfl
theorem q727 : (Jvm.Cond.publicMethod ({ cls := "java/util/ArrayList", name := "clear", desc := "()V" } : Jvm.MethodName)) ∈ lw_tbl := lw_at lw_m3 197 rfl
theorem q728 : (Jvm.Cond.code ({ cls := "java/util/ArrayList", name := "clear", desc := "()V" } : Jvm.MethodName) prog_32_method_40_code (4 : Nat) (Option.none : Option Jvm.ClassFile.FieldType)) ∈ lw_all := lw_g (lw_at lw_m3 198 rfl) rfl
theorem q873 : (Jvm.Cond.selects "java/util/ArrayList" ({ cls := "java/util/List", name := "addAll", desc := "(Ljava/util/Collection;)Z" } : Jvm.MethodName) ({ cls := "java/util/ArrayList", name := "addAll", desc := "(Ljava/util/Collection;)Z" } : Jvm.MethodName)) ∈ lw_all := lw_g (lw_at lw_m4 103 rfl) rfl
theorem q874 : (Jvm.Cond.unhidden "java/util/ArrayList" "addAll" "(Ljava/util/Collection;)Z") ∈ lw_tbl := lw_at lw_m4 104 rfl
theorem q875 : (Jvm.Cond.instanceMethod ({ cls := "java/util/ArrayList", name := "addAll", desc := "(Ljava/util/Collection;)Z" } : Jvm.MethodName)) ∈ lw_all := lw_g (lw_at lw_m4 105 rfl) rfl
theorem q876 : (Jvm.Cond.publicMethod ({ cls := "java/util/ArrayList", name := "addAll", desc := "(Ljava/util/Collection;)Z" } : Jvm.MethodName)) ∈ lw_tbl := lw_at lw_m4 106 rfl
theorem q877 : (Jvm.Cond.code ({ cls := "java/util/ArrayList", name := "addAll", desc := "(Ljava/util/Collection;)Z" } : Jvm.MethodName) prog_32_method_41_code (6 : Nat) (Option.some Jvm.ClassFile.FieldType.boolean)) ∈ lw_all := lw_g (lw_at lw_m4 107 rfl) rfl
theorem q878 : (Jvm.Cond.interfaceEntry "java/util/ArrayList" (42 : Nat)) ∈ lw_tbl := lw_at lw_m4 108 rfl
theorem q879 : (Jvm.Cond.methodLink "java/util/ArrayList" (42 : Nat) ({ cls := "java/util/Collection", name := "toArray", desc := "()[Ljava/lang/Object;" } : Jvm.MethodName)) ∈ lw_all := lw_g (lw_at lw_m4 109 rfl) rfl
theorem q882 : (Jvm.Cond.castable "java/util/ArrayList" "java/util/Collection") ∈ lw_tbl := lw_at lw_m4 112 rfl
theorem q883 : (Jvm.Cond.selects "java/util/ArrayList" ({ cls := "java/util/Collection", name := "toArray", desc := "()[Ljava/lang/Object;" } : Jvm.MethodName) ({ cls := "java/util/ArrayList", name := "toArray", desc := "()[Ljava/lang/Object;" } : Jvm.MethodName)) ∈ lw_all := lw_g (lw_at lw_m4 113 rfl) rfl
theorem q884 : (Jvm.Cond.unhidden "java/util/ArrayList" "toArray" "()[Ljava/lang/Object;") ∈ lw_tbl := lw_at lw_m4 114 rfl
theorem q885 : (Jvm.Cond.instanceMethod ({ cls := "java/util/ArrayList", name := "toArray", desc := "()[Ljava/lang/Object;" } : Jvm.MethodName)) ∈ lw_all := lw_g (lw_at lw_m4 115 rfl) rfl
theorem q886 : (Jvm.Cond.publicMethod ({ cls := "java/util/ArrayList", name := "toArray", desc := "()[Ljava/lang/Object;" } : Jvm.MethodName)) ∈ lw_tbl := lw_at lw_m4 116 rfl
theorem q887 : (Jvm.Cond.code ({ cls := "java/util/ArrayList", name := "toArray", desc := "()[Ljava/lang/Object;" } : Jvm.MethodName) prog_32_method_16_code (1 : Nat) (Option.some (Jvm.ClassFile.FieldType.array (Jvm.ClassFile.FieldType.object "java/lang/Object")))) ∈ lw_all := lw_g (lw_at lw_m4 117 rfl) rfl
theorem q888 : (Jvm.Cond.methodLink "java/util/ArrayList" (112 : Nat) ({ cls := "java/lang/System", name := "arraycopy", desc := "(Ljava/lang/Object;ILjava/lang/Object;II)V" } : Jvm.MethodName)) ∈ lw_all := lw_g (lw_at lw_m4 118 rfl) rfl
theorem q1416 : (Jvm.Cond.castable "java/util/ArrayList" "java/lang/Object") ∈ lw_tbl := lw_at lw_m6 166 rfl
theorem in_J2 : ∀ w ∈ wsJ20, w ∈ lw_all := lw_in wsJ20 [120, 116, 118] (by decide +kernel) (by decide +kernel)

/-! java/lang/Throwable -/
set_option maxRecDepth 100000
def RJ3 : String := "java/lang/Throwable"
def TJ3 : u_T := fun k => match k with
  | 0 => ("java/lang/Throwable", "cause", "Ljava/lang/Throwable;", false)
  | 1 => ("java/lang/Throwable", "stackTrace", "[Ljava/lang/StackTraceElement;", false)
  | 2 => ("java/lang/Throwable", "suppressedExceptions", "Ljava/util/List;", false)
  | 3 => ("java/lang/Throwable", "detailMessage", "Ljava/lang/String;", false)
  | _ => ("java/lang/Throwable", "backtrace", "Ljava/lang/Object;", false)
def tyJ3 : Nat → FieldType := fun k => match k with
  | 0 => .object "java/lang/Throwable"
  | 1 => .array (.object "java/lang/StackTraceElement")
  | 2 => .object "java/util/List"
  | 3 => .object "java/lang/String"
  | _ => .object "java/lang/Object"
abbrev wsJ30 : List Cond := u_ws RJ3 TJ3 5
theorem nmJ3 : ∀ a, a < 5 → ∀ b, b < 5 → a ≠ b → (TJ3 a).2.1 ≠ (TJ3 b).2.1 := by decide +kernel
theorem tyJ3_ok : ∀ k, k < 5 → parseFieldDescriptor (TJ3 k).2.2.1 = some (tyJ3 k) := by decide +kernel
abbrev cJ3_init : ByteArray := prog_29_method_1_code
def yJ3_init : MethodName := ⟨RJ3, "<init>", "()V"⟩
def dkwJ3_init_1 : List UInt8 := [182, 0, 27, 87, 177]
abbrev dktJ3_init_1 : List UInt8 := dkwJ3_init_1 ++ []
def dkwJ3_init_0 : List UInt8 := [42, 183, 0, 1, 42, 42, 181, 0, 7, 42, 178, 0, 13, 181, 0, 17, 42, 178, 0, 20, 181, 0, 24, 42]
abbrev dktJ3_init_0 : List UInt8 := dkwJ3_init_0 ++ dktJ3_init_1
theorem dksJ3_init_0 : cJ3_init.data.toList.drop 0 = dktJ3_init_0 := by decide +kernel
theorem dksJ3_init_1 : cJ3_init.data.toList.drop 24 = dktJ3_init_1 := dk_seg dksJ3_init_0 24 rfl rfl
theorem dJ3_init_0 : decode cJ3_init 0 = .ok (.aload_n 0, 1) := dk_42 (dk_at dksJ3_init_0 0 rfl rfl)
theorem dJ3_init_1 : decode cJ3_init 1 = .ok (.invokespecial 1, 3) := dk_183 0 1 (dk_at dksJ3_init_0 1 rfl rfl)
theorem dJ3_init_4 : decode cJ3_init 4 = .ok (.aload_n 0, 1) := dk_42 (dk_at dksJ3_init_0 4 rfl rfl)
theorem dJ3_init_5 : decode cJ3_init 5 = .ok (.aload_n 0, 1) := dk_42 (dk_at dksJ3_init_0 5 rfl rfl)
theorem dJ3_init_6 : decode cJ3_init 6 = .ok (.putfield 7, 3) := dk_181 0 7 (dk_at dksJ3_init_0 6 rfl rfl)
theorem dJ3_init_9 : decode cJ3_init 9 = .ok (.aload_n 0, 1) := dk_42 (dk_at dksJ3_init_0 9 rfl rfl)
theorem dJ3_init_10 : decode cJ3_init 10 = .ok (.getstatic 13, 3) := dk_178 0 13 (dk_at dksJ3_init_0 10 rfl rfl)
theorem dJ3_init_13 : decode cJ3_init 13 = .ok (.putfield 17, 3) := dk_181 0 17 (dk_at dksJ3_init_0 13 rfl rfl)
theorem dJ3_init_16 : decode cJ3_init 16 = .ok (.aload_n 0, 1) := dk_42 (dk_at dksJ3_init_0 16 rfl rfl)
theorem dJ3_init_17 : decode cJ3_init 17 = .ok (.getstatic 20, 3) := dk_178 0 20 (dk_at dksJ3_init_0 17 rfl rfl)
theorem dJ3_init_20 : decode cJ3_init 20 = .ok (.putfield 24, 3) := dk_181 0 24 (dk_at dksJ3_init_0 20 rfl rfl)
theorem dJ3_init_23 : decode cJ3_init 23 = .ok (.aload_n 0, 1) := dk_42 (dk_at dksJ3_init_0 23 rfl rfl)
theorem dJ3_init_24 : decode cJ3_init 24 = .ok (.invokevirtual 27, 3) := dk_182 0 27 (dk_at dksJ3_init_1 0 rfl rfl)
theorem dJ3_init_27 : decode cJ3_init 27 = .ok (.pop, 1) := dk_87 (dk_at dksJ3_init_1 3 rfl rfl)
theorem dJ3_init_28 : decode cJ3_init 28 = .ok (.return_, 1) := dk_177 (dk_at dksJ3_init_1 4 rfl rfl)
abbrev cJ3_init_2 : ByteArray := prog_29_method_5_code
def yJ3_init_2 : MethodName := ⟨RJ3, "<init>", "(Ljava/lang/String;Ljava/lang/Throwable;ZZ)V"⟩
def dkwJ3_init_2_2 : List UInt8 := [44, 181, 0, 7, 29, 154, 0, 8, 42, 1, 181, 0, 24, 177]
abbrev dktJ3_init_2_2 : List UInt8 := dkwJ3_init_2_2 ++ []
def dkwJ3_init_2_1 : List UInt8 := [21, 4, 153, 0, 11, 42, 182, 0, 27, 87, 167, 0, 8, 42, 1, 181, 0, 17, 42, 43, 181, 0, 31, 42]
abbrev dktJ3_init_2_1 : List UInt8 := dkwJ3_init_2_1 ++ dktJ3_init_2_2
def dkwJ3_init_2_0 : List UInt8 := [42, 183, 0, 1, 42, 42, 181, 0, 7, 42, 178, 0, 13, 181, 0, 17, 42, 178, 0, 20, 181, 0, 24]
abbrev dktJ3_init_2_0 : List UInt8 := dkwJ3_init_2_0 ++ dktJ3_init_2_1
theorem dksJ3_init_2_0 : cJ3_init_2.data.toList.drop 0 = dktJ3_init_2_0 := by decide +kernel
theorem dksJ3_init_2_1 : cJ3_init_2.data.toList.drop 23 = dktJ3_init_2_1 := dk_seg dksJ3_init_2_0 23 rfl rfl
theorem dksJ3_init_2_2 : cJ3_init_2.data.toList.drop 47 = dktJ3_init_2_2 := dk_seg dksJ3_init_2_1 24 rfl rfl
theorem dJ3_init_2_0 : decode cJ3_init_2 0 = .ok (.aload_n 0, 1) := dk_42 (dk_at dksJ3_init_2_0 0 rfl rfl)
theorem dJ3_init_2_1 : decode cJ3_init_2 1 = .ok (.invokespecial 1, 3) := dk_183 0 1 (dk_at dksJ3_init_2_0 1 rfl rfl)
theorem dJ3_init_2_4 : decode cJ3_init_2 4 = .ok (.aload_n 0, 1) := dk_42 (dk_at dksJ3_init_2_0 4 rfl rfl)
theorem dJ3_init_2_5 : decode cJ3_init_2 5 = .ok (.aload_n 0, 1) := dk_42 (dk_at dksJ3_init_2_0 5 rfl rfl)
theorem dJ3_init_2_6 : decode cJ3_init_2 6 = .ok (.putfield 7, 3) := dk_181 0 7 (dk_at dksJ3_init_2_0 6 rfl rfl)
theorem dJ3_init_2_9 : decode cJ3_init_2 9 = .ok (.aload_n 0, 1) := dk_42 (dk_at dksJ3_init_2_0 9 rfl rfl)
theorem dJ3_init_2_10 : decode cJ3_init_2 10 = .ok (.getstatic 13, 3) := dk_178 0 13 (dk_at dksJ3_init_2_0 10 rfl rfl)
theorem dJ3_init_2_13 : decode cJ3_init_2 13 = .ok (.putfield 17, 3) := dk_181 0 17 (dk_at dksJ3_init_2_0 13 rfl rfl)
theorem dJ3_init_2_16 : decode cJ3_init_2 16 = .ok (.aload_n 0, 1) := dk_42 (dk_at dksJ3_init_2_0 16 rfl rfl)
theorem dJ3_init_2_17 : decode cJ3_init_2 17 = .ok (.getstatic 20, 3) := dk_178 0 20 (dk_at dksJ3_init_2_0 17 rfl rfl)
theorem dJ3_init_2_20 : decode cJ3_init_2 20 = .ok (.putfield 24, 3) := dk_181 0 24 (dk_at dksJ3_init_2_0 20 rfl rfl)
theorem dJ3_init_2_23 : decode cJ3_init_2 23 = .ok (.iload 4, 2) := dk_21 4 (dk_at dksJ3_init_2_1 0 rfl rfl)
theorem dJ3_init_2_25 : decode cJ3_init_2 25 = .ok (.ifCond .eq 11, 3) := dk_153 0 11 (dk_at dksJ3_init_2_1 2 rfl rfl)
theorem dJ3_init_2_28 : decode cJ3_init_2 28 = .ok (.aload_n 0, 1) := dk_42 (dk_at dksJ3_init_2_1 5 rfl rfl)
theorem dJ3_init_2_29 : decode cJ3_init_2 29 = .ok (.invokevirtual 27, 3) := dk_182 0 27 (dk_at dksJ3_init_2_1 6 rfl rfl)
theorem dJ3_init_2_32 : decode cJ3_init_2 32 = .ok (.pop, 1) := dk_87 (dk_at dksJ3_init_2_1 9 rfl rfl)
theorem dJ3_init_2_33 : decode cJ3_init_2 33 = .ok (.goto 8, 3) := dk_167 0 8 (dk_at dksJ3_init_2_1 10 rfl rfl)
theorem dJ3_init_2_36 : decode cJ3_init_2 36 = .ok (.aload_n 0, 1) := dk_42 (dk_at dksJ3_init_2_1 13 rfl rfl)
theorem dJ3_init_2_37 : decode cJ3_init_2 37 = .ok (.aconst_null, 1) := dk_1 (dk_at dksJ3_init_2_1 14 rfl rfl)
theorem dJ3_init_2_38 : decode cJ3_init_2 38 = .ok (.putfield 17, 3) := dk_181 0 17 (dk_at dksJ3_init_2_1 15 rfl rfl)
theorem dJ3_init_2_41 : decode cJ3_init_2 41 = .ok (.aload_n 0, 1) := dk_42 (dk_at dksJ3_init_2_1 18 rfl rfl)
theorem dJ3_init_2_42 : decode cJ3_init_2 42 = .ok (.aload_n 1, 1) := dk_43 (dk_at dksJ3_init_2_1 19 rfl rfl)
theorem dJ3_init_2_43 : decode cJ3_init_2 43 = .ok (.putfield 31, 3) := dk_181 0 31 (dk_at dksJ3_init_2_1 20 rfl rfl)
theorem dJ3_init_2_46 : decode cJ3_init_2 46 = .ok (.aload_n 0, 1) := dk_42 (dk_at dksJ3_init_2_1 23 rfl rfl)
theorem dJ3_init_2_47 : decode cJ3_init_2 47 = .ok (.aload_n 2, 1) := dk_44 (dk_at dksJ3_init_2_2 0 rfl rfl)
theorem dJ3_init_2_48 : decode cJ3_init_2 48 = .ok (.putfield 7, 3) := dk_181 0 7 (dk_at dksJ3_init_2_2 1 rfl rfl)
theorem dJ3_init_2_51 : decode cJ3_init_2 51 = .ok (.iload_n 3, 1) := dk_29 (dk_at dksJ3_init_2_2 4 rfl rfl)
theorem dJ3_init_2_52 : decode cJ3_init_2 52 = .ok (.ifCond .ne 8, 3) := dk_154 0 8 (dk_at dksJ3_init_2_2 5 rfl rfl)
theorem dJ3_init_2_55 : decode cJ3_init_2 55 = .ok (.aload_n 0, 1) := dk_42 (dk_at dksJ3_init_2_2 8 rfl rfl)
theorem dJ3_init_2_56 : decode cJ3_init_2 56 = .ok (.aconst_null, 1) := dk_1 (dk_at dksJ3_init_2_2 9 rfl rfl)
theorem dJ3_init_2_57 : decode cJ3_init_2 57 = .ok (.putfield 24, 3) := dk_181 0 24 (dk_at dksJ3_init_2_2 10 rfl rfl)
theorem dJ3_init_2_60 : decode cJ3_init_2 60 = .ok (.return_, 1) := dk_177 (dk_at dksJ3_init_2_2 13 rfl rfl)
abbrev cJ3_init_3 : ByteArray := prog_29_method_2_code
def yJ3_init_3 : MethodName := ⟨RJ3, "<init>", "(Ljava/lang/String;)V"⟩
def dkwJ3_init_3_1 : List UInt8 := [182, 0, 27, 87, 42, 43, 181, 0, 31, 177]
abbrev dktJ3_init_3_1 : List UInt8 := dkwJ3_init_3_1 ++ []
def dkwJ3_init_3_0 : List UInt8 := [42, 183, 0, 1, 42, 42, 181, 0, 7, 42, 178, 0, 13, 181, 0, 17, 42, 178, 0, 20, 181, 0, 24, 42]
abbrev dktJ3_init_3_0 : List UInt8 := dkwJ3_init_3_0 ++ dktJ3_init_3_1
theorem dksJ3_init_3_0 : cJ3_init_3.data.toList.drop 0 = dktJ3_init_3_0 := by decide +kernel
theorem dksJ3_init_3_1 : cJ3_init_3.data.toList.drop 24 = dktJ3_init_3_1 := dk_seg dksJ3_init_3_0 24 rfl rfl
theorem dJ3_init_3_0 : decode cJ3_init_3 0 = .ok (.aload_n 0, 1) := dk_42 (dk_at dksJ3_init_3_0 0 rfl rfl)
theorem dJ3_init_3_1 : decode cJ3_init_3 1 = .ok (.invokespecial 1, 3) := dk_183 0 1 (dk_at dksJ3_init_3_0 1 rfl rfl)
theorem dJ3_init_3_4 : decode cJ3_init_3 4 = .ok (.aload_n 0, 1) := dk_42 (dk_at dksJ3_init_3_0 4 rfl rfl)
theorem dJ3_init_3_5 : decode cJ3_init_3 5 = .ok (.aload_n 0, 1) := dk_42 (dk_at dksJ3_init_3_0 5 rfl rfl)
theorem dJ3_init_3_6 : decode cJ3_init_3 6 = .ok (.putfield 7, 3) := dk_181 0 7 (dk_at dksJ3_init_3_0 6 rfl rfl)
theorem dJ3_init_3_9 : decode cJ3_init_3 9 = .ok (.aload_n 0, 1) := dk_42 (dk_at dksJ3_init_3_0 9 rfl rfl)
theorem dJ3_init_3_10 : decode cJ3_init_3 10 = .ok (.getstatic 13, 3) := dk_178 0 13 (dk_at dksJ3_init_3_0 10 rfl rfl)
theorem dJ3_init_3_13 : decode cJ3_init_3 13 = .ok (.putfield 17, 3) := dk_181 0 17 (dk_at dksJ3_init_3_0 13 rfl rfl)
theorem dJ3_init_3_16 : decode cJ3_init_3 16 = .ok (.aload_n 0, 1) := dk_42 (dk_at dksJ3_init_3_0 16 rfl rfl)
theorem dJ3_init_3_17 : decode cJ3_init_3 17 = .ok (.getstatic 20, 3) := dk_178 0 20 (dk_at dksJ3_init_3_0 17 rfl rfl)
theorem dJ3_init_3_20 : decode cJ3_init_3 20 = .ok (.putfield 24, 3) := dk_181 0 24 (dk_at dksJ3_init_3_0 20 rfl rfl)
theorem dJ3_init_3_23 : decode cJ3_init_3 23 = .ok (.aload_n 0, 1) := dk_42 (dk_at dksJ3_init_3_0 23 rfl rfl)
theorem dJ3_init_3_24 : decode cJ3_init_3 24 = .ok (.invokevirtual 27, 3) := dk_182 0 27 (dk_at dksJ3_init_3_1 0 rfl rfl)
theorem dJ3_init_3_27 : decode cJ3_init_3 27 = .ok (.pop, 1) := dk_87 (dk_at dksJ3_init_3_1 3 rfl rfl)
theorem dJ3_init_3_28 : decode cJ3_init_3 28 = .ok (.aload_n 0, 1) := dk_42 (dk_at dksJ3_init_3_1 4 rfl rfl)
theorem dJ3_init_3_29 : decode cJ3_init_3 29 = .ok (.aload_n 1, 1) := dk_43 (dk_at dksJ3_init_3_1 5 rfl rfl)
theorem dJ3_init_3_30 : decode cJ3_init_3 30 = .ok (.putfield 31, 3) := dk_181 0 31 (dk_at dksJ3_init_3_1 6 rfl rfl)
theorem dJ3_init_3_33 : decode cJ3_init_3 33 = .ok (.return_, 1) := dk_177 (dk_at dksJ3_init_3_1 9 rfl rfl)
theorem q56 : (Jvm.Cond.initialized "java/lang/Throwable") ∈ lw_all := lw_g (lw_at lw_m1 6 rfl) rfl
theorem q165 : (Jvm.Cond.declares ({ cls := "java/lang/Throwable", name := "<init>", desc := "()V" } : Jvm.MethodName)) ∈ lw_tbl := lw_at lw_m1 115 rfl
theorem q166 : (Jvm.Cond.declares ({ cls := "java/lang/Throwable", name := "<init>", desc := "(Ljava/lang/String;)V" } : Jvm.MethodName)) ∈ lw_tbl := lw_at lw_m1 116 rfl
theorem q170 : (Jvm.Cond.lays "java/lang/Throwable" "java/lang/Throwable" "cause" "Ljava/lang/Throwable;") ∈ lw_all := lw_g (lw_at lw_m1 120 rfl) rfl
theorem q172 : (Jvm.Cond.lays "java/lang/Throwable" "java/lang/Throwable" "stackTrace" "[Ljava/lang/StackTraceElement;") ∈ lw_all := lw_g (lw_at lw_m1 122 rfl) rfl
theorem q174 : (Jvm.Cond.lays "java/lang/Throwable" "java/lang/Throwable" "suppressedExceptions" "Ljava/util/List;") ∈ lw_all := lw_g (lw_at lw_m1 124 rfl) rfl
theorem q176 : (Jvm.Cond.lays "java/lang/Throwable" "java/lang/Throwable" "detailMessage" "Ljava/lang/String;") ∈ lw_all := lw_g (lw_at lw_m1 126 rfl) rfl
theorem q178 : (Jvm.Cond.lays "java/lang/Throwable" "java/lang/Throwable" "backtrace" "Ljava/lang/Object;") ∈ lw_all := lw_g (lw_at lw_m1 128 rfl) rfl
theorem q179 : (Jvm.Cond.fieldLink "java/lang/Throwable" (198 : Nat) "java/lang/Throwable" "backtrace" "Ljava/lang/Object;") ∈ lw_all := lw_g (lw_at lw_m1 129 rfl) rfl
theorem q180 : (Jvm.Cond.superclass "java/lang/Throwable" "java/lang/Object") ∈ lw_all := lw_g (lw_at lw_m1 130 rfl) rfl
theorem q181 : (Jvm.Cond.instanceMethod ({ cls := "java/lang/Throwable", name := "<init>", desc := "()V" } : Jvm.MethodName)) ∈ lw_all := lw_g (lw_at lw_m1 131 rfl) rfl
theorem q182 : (Jvm.Cond.code ({ cls := "java/lang/Throwable", name := "<init>", desc := "()V" } : Jvm.MethodName) prog_29_method_1_code (1 : Nat) (Option.none : Option Jvm.ClassFile.FieldType)) ∈ lw_all := lw_g (lw_at lw_m1 132 rfl) rfl
theorem q183 : (Jvm.Cond.methodLink "java/lang/Throwable" (1 : Nat) ({ cls := "java/lang/Object", name := "<init>", desc := "()V" } : Jvm.MethodName)) ∈ lw_all := lw_g (lw_at lw_m1 133 rfl) rfl
theorem q184 : (Jvm.Cond.fieldLink "java/lang/Throwable" (13 : Nat) "java/lang/Throwable" "UNASSIGNED_STACK" "[Ljava/lang/StackTraceElement;") ∈ lw_all := lw_g (lw_at lw_m1 134 rfl) rfl
theorem q185 : (Jvm.Cond.laysStatic "java/lang/Throwable" "UNASSIGNED_STACK" "[Ljava/lang/StackTraceElement;") ∈ lw_tbl := lw_at lw_m1 135 rfl
theorem q186 : (Jvm.Cond.fieldLink "java/lang/Throwable" (20 : Nat) "java/lang/Throwable" "SUPPRESSED_SENTINEL" "Ljava/util/List;") ∈ lw_all := lw_g (lw_at lw_m1 136 rfl) rfl
theorem q187 : (Jvm.Cond.laysStatic "java/lang/Throwable" "SUPPRESSED_SENTINEL" "Ljava/util/List;") ∈ lw_tbl := lw_at lw_m1 137 rfl
theorem q188 : (Jvm.Cond.methodLink "java/lang/Throwable" (27 : Nat) ({ cls := "java/lang/Throwable", name := "fillInStackTrace", desc := "()Ljava/lang/Throwable;" } : Jvm.MethodName)) ∈ lw_all := lw_g (lw_at lw_m1 138 rfl) rfl
theorem q189 : (Jvm.Cond.instanceMethod ({ cls := "java/lang/Throwable", name := "fillInStackTrace", desc := "()Ljava/lang/Throwable;" } : Jvm.MethodName)) ∈ lw_all := lw_g (lw_at lw_m1 139 rfl) rfl
theorem q190 : (Jvm.Cond.sameMethod "java/lang/Throwable" "java/lang/Throwable" "fillInStackTrace" "()Ljava/lang/Throwable;") ∈ lw_all := lw_g (lw_at lw_m1 140 rfl) rfl
theorem q205 : (Jvm.Cond.declares ({ cls := "java/lang/Throwable", name := "fillInStackTrace", desc := "()Ljava/lang/Throwable;" } : Jvm.MethodName)) ∈ lw_tbl := lw_at lw_m1 155 rfl
theorem q209 : (Jvm.Cond.codeSync ({ cls := "java/lang/Throwable", name := "fillInStackTrace", desc := "()Ljava/lang/Throwable;" } : Jvm.MethodName) prog_29_method_18_code (1 : Nat) (Option.some (Jvm.ClassFile.FieldType.object "java/lang/Throwable"))) ∈ lw_all := lw_g (lw_at lw_m1 159 rfl) rfl
theorem q210 : (Jvm.Cond.methodLink "java/lang/Throwable" (202 : Nat) ({ cls := "java/lang/Throwable", name := "fillInStackTrace", desc := "(I)Ljava/lang/Throwable;" } : Jvm.MethodName)) ∈ lw_all := lw_g (lw_at lw_m1 160 rfl) rfl
theorem q211 : (Jvm.Cond.privateMethod ({ cls := "java/lang/Throwable", name := "fillInStackTrace", desc := "(I)Ljava/lang/Throwable;" } : Jvm.MethodName)) ∈ lw_tbl := lw_at lw_m1 161 rfl
theorem q212 : (Jvm.Cond.instanceMethod ({ cls := "java/lang/Throwable", name := "fillInStackTrace", desc := "(I)Ljava/lang/Throwable;" } : Jvm.MethodName)) ∈ lw_all := lw_g (lw_at lw_m1 162 rfl) rfl
theorem q213 : (Jvm.Cond.instantiable "java/lang/Throwable" (6 : Nat)) ∈ lw_all := lw_g (lw_at lw_m1 163 rfl) rfl
theorem q214 : (Jvm.Cond.native ({ cls := "java/lang/Throwable", name := "fillInStackTrace", desc := "(I)Ljava/lang/Throwable;" } : Jvm.MethodName)) ∈ lw_all := lw_g (lw_at lw_m1 164 rfl) rfl
theorem q222 : (Jvm.Cond.instanceMethod ({ cls := "java/lang/Throwable", name := "<init>", desc := "(Ljava/lang/String;Ljava/lang/Throwable;ZZ)V" } : Jvm.MethodName)) ∈ lw_all := lw_g (lw_at lw_m1 172 rfl) rfl
theorem q223 : (Jvm.Cond.code ({ cls := "java/lang/Throwable", name := "<init>", desc := "(Ljava/lang/String;Ljava/lang/Throwable;ZZ)V" } : Jvm.MethodName) prog_29_method_5_code (5 : Nat) (Option.none : Option Jvm.ClassFile.FieldType)) ∈ lw_all := lw_g (lw_at lw_m1 173 rfl) rfl
theorem q225 : (Jvm.Cond.fieldLink "java/lang/Throwable" (198 : Nat) "java/lang/Throwable" "backtrace" "Ljava/lang/Object;") ∈ lw_all := lw_g (lw_at lw_m1 175 rfl) rfl
theorem q226 : (Jvm.Cond.fieldLink "java/lang/Throwable" (31 : Nat) "java/lang/Throwable" "detailMessage" "Ljava/lang/String;") ∈ lw_all := lw_g (lw_at lw_m1 176 rfl) rfl
theorem q227 : (Jvm.Cond.fieldLink "java/lang/Throwable" (7 : Nat) "java/lang/Throwable" "cause" "Ljava/lang/Throwable;") ∈ lw_all := lw_g (lw_at lw_m1 177 rfl) rfl
theorem q228 : (Jvm.Cond.fieldLink "java/lang/Throwable" (17 : Nat) "java/lang/Throwable" "stackTrace" "[Ljava/lang/StackTraceElement;") ∈ lw_all := lw_g (lw_at lw_m1 178 rfl) rfl
theorem q229 : (Jvm.Cond.fieldLink "java/lang/Throwable" (24 : Nat) "java/lang/Throwable" "suppressedExceptions" "Ljava/util/List;") ∈ lw_all := lw_g (lw_at lw_m1 179 rfl) rfl
theorem q232 : (Jvm.Cond.soleField "java/lang/Throwable" "backtrace") ∈ lw_all := lw_g (lw_at lw_m1 182 rfl) rfl
theorem q233 : (Jvm.Cond.soleField "java/lang/Throwable" "detailMessage") ∈ lw_all := lw_g (lw_at lw_m1 183 rfl) rfl
theorem q234 : (Jvm.Cond.soleField "java/lang/Throwable" "cause") ∈ lw_all := lw_g (lw_at lw_m1 184 rfl) rfl
theorem q235 : (Jvm.Cond.soleField "java/lang/Throwable" "stackTrace") ∈ lw_all := lw_g (lw_at lw_m1 185 rfl) rfl
theorem q237 : (Jvm.Cond.soleField "java/lang/Throwable" "depth") ∈ lw_all := lw_g (lw_at lw_m1 187 rfl) rfl
theorem q238 : (Jvm.Cond.soleField "java/lang/Throwable" "suppressedExceptions") ∈ lw_all := lw_g (lw_at lw_m1 188 rfl) rfl
theorem q908 : (Jvm.Cond.instanceMethod ({ cls := "java/lang/Throwable", name := "<init>", desc := "(Ljava/lang/String;)V" } : Jvm.MethodName)) ∈ lw_all := lw_g (lw_at lw_m4 138 rfl) rfl
theorem q909 : (Jvm.Cond.code ({ cls := "java/lang/Throwable", name := "<init>", desc := "(Ljava/lang/String;)V" } : Jvm.MethodName) prog_29_method_2_code (2 : Nat) (Option.none : Option Jvm.ClassFile.FieldType)) ∈ lw_all := lw_g (lw_at lw_m4 139 rfl) rfl
theorem q1411 : (Jvm.Cond.sameMethod "java/lang/Throwable" "java/lang/Throwable" "fillInStackTrace" "(I)Ljava/lang/Throwable;") ∈ lw_all := lw_g (lw_at lw_m6 161 rfl) rfl
theorem q1431 : (Jvm.Cond.castable "java/lang/Throwable" "java/lang/Object") ∈ lw_tbl := lw_at lw_m6 181 rfl
theorem in_J3 : ∀ w ∈ wsJ30, w ∈ lw_all := lw_in wsJ30 [170, 172, 174, 176, 178] (by decide +kernel) (by decide +kernel)

/-! java/lang/Exception -/
set_option maxRecDepth 100000
def RJ4 : String := "java/lang/Exception"
abbrev cJ4_init : ByteArray := prog_20_method_5_code
def yJ4_init : MethodName := ⟨RJ4, "<init>", "(Ljava/lang/String;Ljava/lang/Throwable;ZZ)V"⟩
def dkwJ4_init_0 : List UInt8 := [42, 43, 44, 29, 21, 4, 183, 0, 16, 177]
abbrev dktJ4_init_0 : List UInt8 := dkwJ4_init_0 ++ []
theorem dksJ4_init_0 : cJ4_init.data.toList.drop 0 = dktJ4_init_0 := by decide +kernel
theorem dJ4_init_0 : decode cJ4_init 0 = .ok (.aload_n 0, 1) := dk_42 (dk_at dksJ4_init_0 0 rfl rfl)
theorem dJ4_init_1 : decode cJ4_init 1 = .ok (.aload_n 1, 1) := dk_43 (dk_at dksJ4_init_0 1 rfl rfl)
theorem dJ4_init_2 : decode cJ4_init 2 = .ok (.aload_n 2, 1) := dk_44 (dk_at dksJ4_init_0 2 rfl rfl)
theorem dJ4_init_3 : decode cJ4_init 3 = .ok (.iload_n 3, 1) := dk_29 (dk_at dksJ4_init_0 3 rfl rfl)
theorem dJ4_init_4 : decode cJ4_init 4 = .ok (.iload 4, 2) := dk_21 4 (dk_at dksJ4_init_0 4 rfl rfl)
theorem dJ4_init_6 : decode cJ4_init 6 = .ok (.invokespecial 16, 3) := dk_183 0 16 (dk_at dksJ4_init_0 6 rfl rfl)
theorem dJ4_init_9 : decode cJ4_init 9 = .ok (.return_, 1) := dk_177 (dk_at dksJ4_init_0 9 rfl rfl)
abbrev cJ4_init_2 : ByteArray := prog_20_method_2_code
def yJ4_init_2 : MethodName := ⟨RJ4, "<init>", "(Ljava/lang/String;)V"⟩
def dkwJ4_init_2_0 : List UInt8 := [42, 43, 183, 0, 7, 177]
abbrev dktJ4_init_2_0 : List UInt8 := dkwJ4_init_2_0 ++ []
theorem dksJ4_init_2_0 : cJ4_init_2.data.toList.drop 0 = dktJ4_init_2_0 := by decide +kernel
theorem dJ4_init_2_0 : decode cJ4_init_2 0 = .ok (.aload_n 0, 1) := dk_42 (dk_at dksJ4_init_2_0 0 rfl rfl)
theorem dJ4_init_2_1 : decode cJ4_init_2 1 = .ok (.aload_n 1, 1) := dk_43 (dk_at dksJ4_init_2_0 1 rfl rfl)
theorem dJ4_init_2_2 : decode cJ4_init_2 2 = .ok (.invokespecial 7, 3) := dk_183 0 7 (dk_at dksJ4_init_2_0 2 rfl rfl)
theorem dJ4_init_2_5 : decode cJ4_init_2 5 = .ok (.return_, 1) := dk_177 (dk_at dksJ4_init_2_0 5 rfl rfl)
abbrev cJ4_init_3 : ByteArray := prog_20_method_1_code
def yJ4_init_3 : MethodName := ⟨RJ4, "<init>", "()V"⟩
theorem dJ4_init_3_0 : decode cJ4_init_3 0 = .ok (.aload_n 0, 1) := by decide +kernel
theorem dJ4_init_3_1 : decode cJ4_init_3 1 = .ok (.invokespecial 1, 3) := by decide +kernel
theorem dJ4_init_3_4 : decode cJ4_init_3 4 = .ok (.return_, 1) := by decide +kernel
theorem q57 : (Jvm.Cond.initialized "java/lang/Exception") ∈ lw_all := lw_g (lw_at lw_m1 7 rfl) rfl
theorem q163 : (Jvm.Cond.declares ({ cls := "java/lang/Exception", name := "<init>", desc := "()V" } : Jvm.MethodName)) ∈ lw_tbl := lw_at lw_m1 113 rfl
theorem q164 : (Jvm.Cond.declares ({ cls := "java/lang/Exception", name := "<init>", desc := "(Ljava/lang/String;)V" } : Jvm.MethodName)) ∈ lw_tbl := lw_at lw_m1 114 rfl
theorem q208 : (Jvm.Cond.superclass "java/lang/Exception" "java/lang/Throwable") ∈ lw_all := lw_g (lw_at lw_m1 158 rfl) rfl
theorem q219 : (Jvm.Cond.instanceMethod ({ cls := "java/lang/Exception", name := "<init>", desc := "(Ljava/lang/String;Ljava/lang/Throwable;ZZ)V" } : Jvm.MethodName)) ∈ lw_all := lw_g (lw_at lw_m1 169 rfl) rfl
theorem q220 : (Jvm.Cond.code ({ cls := "java/lang/Exception", name := "<init>", desc := "(Ljava/lang/String;Ljava/lang/Throwable;ZZ)V" } : Jvm.MethodName) prog_20_method_5_code (5 : Nat) (Option.none : Option Jvm.ClassFile.FieldType)) ∈ lw_all := lw_g (lw_at lw_m1 170 rfl) rfl
theorem q221 : (Jvm.Cond.methodLink "java/lang/Exception" (16 : Nat) ({ cls := "java/lang/Throwable", name := "<init>", desc := "(Ljava/lang/String;Ljava/lang/Throwable;ZZ)V" } : Jvm.MethodName)) ∈ lw_all := lw_g (lw_at lw_m1 171 rfl) rfl
theorem q905 : (Jvm.Cond.instanceMethod ({ cls := "java/lang/Exception", name := "<init>", desc := "(Ljava/lang/String;)V" } : Jvm.MethodName)) ∈ lw_all := lw_g (lw_at lw_m4 135 rfl) rfl
theorem q906 : (Jvm.Cond.code ({ cls := "java/lang/Exception", name := "<init>", desc := "(Ljava/lang/String;)V" } : Jvm.MethodName) prog_20_method_2_code (2 : Nat) (Option.none : Option Jvm.ClassFile.FieldType)) ∈ lw_all := lw_g (lw_at lw_m4 136 rfl) rfl
theorem q907 : (Jvm.Cond.methodLink "java/lang/Exception" (7 : Nat) ({ cls := "java/lang/Throwable", name := "<init>", desc := "(Ljava/lang/String;)V" } : Jvm.MethodName)) ∈ lw_all := lw_g (lw_at lw_m4 137 rfl) rfl
theorem q942 : (Jvm.Cond.instanceMethod ({ cls := "java/lang/Exception", name := "<init>", desc := "()V" } : Jvm.MethodName)) ∈ lw_all := lw_g (lw_at lw_m4 172 rfl) rfl
theorem q943 : (Jvm.Cond.code ({ cls := "java/lang/Exception", name := "<init>", desc := "()V" } : Jvm.MethodName) prog_20_method_1_code (1 : Nat) (Option.none : Option Jvm.ClassFile.FieldType)) ∈ lw_all := lw_g (lw_at lw_m4 173 rfl) rfl
theorem q944 : (Jvm.Cond.methodLink "java/lang/Exception" (1 : Nat) ({ cls := "java/lang/Throwable", name := "<init>", desc := "()V" } : Jvm.MethodName)) ∈ lw_all := lw_g (lw_at lw_m4 174 rfl) rfl

/-! java/lang/Math -/
set_option maxRecDepth 100000
def RJ5 : String := "java/lang/Math"
abbrev cJ5_min : ByteArray := prog_23_method_69_code
def yJ5_min : MethodName := ⟨RJ5, "min", "(II)I"⟩
def dkwJ5_min_0 : List UInt8 := [26, 27, 163, 0, 7, 26, 167, 0, 4, 27, 172]
abbrev dktJ5_min_0 : List UInt8 := dkwJ5_min_0 ++ []
theorem dksJ5_min_0 : cJ5_min.data.toList.drop 0 = dktJ5_min_0 := by decide +kernel
theorem dJ5_min_0 : decode cJ5_min 0 = .ok (.iload_n 0, 1) := dk_26 (dk_at dksJ5_min_0 0 rfl rfl)
theorem dJ5_min_1 : decode cJ5_min 1 = .ok (.iload_n 1, 1) := dk_27 (dk_at dksJ5_min_0 1 rfl rfl)
theorem dJ5_min_2 : decode cJ5_min 2 = .ok (.if_icmp .gt 7, 3) := dk_163 0 7 (dk_at dksJ5_min_0 2 rfl rfl)
theorem dJ5_min_5 : decode cJ5_min 5 = .ok (.iload_n 0, 1) := dk_26 (dk_at dksJ5_min_0 5 rfl rfl)
theorem dJ5_min_6 : decode cJ5_min 6 = .ok (.goto 4, 3) := dk_167 0 4 (dk_at dksJ5_min_0 6 rfl rfl)
theorem dJ5_min_9 : decode cJ5_min 9 = .ok (.iload_n 1, 1) := dk_27 (dk_at dksJ5_min_0 9 rfl rfl)
theorem dJ5_min_10 : decode cJ5_min 10 = .ok (.ireturn, 1) := dk_172 (dk_at dksJ5_min_0 10 rfl rfl)
abbrev cJ5_abs : ByteArray := prog_23_method_59_code
def yJ5_abs : MethodName := ⟨RJ5, "abs", "(I)I"⟩
def dkwJ5_abs_0 : List UInt8 := [26, 156, 0, 8, 26, 116, 167, 0, 4, 26, 172]
abbrev dktJ5_abs_0 : List UInt8 := dkwJ5_abs_0 ++ []
theorem dksJ5_abs_0 : cJ5_abs.data.toList.drop 0 = dktJ5_abs_0 := by decide +kernel
theorem dJ5_abs_0 : decode cJ5_abs 0 = .ok (.iload_n 0, 1) := dk_26 (dk_at dksJ5_abs_0 0 rfl rfl)
theorem dJ5_abs_1 : decode cJ5_abs 1 = .ok (.ifCond .ge 8, 3) := dk_156 0 8 (dk_at dksJ5_abs_0 1 rfl rfl)
theorem dJ5_abs_4 : decode cJ5_abs 4 = .ok (.iload_n 0, 1) := dk_26 (dk_at dksJ5_abs_0 4 rfl rfl)
theorem dJ5_abs_5 : decode cJ5_abs 5 = .ok (.ineg, 1) := dk_116 (dk_at dksJ5_abs_0 5 rfl rfl)
theorem dJ5_abs_6 : decode cJ5_abs 6 = .ok (.goto 4, 3) := dk_167 0 4 (dk_at dksJ5_abs_0 6 rfl rfl)
theorem dJ5_abs_9 : decode cJ5_abs 9 = .ok (.iload_n 0, 1) := dk_26 (dk_at dksJ5_abs_0 9 rfl rfl)
theorem dJ5_abs_10 : decode cJ5_abs 10 = .ok (.ireturn, 1) := dk_172 (dk_at dksJ5_abs_0 10 rfl rfl)
abbrev cJ5_max : ByteArray := prog_23_method_65_code
def yJ5_max : MethodName := ⟨RJ5, "max", "(II)I"⟩
def dkwJ5_max_0 : List UInt8 := [26, 27, 161, 0, 7, 26, 167, 0, 4, 27, 172]
abbrev dktJ5_max_0 : List UInt8 := dkwJ5_max_0 ++ []
theorem dksJ5_max_0 : cJ5_max.data.toList.drop 0 = dktJ5_max_0 := by decide +kernel
theorem dJ5_max_0 : decode cJ5_max 0 = .ok (.iload_n 0, 1) := dk_26 (dk_at dksJ5_max_0 0 rfl rfl)
theorem dJ5_max_1 : decode cJ5_max 1 = .ok (.iload_n 1, 1) := dk_27 (dk_at dksJ5_max_0 1 rfl rfl)
theorem dJ5_max_2 : decode cJ5_max 2 = .ok (.if_icmp .lt 7, 3) := dk_161 0 7 (dk_at dksJ5_max_0 2 rfl rfl)
theorem dJ5_max_5 : decode cJ5_max 5 = .ok (.iload_n 0, 1) := dk_26 (dk_at dksJ5_max_0 5 rfl rfl)
theorem dJ5_max_6 : decode cJ5_max 6 = .ok (.goto 4, 3) := dk_167 0 4 (dk_at dksJ5_max_0 6 rfl rfl)
theorem dJ5_max_9 : decode cJ5_max 9 = .ok (.iload_n 1, 1) := dk_27 (dk_at dksJ5_max_0 9 rfl rfl)
theorem dJ5_max_10 : decode cJ5_max 10 = .ok (.ireturn, 1) := dk_172 (dk_at dksJ5_max_0 10 rfl rfl)
abbrev cJ5_abs_2 : ByteArray := prog_23_method_61_code
def yJ5_abs_2 : MethodName := ⟨RJ5, "abs", "(J)J"⟩
def dkwJ5_abs_2_0 : List UInt8 := [30, 9, 148, 156, 0, 8, 30, 117, 167, 0, 4, 30, 173]
abbrev dktJ5_abs_2_0 : List UInt8 := dkwJ5_abs_2_0 ++ []
theorem dksJ5_abs_2_0 : cJ5_abs_2.data.toList.drop 0 = dktJ5_abs_2_0 := by decide +kernel
theorem dJ5_abs_2_0 : decode cJ5_abs_2 0 = .ok (.lload_n 0, 1) := dk_30 (dk_at dksJ5_abs_2_0 0 rfl rfl)
theorem dJ5_abs_2_1 : decode cJ5_abs_2 1 = .ok (.lconst 0, 1) := dk_9 (dk_at dksJ5_abs_2_0 1 rfl rfl)
theorem dJ5_abs_2_2 : decode cJ5_abs_2 2 = .ok (.lcmp, 1) := dk_148 (dk_at dksJ5_abs_2_0 2 rfl rfl)
theorem dJ5_abs_2_3 : decode cJ5_abs_2 3 = .ok (.ifCond .ge 8, 3) := dk_156 0 8 (dk_at dksJ5_abs_2_0 3 rfl rfl)
theorem dJ5_abs_2_6 : decode cJ5_abs_2 6 = .ok (.lload_n 0, 1) := dk_30 (dk_at dksJ5_abs_2_0 6 rfl rfl)
theorem dJ5_abs_2_7 : decode cJ5_abs_2 7 = .ok (.lneg, 1) := dk_117 (dk_at dksJ5_abs_2_0 7 rfl rfl)
theorem dJ5_abs_2_8 : decode cJ5_abs_2 8 = .ok (.goto 4, 3) := dk_167 0 4 (dk_at dksJ5_abs_2_0 8 rfl rfl)
theorem dJ5_abs_2_11 : decode cJ5_abs_2 11 = .ok (.lload_n 0, 1) := dk_30 (dk_at dksJ5_abs_2_0 11 rfl rfl)
theorem dJ5_abs_2_12 : decode cJ5_abs_2 12 = .ok (.lreturn, 1) := dk_173 (dk_at dksJ5_abs_2_0 12 rfl rfl)
theorem q62 : (Jvm.Cond.initialized "java/lang/Math") ∈ lw_all := lw_g (lw_at lw_m1 12 rfl) rfl
theorem q385 : (Jvm.Cond.static ({ cls := "java/lang/Math", name := "min", desc := "(II)I" } : Jvm.MethodName)) ∈ lw_all := lw_g (lw_at lw_m2 95 rfl) rfl
theorem q386 : (Jvm.Cond.code ({ cls := "java/lang/Math", name := "min", desc := "(II)I" } : Jvm.MethodName) prog_23_method_69_code (2 : Nat) (Option.some Jvm.ClassFile.FieldType.int)) ∈ lw_all := lw_g (lw_at lw_m2 96 rfl) rfl
theorem q444 : (Jvm.Cond.static ({ cls := "java/lang/Math", name := "abs", desc := "(I)I" } : Jvm.MethodName)) ∈ lw_all := lw_g (lw_at lw_m2 154 rfl) rfl
theorem q445 : (Jvm.Cond.code ({ cls := "java/lang/Math", name := "abs", desc := "(I)I" } : Jvm.MethodName) prog_23_method_59_code (1 : Nat) (Option.some Jvm.ClassFile.FieldType.int)) ∈ lw_all := lw_g (lw_at lw_m2 155 rfl) rfl
theorem q613 : (Jvm.Cond.static ({ cls := "java/lang/Math", name := "max", desc := "(II)I" } : Jvm.MethodName)) ∈ lw_all := lw_g (lw_at lw_m3 83 rfl) rfl
theorem q614 : (Jvm.Cond.code ({ cls := "java/lang/Math", name := "max", desc := "(II)I" } : Jvm.MethodName) prog_23_method_65_code (2 : Nat) (Option.some Jvm.ClassFile.FieldType.int)) ∈ lw_all := lw_g (lw_at lw_m3 84 rfl) rfl
theorem q779 : (Jvm.Cond.static ({ cls := "java/lang/Math", name := "abs", desc := "(J)J" } : Jvm.MethodName)) ∈ lw_all := lw_g (lw_at lw_m4 9 rfl) rfl
theorem q780 : (Jvm.Cond.code ({ cls := "java/lang/Math", name := "abs", desc := "(J)J" } : Jvm.MethodName) prog_23_method_61_code (2 : Nat) (Option.some Jvm.ClassFile.FieldType.long)) ∈ lw_all := lw_g (lw_at lw_m4 10 rfl) rfl

/-! jdk/internal/util/ArraysSupport -/
set_option maxRecDepth 100000
def RJ6 : String := "jdk/internal/util/ArraysSupport"
abbrev cJ6_newLength : ByteArray := prog_39_method_27_code
def yJ6_newLength : MethodName := ⟨RJ6, "newLength", "(III)I"⟩
def dkwJ6_newLength_1 : List UInt8 := [184, 0, 201, 172]
abbrev dktJ6_newLength_1 : List UInt8 := dkwJ6_newLength_1 ++ []
def dkwJ6_newLength_0 : List UInt8 := [26, 27, 28, 184, 0, 194, 96, 62, 3, 29, 162, 0, 11, 29, 18, 200, 163, 0, 5, 29, 172, 26, 27]
abbrev dktJ6_newLength_0 : List UInt8 := dkwJ6_newLength_0 ++ dktJ6_newLength_1
theorem dksJ6_newLength_0 : cJ6_newLength.data.toList.drop 0 = dktJ6_newLength_0 := by decide +kernel
theorem dksJ6_newLength_1 : cJ6_newLength.data.toList.drop 23 = dktJ6_newLength_1 := dk_seg dksJ6_newLength_0 23 rfl rfl
theorem dJ6_newLength_0 : decode cJ6_newLength 0 = .ok (.iload_n 0, 1) := dk_26 (dk_at dksJ6_newLength_0 0 rfl rfl)
theorem dJ6_newLength_1 : decode cJ6_newLength 1 = .ok (.iload_n 1, 1) := dk_27 (dk_at dksJ6_newLength_0 1 rfl rfl)
theorem dJ6_newLength_2 : decode cJ6_newLength 2 = .ok (.iload_n 2, 1) := dk_28 (dk_at dksJ6_newLength_0 2 rfl rfl)
theorem dJ6_newLength_3 : decode cJ6_newLength 3 = .ok (.invokestatic 194, 3) := dk_184 0 194 (dk_at dksJ6_newLength_0 3 rfl rfl)
theorem dJ6_newLength_6 : decode cJ6_newLength 6 = .ok (.iadd, 1) := dk_96 (dk_at dksJ6_newLength_0 6 rfl rfl)
theorem dJ6_newLength_7 : decode cJ6_newLength 7 = .ok (.istore_n 3, 1) := dk_62 (dk_at dksJ6_newLength_0 7 rfl rfl)
theorem dJ6_newLength_8 : decode cJ6_newLength 8 = .ok (.iconst 0, 1) := dk_3 (dk_at dksJ6_newLength_0 8 rfl rfl)
theorem dJ6_newLength_9 : decode cJ6_newLength 9 = .ok (.iload_n 3, 1) := dk_29 (dk_at dksJ6_newLength_0 9 rfl rfl)
theorem dJ6_newLength_10 : decode cJ6_newLength 10 = .ok (.if_icmp .ge 11, 3) := dk_162 0 11 (dk_at dksJ6_newLength_0 10 rfl rfl)
theorem dJ6_newLength_13 : decode cJ6_newLength 13 = .ok (.iload_n 3, 1) := dk_29 (dk_at dksJ6_newLength_0 13 rfl rfl)
theorem dJ6_newLength_14 : decode cJ6_newLength 14 = .ok (.ldc 200, 2) := dk_18 200 (dk_at dksJ6_newLength_0 14 rfl rfl)
theorem dJ6_newLength_16 : decode cJ6_newLength 16 = .ok (.if_icmp .gt 5, 3) := dk_163 0 5 (dk_at dksJ6_newLength_0 16 rfl rfl)
theorem dJ6_newLength_19 : decode cJ6_newLength 19 = .ok (.iload_n 3, 1) := dk_29 (dk_at dksJ6_newLength_0 19 rfl rfl)
theorem dJ6_newLength_20 : decode cJ6_newLength 20 = .ok (.ireturn, 1) := dk_172 (dk_at dksJ6_newLength_0 20 rfl rfl)
theorem dJ6_newLength_21 : decode cJ6_newLength 21 = .ok (.iload_n 0, 1) := dk_26 (dk_at dksJ6_newLength_0 21 rfl rfl)
theorem dJ6_newLength_22 : decode cJ6_newLength 22 = .ok (.iload_n 1, 1) := dk_27 (dk_at dksJ6_newLength_0 22 rfl rfl)
theorem dJ6_newLength_23 : decode cJ6_newLength 23 = .ok (.invokestatic 201, 3) := dk_184 0 201 (dk_at dksJ6_newLength_1 0 rfl rfl)
theorem dJ6_newLength_26 : decode cJ6_newLength 26 = .ok (.ireturn, 1) := dk_172 (dk_at dksJ6_newLength_1 3 rfl rfl)
abbrev cJ6_hugeLength : ByteArray := prog_39_method_28_code
def yJ6_hugeLength : MethodName := ⟨RJ6, "hugeLength", "(II)I"⟩
def dkwJ6_hugeLength_2 : List UInt8 := [191, 28, 18, 200, 163, 0, 6, 18, 200, 172, 28, 172]
abbrev dktJ6_hugeLength_2 : List UInt8 := dkwJ6_hugeLength_2 ++ []
def dkwJ6_hugeLength_1 : List UInt8 := [26, 182, 0, 98, 18, 208, 182, 0, 94, 27, 182, 0, 98, 18, 210, 182, 0, 94, 182, 0, 101, 183, 0, 212]
abbrev dktJ6_hugeLength_1 : List UInt8 := dkwJ6_hugeLength_1 ++ dktJ6_hugeLength_2
def dkwJ6_hugeLength_0 : List UInt8 := [26, 27, 96, 61, 28, 156, 0, 44, 187, 0, 204, 89, 187, 0, 89, 89, 183, 0, 91, 18, 206, 182, 0, 94]
abbrev dktJ6_hugeLength_0 : List UInt8 := dkwJ6_hugeLength_0 ++ dktJ6_hugeLength_1
theorem dksJ6_hugeLength_0 : cJ6_hugeLength.data.toList.drop 0 = dktJ6_hugeLength_0 := by decide +kernel
theorem dksJ6_hugeLength_1 : cJ6_hugeLength.data.toList.drop 24 = dktJ6_hugeLength_1 := dk_seg dksJ6_hugeLength_0 24 rfl rfl
theorem dksJ6_hugeLength_2 : cJ6_hugeLength.data.toList.drop 48 = dktJ6_hugeLength_2 := dk_seg dksJ6_hugeLength_1 24 rfl rfl
theorem dJ6_hugeLength_0 : decode cJ6_hugeLength 0 = .ok (.iload_n 0, 1) := dk_26 (dk_at dksJ6_hugeLength_0 0 rfl rfl)
theorem dJ6_hugeLength_1 : decode cJ6_hugeLength 1 = .ok (.iload_n 1, 1) := dk_27 (dk_at dksJ6_hugeLength_0 1 rfl rfl)
theorem dJ6_hugeLength_2 : decode cJ6_hugeLength 2 = .ok (.iadd, 1) := dk_96 (dk_at dksJ6_hugeLength_0 2 rfl rfl)
theorem dJ6_hugeLength_3 : decode cJ6_hugeLength 3 = .ok (.istore_n 2, 1) := dk_61 (dk_at dksJ6_hugeLength_0 3 rfl rfl)
theorem dJ6_hugeLength_4 : decode cJ6_hugeLength 4 = .ok (.iload_n 2, 1) := dk_28 (dk_at dksJ6_hugeLength_0 4 rfl rfl)
theorem dJ6_hugeLength_5 : decode cJ6_hugeLength 5 = .ok (.ifCond .ge 44, 3) := dk_156 0 44 (dk_at dksJ6_hugeLength_0 5 rfl rfl)
theorem dJ6_hugeLength_8 : decode cJ6_hugeLength 8 = .ok (.new 204, 3) := dk_187 0 204 (dk_at dksJ6_hugeLength_0 8 rfl rfl)
theorem dJ6_hugeLength_11 : decode cJ6_hugeLength 11 = .ok (.dup, 1) := dk_89 (dk_at dksJ6_hugeLength_0 11 rfl rfl)
theorem dJ6_hugeLength_12 : decode cJ6_hugeLength 12 = .ok (.new 89, 3) := dk_187 0 89 (dk_at dksJ6_hugeLength_0 12 rfl rfl)
theorem dJ6_hugeLength_15 : decode cJ6_hugeLength 15 = .ok (.dup, 1) := dk_89 (dk_at dksJ6_hugeLength_0 15 rfl rfl)
theorem dJ6_hugeLength_16 : decode cJ6_hugeLength 16 = .ok (.invokespecial 91, 3) := dk_183 0 91 (dk_at dksJ6_hugeLength_0 16 rfl rfl)
theorem dJ6_hugeLength_19 : decode cJ6_hugeLength 19 = .ok (.ldc 206, 2) := dk_18 206 (dk_at dksJ6_hugeLength_0 19 rfl rfl)
theorem dJ6_hugeLength_21 : decode cJ6_hugeLength 21 = .ok (.invokevirtual 94, 3) := dk_182 0 94 (dk_at dksJ6_hugeLength_0 21 rfl rfl)
theorem dJ6_hugeLength_24 : decode cJ6_hugeLength 24 = .ok (.iload_n 0, 1) := dk_26 (dk_at dksJ6_hugeLength_1 0 rfl rfl)
theorem dJ6_hugeLength_25 : decode cJ6_hugeLength 25 = .ok (.invokevirtual 98, 3) := dk_182 0 98 (dk_at dksJ6_hugeLength_1 1 rfl rfl)
theorem dJ6_hugeLength_28 : decode cJ6_hugeLength 28 = .ok (.ldc 208, 2) := dk_18 208 (dk_at dksJ6_hugeLength_1 4 rfl rfl)
theorem dJ6_hugeLength_30 : decode cJ6_hugeLength 30 = .ok (.invokevirtual 94, 3) := dk_182 0 94 (dk_at dksJ6_hugeLength_1 6 rfl rfl)
theorem dJ6_hugeLength_33 : decode cJ6_hugeLength 33 = .ok (.iload_n 1, 1) := dk_27 (dk_at dksJ6_hugeLength_1 9 rfl rfl)
theorem dJ6_hugeLength_34 : decode cJ6_hugeLength 34 = .ok (.invokevirtual 98, 3) := dk_182 0 98 (dk_at dksJ6_hugeLength_1 10 rfl rfl)
theorem dJ6_hugeLength_37 : decode cJ6_hugeLength 37 = .ok (.ldc 210, 2) := dk_18 210 (dk_at dksJ6_hugeLength_1 13 rfl rfl)
theorem dJ6_hugeLength_39 : decode cJ6_hugeLength 39 = .ok (.invokevirtual 94, 3) := dk_182 0 94 (dk_at dksJ6_hugeLength_1 15 rfl rfl)
theorem dJ6_hugeLength_42 : decode cJ6_hugeLength 42 = .ok (.invokevirtual 101, 3) := dk_182 0 101 (dk_at dksJ6_hugeLength_1 18 rfl rfl)
theorem dJ6_hugeLength_45 : decode cJ6_hugeLength 45 = .ok (.invokespecial 212, 3) := dk_183 0 212 (dk_at dksJ6_hugeLength_1 21 rfl rfl)
theorem dJ6_hugeLength_48 : decode cJ6_hugeLength 48 = .ok (.athrow, 1) := dk_191 (dk_at dksJ6_hugeLength_2 0 rfl rfl)
theorem dJ6_hugeLength_49 : decode cJ6_hugeLength 49 = .ok (.iload_n 2, 1) := dk_28 (dk_at dksJ6_hugeLength_2 1 rfl rfl)
theorem dJ6_hugeLength_50 : decode cJ6_hugeLength 50 = .ok (.ldc 200, 2) := dk_18 200 (dk_at dksJ6_hugeLength_2 2 rfl rfl)
theorem dJ6_hugeLength_52 : decode cJ6_hugeLength 52 = .ok (.if_icmp .gt 6, 3) := dk_163 0 6 (dk_at dksJ6_hugeLength_2 4 rfl rfl)
theorem dJ6_hugeLength_55 : decode cJ6_hugeLength 55 = .ok (.ldc 200, 2) := dk_18 200 (dk_at dksJ6_hugeLength_2 7 rfl rfl)
theorem dJ6_hugeLength_57 : decode cJ6_hugeLength 57 = .ok (.ireturn, 1) := dk_172 (dk_at dksJ6_hugeLength_2 9 rfl rfl)
theorem dJ6_hugeLength_58 : decode cJ6_hugeLength 58 = .ok (.iload_n 2, 1) := dk_28 (dk_at dksJ6_hugeLength_2 10 rfl rfl)
theorem dJ6_hugeLength_59 : decode cJ6_hugeLength 59 = .ok (.ireturn, 1) := dk_172 (dk_at dksJ6_hugeLength_2 11 rfl rfl)
theorem q68 : (Jvm.Cond.initialized "jdk/internal/util/ArraysSupport") ∈ lw_all := lw_g (lw_at lw_m1 18 rfl) rfl
theorem q610 : (Jvm.Cond.static ({ cls := "jdk/internal/util/ArraysSupport", name := "newLength", desc := "(III)I" } : Jvm.MethodName)) ∈ lw_all := lw_g (lw_at lw_m3 80 rfl) rfl
theorem q611 : (Jvm.Cond.code ({ cls := "jdk/internal/util/ArraysSupport", name := "newLength", desc := "(III)I" } : Jvm.MethodName) prog_39_method_27_code (4 : Nat) (Option.some Jvm.ClassFile.FieldType.int)) ∈ lw_all := lw_g (lw_at lw_m3 81 rfl) rfl
theorem q612 : (Jvm.Cond.methodLink "jdk/internal/util/ArraysSupport" (194 : Nat) ({ cls := "java/lang/Math", name := "max", desc := "(II)I" } : Jvm.MethodName)) ∈ lw_all := lw_g (lw_at lw_m3 82 rfl) rfl
theorem q615 : (Jvm.Cond.constant "jdk/internal/util/ArraysSupport" (200 : Nat) (2147483639 : Int32)) ∈ lw_all := lw_g (lw_at lw_m3 85 rfl) rfl
theorem q616 : (Jvm.Cond.methodLink "jdk/internal/util/ArraysSupport" (201 : Nat) ({ cls := "jdk/internal/util/ArraysSupport", name := "hugeLength", desc := "(II)I" } : Jvm.MethodName)) ∈ lw_all := lw_g (lw_at lw_m3 86 rfl) rfl
theorem q617 : (Jvm.Cond.static ({ cls := "jdk/internal/util/ArraysSupport", name := "hugeLength", desc := "(II)I" } : Jvm.MethodName)) ∈ lw_all := lw_g (lw_at lw_m3 87 rfl) rfl
theorem q618 : (Jvm.Cond.code ({ cls := "jdk/internal/util/ArraysSupport", name := "hugeLength", desc := "(II)I" } : Jvm.MethodName) prog_39_method_28_code (3 : Nat) (Option.some Jvm.ClassFile.FieldType.int)) ∈ lw_all := lw_g (lw_at lw_m3 88 rfl) rfl

/-! java/util/Arrays -/
set_option maxRecDepth 100000
def RJ7 : String := "java/util/Arrays"
abbrev cJ7_copyOf : ByteArray := prog_33_method_119_code
def yJ7_copyOf : MethodName := ⟨RJ7, "copyOf", "([Ljava/lang/Object;I)[Ljava/lang/Object;"⟩
def dkwJ7_copyOf_0 : List UInt8 := [42, 27, 42, 182, 0, 86, 184, 1, 44, 176]
abbrev dktJ7_copyOf_0 : List UInt8 := dkwJ7_copyOf_0 ++ []
theorem dksJ7_copyOf_0 : cJ7_copyOf.data.toList.drop 0 = dktJ7_copyOf_0 := by decide +kernel
theorem dJ7_copyOf_0 : decode cJ7_copyOf 0 = .ok (.aload_n 0, 1) := dk_42 (dk_at dksJ7_copyOf_0 0 rfl rfl)
theorem dJ7_copyOf_1 : decode cJ7_copyOf 1 = .ok (.iload_n 1, 1) := dk_27 (dk_at dksJ7_copyOf_0 1 rfl rfl)
theorem dJ7_copyOf_2 : decode cJ7_copyOf 2 = .ok (.aload_n 0, 1) := dk_42 (dk_at dksJ7_copyOf_0 2 rfl rfl)
theorem dJ7_copyOf_3 : decode cJ7_copyOf 3 = .ok (.invokevirtual 86, 3) := dk_182 0 86 (dk_at dksJ7_copyOf_0 3 rfl rfl)
theorem dJ7_copyOf_6 : decode cJ7_copyOf 6 = .ok (.invokestatic 300, 3) := dk_184 1 44 (dk_at dksJ7_copyOf_0 6 rfl rfl)
theorem dJ7_copyOf_9 : decode cJ7_copyOf 9 = .ok (.areturn, 1) := dk_176 (dk_at dksJ7_copyOf_0 9 rfl rfl)
abbrev cJ7_copyOf_2 : ByteArray := prog_33_method_120_code
def yJ7_copyOf_2 : MethodName := ⟨RJ7, "copyOf", "([Ljava/lang/Object;ILjava/lang/Class;)[Ljava/lang/Object;"⟩
def dkwJ7_copyOf_2_1 : List UInt8 := [78, 42, 3, 45, 3, 42, 190, 27, 184, 1, 48, 184, 0, 150, 45, 176]
abbrev dktJ7_copyOf_2_1 : List UInt8 := dkwJ7_copyOf_2_1 ++ []
def dkwJ7_copyOf_2_0 : List UInt8 := [44, 18, 110, 166, 0, 10, 27, 189, 0, 2, 167, 0, 14, 44, 182, 0, 90, 27, 184, 0, 95, 192, 0, 110]
abbrev dktJ7_copyOf_2_0 : List UInt8 := dkwJ7_copyOf_2_0 ++ dktJ7_copyOf_2_1
theorem dksJ7_copyOf_2_0 : cJ7_copyOf_2.data.toList.drop 0 = dktJ7_copyOf_2_0 := by decide +kernel
theorem dksJ7_copyOf_2_1 : cJ7_copyOf_2.data.toList.drop 24 = dktJ7_copyOf_2_1 := dk_seg dksJ7_copyOf_2_0 24 rfl rfl
theorem dJ7_copyOf_2_0 : decode cJ7_copyOf_2 0 = .ok (.aload_n 2, 1) := dk_44 (dk_at dksJ7_copyOf_2_0 0 rfl rfl)
theorem dJ7_copyOf_2_1 : decode cJ7_copyOf_2 1 = .ok (.ldc 110, 2) := dk_18 110 (dk_at dksJ7_copyOf_2_0 1 rfl rfl)
theorem dJ7_copyOf_2_3 : decode cJ7_copyOf_2 3 = .ok (.if_acmp .ne 10, 3) := dk_166 0 10 (dk_at dksJ7_copyOf_2_0 3 rfl rfl)
theorem dJ7_copyOf_2_6 : decode cJ7_copyOf_2 6 = .ok (.iload_n 1, 1) := dk_27 (dk_at dksJ7_copyOf_2_0 6 rfl rfl)
theorem dJ7_copyOf_2_7 : decode cJ7_copyOf_2 7 = .ok (.anewarray 2, 3) := dk_189 0 2 (dk_at dksJ7_copyOf_2_0 7 rfl rfl)
theorem dJ7_copyOf_2_10 : decode cJ7_copyOf_2 10 = .ok (.goto 14, 3) := dk_167 0 14 (dk_at dksJ7_copyOf_2_0 10 rfl rfl)
theorem dJ7_copyOf_2_13 : decode cJ7_copyOf_2 13 = .ok (.aload_n 2, 1) := dk_44 (dk_at dksJ7_copyOf_2_0 13 rfl rfl)
theorem dJ7_copyOf_2_14 : decode cJ7_copyOf_2 14 = .ok (.invokevirtual 90, 3) := dk_182 0 90 (dk_at dksJ7_copyOf_2_0 14 rfl rfl)
theorem dJ7_copyOf_2_17 : decode cJ7_copyOf_2 17 = .ok (.iload_n 1, 1) := dk_27 (dk_at dksJ7_copyOf_2_0 17 rfl rfl)
theorem dJ7_copyOf_2_18 : decode cJ7_copyOf_2 18 = .ok (.invokestatic 95, 3) := dk_184 0 95 (dk_at dksJ7_copyOf_2_0 18 rfl rfl)
theorem dJ7_copyOf_2_21 : decode cJ7_copyOf_2 21 = .ok (.checkcast 110, 3) := dk_192 0 110 (dk_at dksJ7_copyOf_2_0 21 rfl rfl)
theorem dJ7_copyOf_2_24 : decode cJ7_copyOf_2 24 = .ok (.astore_n 3, 1) := dk_78 (dk_at dksJ7_copyOf_2_1 0 rfl rfl)
theorem dJ7_copyOf_2_25 : decode cJ7_copyOf_2 25 = .ok (.aload_n 0, 1) := dk_42 (dk_at dksJ7_copyOf_2_1 1 rfl rfl)
theorem dJ7_copyOf_2_26 : decode cJ7_copyOf_2 26 = .ok (.iconst 0, 1) := dk_3 (dk_at dksJ7_copyOf_2_1 2 rfl rfl)
theorem dJ7_copyOf_2_27 : decode cJ7_copyOf_2 27 = .ok (.aload_n 3, 1) := dk_45 (dk_at dksJ7_copyOf_2_1 3 rfl rfl)
theorem dJ7_copyOf_2_28 : decode cJ7_copyOf_2 28 = .ok (.iconst 0, 1) := dk_3 (dk_at dksJ7_copyOf_2_1 4 rfl rfl)
theorem dJ7_copyOf_2_29 : decode cJ7_copyOf_2 29 = .ok (.aload_n 0, 1) := dk_42 (dk_at dksJ7_copyOf_2_1 5 rfl rfl)
theorem dJ7_copyOf_2_30 : decode cJ7_copyOf_2 30 = .ok (.arraylength, 1) := dk_190 (dk_at dksJ7_copyOf_2_1 6 rfl rfl)
theorem dJ7_copyOf_2_31 : decode cJ7_copyOf_2 31 = .ok (.iload_n 1, 1) := dk_27 (dk_at dksJ7_copyOf_2_1 7 rfl rfl)
theorem dJ7_copyOf_2_32 : decode cJ7_copyOf_2 32 = .ok (.invokestatic 304, 3) := dk_184 1 48 (dk_at dksJ7_copyOf_2_1 8 rfl rfl)
theorem dJ7_copyOf_2_35 : decode cJ7_copyOf_2 35 = .ok (.invokestatic 150, 3) := dk_184 0 150 (dk_at dksJ7_copyOf_2_1 11 rfl rfl)
theorem dJ7_copyOf_2_38 : decode cJ7_copyOf_2 38 = .ok (.aload_n 3, 1) := dk_45 (dk_at dksJ7_copyOf_2_1 14 rfl rfl)
theorem dJ7_copyOf_2_39 : decode cJ7_copyOf_2 39 = .ok (.areturn, 1) := dk_176 (dk_at dksJ7_copyOf_2_1 15 rfl rfl)
theorem q69 : (Jvm.Cond.initialized "java/util/Arrays") ∈ lw_all := lw_g (lw_at lw_m1 19 rfl) rfl
theorem q620 : (Jvm.Cond.static ({ cls := "java/util/Arrays", name := "copyOf", desc := "([Ljava/lang/Object;I)[Ljava/lang/Object;" } : Jvm.MethodName)) ∈ lw_all := lw_g (lw_at lw_m3 90 rfl) rfl
theorem q621 : (Jvm.Cond.code ({ cls := "java/util/Arrays", name := "copyOf", desc := "([Ljava/lang/Object;I)[Ljava/lang/Object;" } : Jvm.MethodName) prog_33_method_119_code (2 : Nat) (Option.some (Jvm.ClassFile.FieldType.array (Jvm.ClassFile.FieldType.object "java/lang/Object")))) ∈ lw_all := lw_g (lw_at lw_m3 91 rfl) rfl
theorem q622 : (Jvm.Cond.methodLink "java/util/Arrays" (86 : Nat) ({ cls := "java/lang/Object", name := "getClass", desc := "()Ljava/lang/Class;" } : Jvm.MethodName)) ∈ lw_all := lw_g (lw_at lw_m3 92 rfl) rfl
theorem q644 : (Jvm.Cond.methodLink "java/util/Arrays" (300 : Nat) ({ cls := "java/util/Arrays", name := "copyOf", desc := "([Ljava/lang/Object;ILjava/lang/Class;)[Ljava/lang/Object;" } : Jvm.MethodName)) ∈ lw_all := lw_g (lw_at lw_m3 114 rfl) rfl
theorem q645 : (Jvm.Cond.static ({ cls := "java/util/Arrays", name := "copyOf", desc := "([Ljava/lang/Object;ILjava/lang/Class;)[Ljava/lang/Object;" } : Jvm.MethodName)) ∈ lw_all := lw_g (lw_at lw_m3 115 rfl) rfl
theorem q646 : (Jvm.Cond.code ({ cls := "java/util/Arrays", name := "copyOf", desc := "([Ljava/lang/Object;ILjava/lang/Class;)[Ljava/lang/Object;" } : Jvm.MethodName) prog_33_method_120_code (4 : Nat) (Option.some (Jvm.ClassFile.FieldType.array (Jvm.ClassFile.FieldType.object "java/lang/Object")))) ∈ lw_all := lw_g (lw_at lw_m3 116 rfl) rfl
theorem q647 : (Jvm.Cond.classLink "java/util/Arrays" (110 : Nat) "[Ljava/lang/Object;") ∈ lw_all := lw_g (lw_at lw_m3 117 rfl) rfl
theorem q649 : (Jvm.Cond.classLink "java/util/Arrays" (2 : Nat) "java/lang/Object") ∈ lw_all := lw_g (lw_at lw_m3 119 rfl) rfl
theorem q650 : (Jvm.Cond.methodLink "java/util/Arrays" (304 : Nat) ({ cls := "java/lang/Math", name := "min", desc := "(II)I" } : Jvm.MethodName)) ∈ lw_all := lw_g (lw_at lw_m3 120 rfl) rfl
theorem q651 : (Jvm.Cond.methodLink "java/util/Arrays" (150 : Nat) ({ cls := "java/lang/System", name := "arraycopy", desc := "(Ljava/lang/Object;ILjava/lang/Object;II)V" } : Jvm.MethodName)) ∈ lw_all := lw_g (lw_at lw_m3 121 rfl) rfl

/-! java/util/Objects -/
set_option maxRecDepth 100000
def RJ8 : String := "java/util/Objects"
abbrev cJ8_checkIndex : ByteArray := prog_36_method_17_code
def yJ8_checkIndex : MethodName := ⟨RJ8, "checkIndex", "(II)I"⟩
def dkwJ8_checkIndex_0 : List UInt8 := [26, 27, 1, 184, 0, 105, 172]
abbrev dktJ8_checkIndex_0 : List UInt8 := dkwJ8_checkIndex_0 ++ []
theorem dksJ8_checkIndex_0 : cJ8_checkIndex.data.toList.drop 0 = dktJ8_checkIndex_0 := by decide +kernel
theorem dJ8_checkIndex_0 : decode cJ8_checkIndex 0 = .ok (.iload_n 0, 1) := dk_26 (dk_at dksJ8_checkIndex_0 0 rfl rfl)
theorem dJ8_checkIndex_1 : decode cJ8_checkIndex 1 = .ok (.iload_n 1, 1) := dk_27 (dk_at dksJ8_checkIndex_0 1 rfl rfl)
theorem dJ8_checkIndex_2 : decode cJ8_checkIndex 2 = .ok (.aconst_null, 1) := dk_1 (dk_at dksJ8_checkIndex_0 2 rfl rfl)
theorem dJ8_checkIndex_3 : decode cJ8_checkIndex 3 = .ok (.invokestatic 105, 3) := dk_184 0 105 (dk_at dksJ8_checkIndex_0 3 rfl rfl)
theorem dJ8_checkIndex_6 : decode cJ8_checkIndex 6 = .ok (.ireturn, 1) := dk_172 (dk_at dksJ8_checkIndex_0 6 rfl rfl)
theorem q70 : (Jvm.Cond.initialized "java/util/Objects") ∈ lw_all := lw_g (lw_at lw_m1 20 rfl) rfl
theorem q681 : (Jvm.Cond.static ({ cls := "java/util/Objects", name := "checkIndex", desc := "(II)I" } : Jvm.MethodName)) ∈ lw_all := lw_g (lw_at lw_m3 151 rfl) rfl
theorem q682 : (Jvm.Cond.code ({ cls := "java/util/Objects", name := "checkIndex", desc := "(II)I" } : Jvm.MethodName) prog_36_method_17_code (2 : Nat) (Option.some Jvm.ClassFile.FieldType.int)) ∈ lw_all := lw_g (lw_at lw_m3 152 rfl) rfl
theorem q683 : (Jvm.Cond.methodLink "java/util/Objects" (105 : Nat) ({ cls := "jdk/internal/util/Preconditions", name := "checkIndex", desc := "(IILjava/util/function/BiFunction;)I" } : Jvm.MethodName)) ∈ lw_all := lw_g (lw_at lw_m3 153 rfl) rfl

/-! jdk/internal/util/Preconditions -/
set_option maxRecDepth 100000
def RJ9 : String := "jdk/internal/util/Preconditions"
abbrev cJ9_checkIndex : ByteArray := prog_40_method_11_code
def yJ9_checkIndex : MethodName := ⟨RJ9, "checkIndex", "(IILjava/util/function/BiFunction;)I"⟩
def dkwJ9_checkIndex_0 : List UInt8 := [26, 155, 0, 8, 26, 27, 161, 0, 10, 44, 26, 27, 184, 0, 95, 191, 26, 172]
abbrev dktJ9_checkIndex_0 : List UInt8 := dkwJ9_checkIndex_0 ++ []
theorem dksJ9_checkIndex_0 : cJ9_checkIndex.data.toList.drop 0 = dktJ9_checkIndex_0 := by decide +kernel
theorem dJ9_checkIndex_0 : decode cJ9_checkIndex 0 = .ok (.iload_n 0, 1) := dk_26 (dk_at dksJ9_checkIndex_0 0 rfl rfl)
theorem dJ9_checkIndex_1 : decode cJ9_checkIndex 1 = .ok (.ifCond .lt 8, 3) := dk_155 0 8 (dk_at dksJ9_checkIndex_0 1 rfl rfl)
theorem dJ9_checkIndex_4 : decode cJ9_checkIndex 4 = .ok (.iload_n 0, 1) := dk_26 (dk_at dksJ9_checkIndex_0 4 rfl rfl)
theorem dJ9_checkIndex_5 : decode cJ9_checkIndex 5 = .ok (.iload_n 1, 1) := dk_27 (dk_at dksJ9_checkIndex_0 5 rfl rfl)
theorem dJ9_checkIndex_6 : decode cJ9_checkIndex 6 = .ok (.if_icmp .lt 10, 3) := dk_161 0 10 (dk_at dksJ9_checkIndex_0 6 rfl rfl)
theorem dJ9_checkIndex_9 : decode cJ9_checkIndex 9 = .ok (.aload_n 2, 1) := dk_44 (dk_at dksJ9_checkIndex_0 9 rfl rfl)
theorem dJ9_checkIndex_10 : decode cJ9_checkIndex 10 = .ok (.iload_n 0, 1) := dk_26 (dk_at dksJ9_checkIndex_0 10 rfl rfl)
theorem dJ9_checkIndex_11 : decode cJ9_checkIndex 11 = .ok (.iload_n 1, 1) := dk_27 (dk_at dksJ9_checkIndex_0 11 rfl rfl)
theorem dJ9_checkIndex_12 : decode cJ9_checkIndex 12 = .ok (.invokestatic 95, 3) := dk_184 0 95 (dk_at dksJ9_checkIndex_0 12 rfl rfl)
theorem dJ9_checkIndex_15 : decode cJ9_checkIndex 15 = .ok (.athrow, 1) := dk_191 (dk_at dksJ9_checkIndex_0 15 rfl rfl)
theorem dJ9_checkIndex_16 : decode cJ9_checkIndex 16 = .ok (.iload_n 0, 1) := dk_26 (dk_at dksJ9_checkIndex_0 16 rfl rfl)
theorem dJ9_checkIndex_17 : decode cJ9_checkIndex 17 = .ok (.ireturn, 1) := dk_172 (dk_at dksJ9_checkIndex_0 17 rfl rfl)
theorem q71 : (Jvm.Cond.initialized "jdk/internal/util/Preconditions") ∈ lw_all := lw_g (lw_at lw_m1 21 rfl) rfl
theorem q684 : (Jvm.Cond.static ({ cls := "jdk/internal/util/Preconditions", name := "checkIndex", desc := "(IILjava/util/function/BiFunction;)I" } : Jvm.MethodName)) ∈ lw_all := lw_g (lw_at lw_m3 154 rfl) rfl
theorem q685 : (Jvm.Cond.code ({ cls := "jdk/internal/util/Preconditions", name := "checkIndex", desc := "(IILjava/util/function/BiFunction;)I" } : Jvm.MethodName) prog_40_method_11_code (3 : Nat) (Option.some Jvm.ClassFile.FieldType.int)) ∈ lw_all := lw_g (lw_at lw_m3 155 rfl) rfl

/-! SevenRings$Told -/
set_option maxRecDepth 100000
def RX1 : String := "SevenRings$Told"
def TX1 : u_T := fun k => match k with
  | 0 => ("SevenRings$Told", "set", "[I", true)
  | 1 => ("SevenRings$Told", "fars", "[I", true)
  | 2 => ("SevenRings$Told", "tones", "[I", true)
  | 3 => ("SevenRings$Told", "currents", "[B", true)
  | 4 => ("SevenRings$Told", "warmths", "[B", true)
  | 5 => ("SevenRings$Told", "depths", "[B", true)
  | 6 => ("SevenRings$Told", "pieces", "Ljava/util/List;", true)
  | _ => ("SevenRings$Told", "drags", "Ljava/util/List;", true)
def tyX1 : Nat → FieldType := fun k => match k with
  | 0 => .array .int
  | 1 => .array .int
  | 2 => .array .int
  | 3 => .array .byte
  | 4 => .array .byte
  | 5 => .array .byte
  | 6 => .object "java/util/List"
  | _ => .object "java/util/List"
abbrev wsX10 : List Cond := u_ws RX1 TX1 8
theorem nmX1 : ∀ a, a < 8 → ∀ b, b < 8 → a ≠ b → (TX1 a).2.1 ≠ (TX1 b).2.1 := by decide +kernel
theorem tyX1_ok : ∀ k, k < 8 → parseFieldDescriptor (TX1 k).2.2.1 = some (tyX1 k) := by decide +kernel
abbrev cX1_init : ByteArray := prog_12_method_1_code
def yX1_init : MethodName := ⟨RX1, "<init>", "()V"⟩
def dkwX1_init_8 : List UInt8 := [167, 255, 221, 177]
abbrev dktX1_init_8 : List UInt8 := dkwX1_init_8 ++ []
def dkwX1_init_7 : List UInt8 := [84, 42, 180, 0, 21, 27, 16, 8, 84, 42, 180, 0, 21, 16, 100, 27, 96, 16, 8, 84, 132, 1, 1]
abbrev dktX1_init_7 : List UInt8 := dkwX1_init_7 ++ dktX1_init_8
def dkwX1_init_6 : List UInt8 := [187, 0, 31, 89, 183, 0, 33, 181, 0, 38, 3, 60, 27, 16, 100, 162, 0, 35, 42, 180, 0, 28, 27, 4]
abbrev dktX1_init_6 : List UInt8 := dkwX1_init_6 ++ dktX1_init_7
def dkwX1_init_5 : List UInt8 := [181, 0, 25, 42, 16, 100, 188, 8, 181, 0, 28, 42, 187, 0, 31, 89, 183, 0, 33, 181, 0, 34, 42]
abbrev dktX1_init_5 : List UInt8 := dkwX1_init_5 ++ dktX1_init_6
def dkwX1_init_4 : List UInt8 := [16, 7, 188, 10, 181, 0, 18, 42, 17, 0, 200, 188, 8, 181, 0, 21, 42, 17, 0, 200, 188, 8]
abbrev dktX1_init_4 : List UInt8 := dkwX1_init_4 ++ dktX1_init_5
def dkwX1_init_3 : List UInt8 := [6, 16, 252, 79, 89, 7, 16, 252, 79, 89, 8, 16, 252, 79, 89, 16, 6, 16, 252, 79, 181, 0, 15, 42]
abbrev dktX1_init_3 : List UInt8 := dkwX1_init_3 ++ dktX1_init_4
def dkwX1_init_2 : List UInt8 := [181, 0, 9, 42, 16, 7, 188, 10, 89, 3, 16, 252, 79, 89, 4, 16, 252, 79, 89, 5, 16, 252, 79, 89]
abbrev dktX1_init_2 : List UInt8 := dkwX1_init_2 ++ dktX1_init_3
def dkwX1_init_1 : List UInt8 := [4, 79, 89, 7, 3, 79, 89, 8, 16, 60, 79, 89, 16, 6, 4, 79, 89, 16, 7, 16, 8, 79]
abbrev dktX1_init_1 : List UInt8 := dkwX1_init_1 ++ dktX1_init_2
def dkwX1_init_0 : List UInt8 := [42, 183, 0, 3, 42, 16, 8, 188, 10, 89, 3, 3, 79, 89, 4, 3, 79, 89, 5, 16, 6, 79, 89, 6]
abbrev dktX1_init_0 : List UInt8 := dkwX1_init_0 ++ dktX1_init_1
theorem dksX1_init_0 : cX1_init.data.toList.drop 0 = dktX1_init_0 := by decide +kernel
theorem dksX1_init_1 : cX1_init.data.toList.drop 24 = dktX1_init_1 := dk_seg dksX1_init_0 24 rfl rfl
theorem dksX1_init_2 : cX1_init.data.toList.drop 46 = dktX1_init_2 := dk_seg dksX1_init_1 22 rfl rfl
theorem dksX1_init_3 : cX1_init.data.toList.drop 70 = dktX1_init_3 := dk_seg dksX1_init_2 24 rfl rfl
theorem dksX1_init_4 : cX1_init.data.toList.drop 94 = dktX1_init_4 := dk_seg dksX1_init_3 24 rfl rfl
theorem dksX1_init_5 : cX1_init.data.toList.drop 116 = dktX1_init_5 := dk_seg dksX1_init_4 22 rfl rfl
theorem dksX1_init_6 : cX1_init.data.toList.drop 139 = dktX1_init_6 := dk_seg dksX1_init_5 23 rfl rfl
theorem dksX1_init_7 : cX1_init.data.toList.drop 163 = dktX1_init_7 := dk_seg dksX1_init_6 24 rfl rfl
theorem dksX1_init_8 : cX1_init.data.toList.drop 186 = dktX1_init_8 := dk_seg dksX1_init_7 23 rfl rfl
theorem dX1_init_0 : decode cX1_init 0 = .ok (.aload_n 0, 1) := dk_42 (dk_at dksX1_init_0 0 rfl rfl)
theorem dX1_init_1 : decode cX1_init 1 = .ok (.invokespecial 3, 3) := dk_183 0 3 (dk_at dksX1_init_0 1 rfl rfl)
theorem dX1_init_4 : decode cX1_init 4 = .ok (.aload_n 0, 1) := dk_42 (dk_at dksX1_init_0 4 rfl rfl)
theorem dX1_init_5 : decode cX1_init 5 = .ok (.bipush 8, 2) := dk_16 8 (dk_at dksX1_init_0 5 rfl rfl)
theorem dX1_init_7 : decode cX1_init 7 = .ok (.newarray .int, 2) := dk_188_10 (dk_at dksX1_init_0 7 rfl rfl)
theorem dX1_init_9 : decode cX1_init 9 = .ok (.dup, 1) := dk_89 (dk_at dksX1_init_0 9 rfl rfl)
theorem dX1_init_10 : decode cX1_init 10 = .ok (.iconst 0, 1) := dk_3 (dk_at dksX1_init_0 10 rfl rfl)
theorem dX1_init_11 : decode cX1_init 11 = .ok (.iconst 0, 1) := dk_3 (dk_at dksX1_init_0 11 rfl rfl)
theorem dX1_init_12 : decode cX1_init 12 = .ok (.iastore, 1) := dk_79 (dk_at dksX1_init_0 12 rfl rfl)
theorem dX1_init_13 : decode cX1_init 13 = .ok (.dup, 1) := dk_89 (dk_at dksX1_init_0 13 rfl rfl)
theorem dX1_init_14 : decode cX1_init 14 = .ok (.iconst 1, 1) := dk_4 (dk_at dksX1_init_0 14 rfl rfl)
theorem dX1_init_15 : decode cX1_init 15 = .ok (.iconst 0, 1) := dk_3 (dk_at dksX1_init_0 15 rfl rfl)
theorem dX1_init_16 : decode cX1_init 16 = .ok (.iastore, 1) := dk_79 (dk_at dksX1_init_0 16 rfl rfl)
theorem dX1_init_17 : decode cX1_init 17 = .ok (.dup, 1) := dk_89 (dk_at dksX1_init_0 17 rfl rfl)
theorem dX1_init_18 : decode cX1_init 18 = .ok (.iconst 2, 1) := dk_5 (dk_at dksX1_init_0 18 rfl rfl)
theorem dX1_init_19 : decode cX1_init 19 = .ok (.bipush 6, 2) := dk_16 6 (dk_at dksX1_init_0 19 rfl rfl)
theorem dX1_init_21 : decode cX1_init 21 = .ok (.iastore, 1) := dk_79 (dk_at dksX1_init_0 21 rfl rfl)
theorem dX1_init_22 : decode cX1_init 22 = .ok (.dup, 1) := dk_89 (dk_at dksX1_init_0 22 rfl rfl)
theorem dX1_init_23 : decode cX1_init 23 = .ok (.iconst 3, 1) := dk_6 (dk_at dksX1_init_0 23 rfl rfl)
theorem dX1_init_24 : decode cX1_init 24 = .ok (.iconst 1, 1) := dk_4 (dk_at dksX1_init_1 0 rfl rfl)
theorem dX1_init_25 : decode cX1_init 25 = .ok (.iastore, 1) := dk_79 (dk_at dksX1_init_1 1 rfl rfl)
theorem dX1_init_26 : decode cX1_init 26 = .ok (.dup, 1) := dk_89 (dk_at dksX1_init_1 2 rfl rfl)
theorem dX1_init_27 : decode cX1_init 27 = .ok (.iconst 4, 1) := dk_7 (dk_at dksX1_init_1 3 rfl rfl)
theorem dX1_init_28 : decode cX1_init 28 = .ok (.iconst 0, 1) := dk_3 (dk_at dksX1_init_1 4 rfl rfl)
theorem dX1_init_29 : decode cX1_init 29 = .ok (.iastore, 1) := dk_79 (dk_at dksX1_init_1 5 rfl rfl)
theorem dX1_init_30 : decode cX1_init 30 = .ok (.dup, 1) := dk_89 (dk_at dksX1_init_1 6 rfl rfl)
theorem dX1_init_31 : decode cX1_init 31 = .ok (.iconst 5, 1) := dk_8 (dk_at dksX1_init_1 7 rfl rfl)
theorem dX1_init_32 : decode cX1_init 32 = .ok (.bipush 60, 2) := dk_16 60 (dk_at dksX1_init_1 8 rfl rfl)
theorem dX1_init_34 : decode cX1_init 34 = .ok (.iastore, 1) := dk_79 (dk_at dksX1_init_1 10 rfl rfl)
theorem dX1_init_35 : decode cX1_init 35 = .ok (.dup, 1) := dk_89 (dk_at dksX1_init_1 11 rfl rfl)
theorem dX1_init_36 : decode cX1_init 36 = .ok (.bipush 6, 2) := dk_16 6 (dk_at dksX1_init_1 12 rfl rfl)
theorem dX1_init_38 : decode cX1_init 38 = .ok (.iconst 1, 1) := dk_4 (dk_at dksX1_init_1 14 rfl rfl)
theorem dX1_init_39 : decode cX1_init 39 = .ok (.iastore, 1) := dk_79 (dk_at dksX1_init_1 15 rfl rfl)
theorem dX1_init_40 : decode cX1_init 40 = .ok (.dup, 1) := dk_89 (dk_at dksX1_init_1 16 rfl rfl)
theorem dX1_init_41 : decode cX1_init 41 = .ok (.bipush 7, 2) := dk_16 7 (dk_at dksX1_init_1 17 rfl rfl)
theorem dX1_init_43 : decode cX1_init 43 = .ok (.bipush 8, 2) := dk_16 8 (dk_at dksX1_init_1 19 rfl rfl)
theorem dX1_init_45 : decode cX1_init 45 = .ok (.iastore, 1) := dk_79 (dk_at dksX1_init_1 21 rfl rfl)
theorem dX1_init_46 : decode cX1_init 46 = .ok (.putfield 9, 3) := dk_181 0 9 (dk_at dksX1_init_2 0 rfl rfl)
theorem dX1_init_49 : decode cX1_init 49 = .ok (.aload_n 0, 1) := dk_42 (dk_at dksX1_init_2 3 rfl rfl)
theorem dX1_init_50 : decode cX1_init 50 = .ok (.bipush 7, 2) := dk_16 7 (dk_at dksX1_init_2 4 rfl rfl)
theorem dX1_init_52 : decode cX1_init 52 = .ok (.newarray .int, 2) := dk_188_10 (dk_at dksX1_init_2 6 rfl rfl)
theorem dX1_init_54 : decode cX1_init 54 = .ok (.dup, 1) := dk_89 (dk_at dksX1_init_2 8 rfl rfl)
theorem dX1_init_55 : decode cX1_init 55 = .ok (.iconst 0, 1) := dk_3 (dk_at dksX1_init_2 9 rfl rfl)
theorem dX1_init_56 : decode cX1_init 56 = .ok (.bipush (-4), 2) := dk_16 252 (dk_at dksX1_init_2 10 rfl rfl)
theorem dX1_init_58 : decode cX1_init 58 = .ok (.iastore, 1) := dk_79 (dk_at dksX1_init_2 12 rfl rfl)
theorem dX1_init_59 : decode cX1_init 59 = .ok (.dup, 1) := dk_89 (dk_at dksX1_init_2 13 rfl rfl)
theorem dX1_init_60 : decode cX1_init 60 = .ok (.iconst 1, 1) := dk_4 (dk_at dksX1_init_2 14 rfl rfl)
theorem dX1_init_61 : decode cX1_init 61 = .ok (.bipush (-4), 2) := dk_16 252 (dk_at dksX1_init_2 15 rfl rfl)
theorem dX1_init_63 : decode cX1_init 63 = .ok (.iastore, 1) := dk_79 (dk_at dksX1_init_2 17 rfl rfl)
theorem dX1_init_64 : decode cX1_init 64 = .ok (.dup, 1) := dk_89 (dk_at dksX1_init_2 18 rfl rfl)
theorem dX1_init_65 : decode cX1_init 65 = .ok (.iconst 2, 1) := dk_5 (dk_at dksX1_init_2 19 rfl rfl)
theorem dX1_init_66 : decode cX1_init 66 = .ok (.bipush (-4), 2) := dk_16 252 (dk_at dksX1_init_2 20 rfl rfl)
theorem dX1_init_68 : decode cX1_init 68 = .ok (.iastore, 1) := dk_79 (dk_at dksX1_init_2 22 rfl rfl)
theorem dX1_init_69 : decode cX1_init 69 = .ok (.dup, 1) := dk_89 (dk_at dksX1_init_2 23 rfl rfl)
theorem dX1_init_70 : decode cX1_init 70 = .ok (.iconst 3, 1) := dk_6 (dk_at dksX1_init_3 0 rfl rfl)
theorem dX1_init_71 : decode cX1_init 71 = .ok (.bipush (-4), 2) := dk_16 252 (dk_at dksX1_init_3 1 rfl rfl)
theorem dX1_init_73 : decode cX1_init 73 = .ok (.iastore, 1) := dk_79 (dk_at dksX1_init_3 3 rfl rfl)
theorem dX1_init_74 : decode cX1_init 74 = .ok (.dup, 1) := dk_89 (dk_at dksX1_init_3 4 rfl rfl)
theorem dX1_init_75 : decode cX1_init 75 = .ok (.iconst 4, 1) := dk_7 (dk_at dksX1_init_3 5 rfl rfl)
theorem dX1_init_76 : decode cX1_init 76 = .ok (.bipush (-4), 2) := dk_16 252 (dk_at dksX1_init_3 6 rfl rfl)
theorem dX1_init_78 : decode cX1_init 78 = .ok (.iastore, 1) := dk_79 (dk_at dksX1_init_3 8 rfl rfl)
theorem dX1_init_79 : decode cX1_init 79 = .ok (.dup, 1) := dk_89 (dk_at dksX1_init_3 9 rfl rfl)
theorem dX1_init_80 : decode cX1_init 80 = .ok (.iconst 5, 1) := dk_8 (dk_at dksX1_init_3 10 rfl rfl)
theorem dX1_init_81 : decode cX1_init 81 = .ok (.bipush (-4), 2) := dk_16 252 (dk_at dksX1_init_3 11 rfl rfl)
theorem dX1_init_83 : decode cX1_init 83 = .ok (.iastore, 1) := dk_79 (dk_at dksX1_init_3 13 rfl rfl)
theorem dX1_init_84 : decode cX1_init 84 = .ok (.dup, 1) := dk_89 (dk_at dksX1_init_3 14 rfl rfl)
theorem dX1_init_85 : decode cX1_init 85 = .ok (.bipush 6, 2) := dk_16 6 (dk_at dksX1_init_3 15 rfl rfl)
theorem dX1_init_87 : decode cX1_init 87 = .ok (.bipush (-4), 2) := dk_16 252 (dk_at dksX1_init_3 17 rfl rfl)
theorem dX1_init_89 : decode cX1_init 89 = .ok (.iastore, 1) := dk_79 (dk_at dksX1_init_3 19 rfl rfl)
theorem dX1_init_90 : decode cX1_init 90 = .ok (.putfield 15, 3) := dk_181 0 15 (dk_at dksX1_init_3 20 rfl rfl)
theorem dX1_init_93 : decode cX1_init 93 = .ok (.aload_n 0, 1) := dk_42 (dk_at dksX1_init_3 23 rfl rfl)
theorem dX1_init_94 : decode cX1_init 94 = .ok (.bipush 7, 2) := dk_16 7 (dk_at dksX1_init_4 0 rfl rfl)
theorem dX1_init_96 : decode cX1_init 96 = .ok (.newarray .int, 2) := dk_188_10 (dk_at dksX1_init_4 2 rfl rfl)
theorem dX1_init_98 : decode cX1_init 98 = .ok (.putfield 18, 3) := dk_181 0 18 (dk_at dksX1_init_4 4 rfl rfl)
theorem dX1_init_101 : decode cX1_init 101 = .ok (.aload_n 0, 1) := dk_42 (dk_at dksX1_init_4 7 rfl rfl)
theorem dX1_init_102 : decode cX1_init 102 = .ok (.sipush 200, 3) := dk_17 0 200 (dk_at dksX1_init_4 8 rfl rfl)
theorem dX1_init_105 : decode cX1_init 105 = .ok (.newarray .byte, 2) := dk_188_8 (dk_at dksX1_init_4 11 rfl rfl)
theorem dX1_init_107 : decode cX1_init 107 = .ok (.putfield 21, 3) := dk_181 0 21 (dk_at dksX1_init_4 13 rfl rfl)
theorem dX1_init_110 : decode cX1_init 110 = .ok (.aload_n 0, 1) := dk_42 (dk_at dksX1_init_4 16 rfl rfl)
theorem dX1_init_111 : decode cX1_init 111 = .ok (.sipush 200, 3) := dk_17 0 200 (dk_at dksX1_init_4 17 rfl rfl)
theorem dX1_init_114 : decode cX1_init 114 = .ok (.newarray .byte, 2) := dk_188_8 (dk_at dksX1_init_4 20 rfl rfl)
theorem dX1_init_116 : decode cX1_init 116 = .ok (.putfield 25, 3) := dk_181 0 25 (dk_at dksX1_init_5 0 rfl rfl)
theorem dX1_init_119 : decode cX1_init 119 = .ok (.aload_n 0, 1) := dk_42 (dk_at dksX1_init_5 3 rfl rfl)
theorem dX1_init_120 : decode cX1_init 120 = .ok (.bipush 100, 2) := dk_16 100 (dk_at dksX1_init_5 4 rfl rfl)
theorem dX1_init_122 : decode cX1_init 122 = .ok (.newarray .byte, 2) := dk_188_8 (dk_at dksX1_init_5 6 rfl rfl)
theorem dX1_init_124 : decode cX1_init 124 = .ok (.putfield 28, 3) := dk_181 0 28 (dk_at dksX1_init_5 8 rfl rfl)
theorem dX1_init_127 : decode cX1_init 127 = .ok (.aload_n 0, 1) := dk_42 (dk_at dksX1_init_5 11 rfl rfl)
theorem dX1_init_128 : decode cX1_init 128 = .ok (.new 31, 3) := dk_187 0 31 (dk_at dksX1_init_5 12 rfl rfl)
theorem dX1_init_131 : decode cX1_init 131 = .ok (.dup, 1) := dk_89 (dk_at dksX1_init_5 15 rfl rfl)
theorem dX1_init_132 : decode cX1_init 132 = .ok (.invokespecial 33, 3) := dk_183 0 33 (dk_at dksX1_init_5 16 rfl rfl)
theorem dX1_init_135 : decode cX1_init 135 = .ok (.putfield 34, 3) := dk_181 0 34 (dk_at dksX1_init_5 19 rfl rfl)
theorem dX1_init_138 : decode cX1_init 138 = .ok (.aload_n 0, 1) := dk_42 (dk_at dksX1_init_5 22 rfl rfl)
theorem dX1_init_139 : decode cX1_init 139 = .ok (.new 31, 3) := dk_187 0 31 (dk_at dksX1_init_6 0 rfl rfl)
theorem dX1_init_142 : decode cX1_init 142 = .ok (.dup, 1) := dk_89 (dk_at dksX1_init_6 3 rfl rfl)
theorem dX1_init_143 : decode cX1_init 143 = .ok (.invokespecial 33, 3) := dk_183 0 33 (dk_at dksX1_init_6 4 rfl rfl)
theorem dX1_init_146 : decode cX1_init 146 = .ok (.putfield 38, 3) := dk_181 0 38 (dk_at dksX1_init_6 7 rfl rfl)
theorem dX1_init_149 : decode cX1_init 149 = .ok (.iconst 0, 1) := dk_3 (dk_at dksX1_init_6 10 rfl rfl)
theorem dX1_init_150 : decode cX1_init 150 = .ok (.istore_n 1, 1) := dk_60 (dk_at dksX1_init_6 11 rfl rfl)
theorem dX1_init_151 : decode cX1_init 151 = .ok (.iload_n 1, 1) := dk_27 (dk_at dksX1_init_6 12 rfl rfl)
theorem dX1_init_152 : decode cX1_init 152 = .ok (.bipush 100, 2) := dk_16 100 (dk_at dksX1_init_6 13 rfl rfl)
theorem dX1_init_154 : decode cX1_init 154 = .ok (.if_icmp .ge 35, 3) := dk_162 0 35 (dk_at dksX1_init_6 15 rfl rfl)
theorem dX1_init_157 : decode cX1_init 157 = .ok (.aload_n 0, 1) := dk_42 (dk_at dksX1_init_6 18 rfl rfl)
theorem dX1_init_158 : decode cX1_init 158 = .ok (.getfield 28, 3) := dk_180 0 28 (dk_at dksX1_init_6 19 rfl rfl)
theorem dX1_init_161 : decode cX1_init 161 = .ok (.iload_n 1, 1) := dk_27 (dk_at dksX1_init_6 22 rfl rfl)
theorem dX1_init_162 : decode cX1_init 162 = .ok (.iconst 1, 1) := dk_4 (dk_at dksX1_init_6 23 rfl rfl)
theorem dX1_init_163 : decode cX1_init 163 = .ok (.bastore, 1) := dk_84 (dk_at dksX1_init_7 0 rfl rfl)
theorem dX1_init_164 : decode cX1_init 164 = .ok (.aload_n 0, 1) := dk_42 (dk_at dksX1_init_7 1 rfl rfl)
theorem dX1_init_165 : decode cX1_init 165 = .ok (.getfield 21, 3) := dk_180 0 21 (dk_at dksX1_init_7 2 rfl rfl)
theorem dX1_init_168 : decode cX1_init 168 = .ok (.iload_n 1, 1) := dk_27 (dk_at dksX1_init_7 5 rfl rfl)
theorem dX1_init_169 : decode cX1_init 169 = .ok (.bipush 8, 2) := dk_16 8 (dk_at dksX1_init_7 6 rfl rfl)
theorem dX1_init_171 : decode cX1_init 171 = .ok (.bastore, 1) := dk_84 (dk_at dksX1_init_7 8 rfl rfl)
theorem dX1_init_172 : decode cX1_init 172 = .ok (.aload_n 0, 1) := dk_42 (dk_at dksX1_init_7 9 rfl rfl)
theorem dX1_init_173 : decode cX1_init 173 = .ok (.getfield 21, 3) := dk_180 0 21 (dk_at dksX1_init_7 10 rfl rfl)
theorem dX1_init_176 : decode cX1_init 176 = .ok (.bipush 100, 2) := dk_16 100 (dk_at dksX1_init_7 13 rfl rfl)
theorem dX1_init_178 : decode cX1_init 178 = .ok (.iload_n 1, 1) := dk_27 (dk_at dksX1_init_7 15 rfl rfl)
theorem dX1_init_179 : decode cX1_init 179 = .ok (.iadd, 1) := dk_96 (dk_at dksX1_init_7 16 rfl rfl)
theorem dX1_init_180 : decode cX1_init 180 = .ok (.bipush 8, 2) := dk_16 8 (dk_at dksX1_init_7 17 rfl rfl)
theorem dX1_init_182 : decode cX1_init 182 = .ok (.bastore, 1) := dk_84 (dk_at dksX1_init_7 19 rfl rfl)
theorem dX1_init_183 : decode cX1_init 183 = .ok (.iinc 1 1, 3) := dk_132 1 1 (dk_at dksX1_init_7 20 rfl rfl)
theorem dX1_init_186 : decode cX1_init 186 = .ok (.goto (-35), 3) := dk_167 255 221 (dk_at dksX1_init_8 0 rfl rfl)
theorem dX1_init_189 : decode cX1_init 189 = .ok (.return_, 1) := dk_177 (dk_at dksX1_init_8 3 rfl rfl)
abbrev cX1_far : ByteArray := prog_12_method_3_code
def yX1_far : MethodName := ⟨RX1, "far", "(I)I"⟩
def dkwX1_far_2 : List UInt8 := [21, 5, 4, 96, 104, 21, 4, 163, 0, 9, 132, 5, 1, 167, 255, 239, 21, 5, 172]
abbrev dktX1_far_2 : List UInt8 := dkwX1_far_2 ++ []
def dkwX1_far_1 : List UInt8 := [46, 16, 10, 112, 100, 62, 7, 28, 28, 104, 29, 29, 104, 96, 104, 54, 4, 3, 54, 5, 21, 5, 4, 96]
abbrev dktX1_far_1 : List UInt8 := dkwX1_far_1 ++ dktX1_far_2
def dkwX1_far_0 : List UInt8 := [27, 16, 10, 108, 42, 180, 0, 9, 3, 46, 16, 10, 108, 100, 61, 27, 16, 10, 112, 42, 180, 0, 9, 3]
abbrev dktX1_far_0 : List UInt8 := dkwX1_far_0 ++ dktX1_far_1
theorem dksX1_far_0 : cX1_far.data.toList.drop 0 = dktX1_far_0 := by decide +kernel
theorem dksX1_far_1 : cX1_far.data.toList.drop 24 = dktX1_far_1 := dk_seg dksX1_far_0 24 rfl rfl
theorem dksX1_far_2 : cX1_far.data.toList.drop 48 = dktX1_far_2 := dk_seg dksX1_far_1 24 rfl rfl
theorem dX1_far_0 : decode cX1_far 0 = .ok (.iload_n 1, 1) := dk_27 (dk_at dksX1_far_0 0 rfl rfl)
theorem dX1_far_1 : decode cX1_far 1 = .ok (.bipush 10, 2) := dk_16 10 (dk_at dksX1_far_0 1 rfl rfl)
theorem dX1_far_3 : decode cX1_far 3 = .ok (.idiv, 1) := dk_108 (dk_at dksX1_far_0 3 rfl rfl)
theorem dX1_far_4 : decode cX1_far 4 = .ok (.aload_n 0, 1) := dk_42 (dk_at dksX1_far_0 4 rfl rfl)
theorem dX1_far_5 : decode cX1_far 5 = .ok (.getfield 9, 3) := dk_180 0 9 (dk_at dksX1_far_0 5 rfl rfl)
theorem dX1_far_8 : decode cX1_far 8 = .ok (.iconst 0, 1) := dk_3 (dk_at dksX1_far_0 8 rfl rfl)
theorem dX1_far_9 : decode cX1_far 9 = .ok (.iaload, 1) := dk_46 (dk_at dksX1_far_0 9 rfl rfl)
theorem dX1_far_10 : decode cX1_far 10 = .ok (.bipush 10, 2) := dk_16 10 (dk_at dksX1_far_0 10 rfl rfl)
theorem dX1_far_12 : decode cX1_far 12 = .ok (.idiv, 1) := dk_108 (dk_at dksX1_far_0 12 rfl rfl)
theorem dX1_far_13 : decode cX1_far 13 = .ok (.isub, 1) := dk_100 (dk_at dksX1_far_0 13 rfl rfl)
theorem dX1_far_14 : decode cX1_far 14 = .ok (.istore_n 2, 1) := dk_61 (dk_at dksX1_far_0 14 rfl rfl)
theorem dX1_far_15 : decode cX1_far 15 = .ok (.iload_n 1, 1) := dk_27 (dk_at dksX1_far_0 15 rfl rfl)
theorem dX1_far_16 : decode cX1_far 16 = .ok (.bipush 10, 2) := dk_16 10 (dk_at dksX1_far_0 16 rfl rfl)
theorem dX1_far_18 : decode cX1_far 18 = .ok (.irem, 1) := dk_112 (dk_at dksX1_far_0 18 rfl rfl)
theorem dX1_far_19 : decode cX1_far 19 = .ok (.aload_n 0, 1) := dk_42 (dk_at dksX1_far_0 19 rfl rfl)
theorem dX1_far_20 : decode cX1_far 20 = .ok (.getfield 9, 3) := dk_180 0 9 (dk_at dksX1_far_0 20 rfl rfl)
theorem dX1_far_23 : decode cX1_far 23 = .ok (.iconst 0, 1) := dk_3 (dk_at dksX1_far_0 23 rfl rfl)
theorem dX1_far_24 : decode cX1_far 24 = .ok (.iaload, 1) := dk_46 (dk_at dksX1_far_1 0 rfl rfl)
theorem dX1_far_25 : decode cX1_far 25 = .ok (.bipush 10, 2) := dk_16 10 (dk_at dksX1_far_1 1 rfl rfl)
theorem dX1_far_27 : decode cX1_far 27 = .ok (.irem, 1) := dk_112 (dk_at dksX1_far_1 3 rfl rfl)
theorem dX1_far_28 : decode cX1_far 28 = .ok (.isub, 1) := dk_100 (dk_at dksX1_far_1 4 rfl rfl)
theorem dX1_far_29 : decode cX1_far 29 = .ok (.istore_n 3, 1) := dk_62 (dk_at dksX1_far_1 5 rfl rfl)
theorem dX1_far_30 : decode cX1_far 30 = .ok (.iconst 4, 1) := dk_7 (dk_at dksX1_far_1 6 rfl rfl)
theorem dX1_far_31 : decode cX1_far 31 = .ok (.iload_n 2, 1) := dk_28 (dk_at dksX1_far_1 7 rfl rfl)
theorem dX1_far_32 : decode cX1_far 32 = .ok (.iload_n 2, 1) := dk_28 (dk_at dksX1_far_1 8 rfl rfl)
theorem dX1_far_33 : decode cX1_far 33 = .ok (.imul, 1) := dk_104 (dk_at dksX1_far_1 9 rfl rfl)
theorem dX1_far_34 : decode cX1_far 34 = .ok (.iload_n 3, 1) := dk_29 (dk_at dksX1_far_1 10 rfl rfl)
theorem dX1_far_35 : decode cX1_far 35 = .ok (.iload_n 3, 1) := dk_29 (dk_at dksX1_far_1 11 rfl rfl)
theorem dX1_far_36 : decode cX1_far 36 = .ok (.imul, 1) := dk_104 (dk_at dksX1_far_1 12 rfl rfl)
theorem dX1_far_37 : decode cX1_far 37 = .ok (.iadd, 1) := dk_96 (dk_at dksX1_far_1 13 rfl rfl)
theorem dX1_far_38 : decode cX1_far 38 = .ok (.imul, 1) := dk_104 (dk_at dksX1_far_1 14 rfl rfl)
theorem dX1_far_39 : decode cX1_far 39 = .ok (.istore 4, 2) := dk_54 4 (dk_at dksX1_far_1 15 rfl rfl)
theorem dX1_far_41 : decode cX1_far 41 = .ok (.iconst 0, 1) := dk_3 (dk_at dksX1_far_1 17 rfl rfl)
theorem dX1_far_42 : decode cX1_far 42 = .ok (.istore 5, 2) := dk_54 5 (dk_at dksX1_far_1 18 rfl rfl)
theorem dX1_far_44 : decode cX1_far 44 = .ok (.iload 5, 2) := dk_21 5 (dk_at dksX1_far_1 20 rfl rfl)
theorem dX1_far_46 : decode cX1_far 46 = .ok (.iconst 1, 1) := dk_4 (dk_at dksX1_far_1 22 rfl rfl)
theorem dX1_far_47 : decode cX1_far 47 = .ok (.iadd, 1) := dk_96 (dk_at dksX1_far_1 23 rfl rfl)
theorem dX1_far_48 : decode cX1_far 48 = .ok (.iload 5, 2) := dk_21 5 (dk_at dksX1_far_2 0 rfl rfl)
theorem dX1_far_50 : decode cX1_far 50 = .ok (.iconst 1, 1) := dk_4 (dk_at dksX1_far_2 2 rfl rfl)
theorem dX1_far_51 : decode cX1_far 51 = .ok (.iadd, 1) := dk_96 (dk_at dksX1_far_2 3 rfl rfl)
theorem dX1_far_52 : decode cX1_far 52 = .ok (.imul, 1) := dk_104 (dk_at dksX1_far_2 4 rfl rfl)
theorem dX1_far_53 : decode cX1_far 53 = .ok (.iload 4, 2) := dk_21 4 (dk_at dksX1_far_2 5 rfl rfl)
theorem dX1_far_55 : decode cX1_far 55 = .ok (.if_icmp .gt 9, 3) := dk_163 0 9 (dk_at dksX1_far_2 7 rfl rfl)
theorem dX1_far_58 : decode cX1_far 58 = .ok (.iinc 5 1, 3) := dk_132 5 1 (dk_at dksX1_far_2 10 rfl rfl)
theorem dX1_far_61 : decode cX1_far 61 = .ok (.goto (-17), 3) := dk_167 255 239 (dk_at dksX1_far_2 13 rfl rfl)
theorem dX1_far_64 : decode cX1_far 64 = .ok (.iload 5, 2) := dk_21 5 (dk_at dksX1_far_2 16 rfl rfl)
theorem dX1_far_66 : decode cX1_far 66 = .ok (.ireturn, 1) := dk_172 (dk_at dksX1_far_2 18 rfl rfl)
abbrev cX1_hours : ByteArray := prog_12_method_2_code
def yX1_hours : MethodName := ⟨RX1, "hours", "()I"⟩
def dkwX1_hours_0 : List UInt8 := [42, 180, 0, 9, 5, 46, 172]
abbrev dktX1_hours_0 : List UInt8 := dkwX1_hours_0 ++ []
theorem dksX1_hours_0 : cX1_hours.data.toList.drop 0 = dktX1_hours_0 := by decide +kernel
theorem dX1_hours_0 : decode cX1_hours 0 = .ok (.aload_n 0, 1) := dk_42 (dk_at dksX1_hours_0 0 rfl rfl)
theorem dX1_hours_1 : decode cX1_hours 1 = .ok (.getfield 9, 3) := dk_180 0 9 (dk_at dksX1_hours_0 1 rfl rfl)
theorem dX1_hours_4 : decode cX1_hours 4 = .ok (.iconst 2, 1) := dk_5 (dk_at dksX1_hours_0 4 rfl rfl)
theorem dX1_hours_5 : decode cX1_hours 5 = .ok (.iaload, 1) := dk_46 (dk_at dksX1_hours_0 5 rfl rfl)
theorem dX1_hours_6 : decode cX1_hours 6 = .ok (.ireturn, 1) := dk_172 (dk_at dksX1_hours_0 6 rfl rfl)
abbrev cX1_drift : ByteArray := prog_12_method_4_code
def yX1_drift : MethodName := ⟨RX1, "drift", "(IIZ)I"⟩
def dkwX1_drift_4 : List UInt8 := [21, 4, 172]
abbrev dktX1_drift_4 : List UInt8 := dkwX1_drift_4 ++ []
def dkwX1_drift_3 : List UInt8 := [46, 4, 184, 0, 41, 155, 0, 18, 21, 4, 42, 180, 0, 9, 16, 7, 46, 4, 184, 0, 41, 54, 4]
abbrev dktX1_drift_3 : List UInt8 := dkwX1_drift_3 ++ dktX1_drift_4
def dkwX1_drift_2 : List UInt8 := [29, 153, 0, 46, 42, 180, 0, 9, 16, 7, 46, 16, 8, 162, 0, 34, 21, 4, 42, 180, 0, 9, 16, 7]
abbrev dktX1_drift_2 : List UInt8 := dkwX1_drift_2 ++ dktX1_drift_3
def dkwX1_drift_1 : List UInt8 := [162, 0, 24, 21, 4, 21, 5, 4, 184, 0, 41, 155, 0, 13, 21, 4, 21, 5, 4, 184, 0, 41, 54, 4]
abbrev dktX1_drift_1 : List UInt8 := dkwX1_drift_1 ++ dktX1_drift_2
def dkwX1_drift_0 : List UInt8 := [27, 54, 4, 42, 180, 0, 21, 16, 100, 28, 5, 112, 104, 27, 96, 51, 54, 5, 21, 5, 16, 8]
abbrev dktX1_drift_0 : List UInt8 := dkwX1_drift_0 ++ dktX1_drift_1
theorem dksX1_drift_0 : cX1_drift.data.toList.drop 0 = dktX1_drift_0 := by decide +kernel
theorem dksX1_drift_1 : cX1_drift.data.toList.drop 22 = dktX1_drift_1 := dk_seg dksX1_drift_0 22 rfl rfl
theorem dksX1_drift_2 : cX1_drift.data.toList.drop 46 = dktX1_drift_2 := dk_seg dksX1_drift_1 24 rfl rfl
theorem dksX1_drift_3 : cX1_drift.data.toList.drop 70 = dktX1_drift_3 := dk_seg dksX1_drift_2 24 rfl rfl
theorem dksX1_drift_4 : cX1_drift.data.toList.drop 93 = dktX1_drift_4 := dk_seg dksX1_drift_3 23 rfl rfl
theorem dX1_drift_0 : decode cX1_drift 0 = .ok (.iload_n 1, 1) := dk_27 (dk_at dksX1_drift_0 0 rfl rfl)
theorem dX1_drift_1 : decode cX1_drift 1 = .ok (.istore 4, 2) := dk_54 4 (dk_at dksX1_drift_0 1 rfl rfl)
theorem dX1_drift_3 : decode cX1_drift 3 = .ok (.aload_n 0, 1) := dk_42 (dk_at dksX1_drift_0 3 rfl rfl)
theorem dX1_drift_4 : decode cX1_drift 4 = .ok (.getfield 21, 3) := dk_180 0 21 (dk_at dksX1_drift_0 4 rfl rfl)
theorem dX1_drift_7 : decode cX1_drift 7 = .ok (.bipush 100, 2) := dk_16 100 (dk_at dksX1_drift_0 7 rfl rfl)
theorem dX1_drift_9 : decode cX1_drift 9 = .ok (.iload_n 2, 1) := dk_28 (dk_at dksX1_drift_0 9 rfl rfl)
theorem dX1_drift_10 : decode cX1_drift 10 = .ok (.iconst 2, 1) := dk_5 (dk_at dksX1_drift_0 10 rfl rfl)
theorem dX1_drift_11 : decode cX1_drift 11 = .ok (.irem, 1) := dk_112 (dk_at dksX1_drift_0 11 rfl rfl)
theorem dX1_drift_12 : decode cX1_drift 12 = .ok (.imul, 1) := dk_104 (dk_at dksX1_drift_0 12 rfl rfl)
theorem dX1_drift_13 : decode cX1_drift 13 = .ok (.iload_n 1, 1) := dk_27 (dk_at dksX1_drift_0 13 rfl rfl)
theorem dX1_drift_14 : decode cX1_drift 14 = .ok (.iadd, 1) := dk_96 (dk_at dksX1_drift_0 14 rfl rfl)
theorem dX1_drift_15 : decode cX1_drift 15 = .ok (.baload, 1) := dk_51 (dk_at dksX1_drift_0 15 rfl rfl)
theorem dX1_drift_16 : decode cX1_drift 16 = .ok (.istore 5, 2) := dk_54 5 (dk_at dksX1_drift_0 16 rfl rfl)
theorem dX1_drift_18 : decode cX1_drift 18 = .ok (.iload 5, 2) := dk_21 5 (dk_at dksX1_drift_0 18 rfl rfl)
theorem dX1_drift_20 : decode cX1_drift 20 = .ok (.bipush 8, 2) := dk_16 8 (dk_at dksX1_drift_0 20 rfl rfl)
theorem dX1_drift_22 : decode cX1_drift 22 = .ok (.if_icmp .ge 24, 3) := dk_162 0 24 (dk_at dksX1_drift_1 0 rfl rfl)
theorem dX1_drift_25 : decode cX1_drift 25 = .ok (.iload 4, 2) := dk_21 4 (dk_at dksX1_drift_1 3 rfl rfl)
theorem dX1_drift_27 : decode cX1_drift 27 = .ok (.iload 5, 2) := dk_21 5 (dk_at dksX1_drift_1 5 rfl rfl)
theorem dX1_drift_29 : decode cX1_drift 29 = .ok (.iconst 1, 1) := dk_4 (dk_at dksX1_drift_1 7 rfl rfl)
theorem dX1_drift_30 : decode cX1_drift 30 = .ok (.invokestatic 41, 3) := dk_184 0 41 (dk_at dksX1_drift_1 8 rfl rfl)
theorem dX1_drift_33 : decode cX1_drift 33 = .ok (.ifCond .lt 13, 3) := dk_155 0 13 (dk_at dksX1_drift_1 11 rfl rfl)
theorem dX1_drift_36 : decode cX1_drift 36 = .ok (.iload 4, 2) := dk_21 4 (dk_at dksX1_drift_1 14 rfl rfl)
theorem dX1_drift_38 : decode cX1_drift 38 = .ok (.iload 5, 2) := dk_21 5 (dk_at dksX1_drift_1 16 rfl rfl)
theorem dX1_drift_40 : decode cX1_drift 40 = .ok (.iconst 1, 1) := dk_4 (dk_at dksX1_drift_1 18 rfl rfl)
theorem dX1_drift_41 : decode cX1_drift 41 = .ok (.invokestatic 41, 3) := dk_184 0 41 (dk_at dksX1_drift_1 19 rfl rfl)
theorem dX1_drift_44 : decode cX1_drift 44 = .ok (.istore 4, 2) := dk_54 4 (dk_at dksX1_drift_1 22 rfl rfl)
theorem dX1_drift_46 : decode cX1_drift 46 = .ok (.iload_n 3, 1) := dk_29 (dk_at dksX1_drift_2 0 rfl rfl)
theorem dX1_drift_47 : decode cX1_drift 47 = .ok (.ifCond .eq 46, 3) := dk_153 0 46 (dk_at dksX1_drift_2 1 rfl rfl)
theorem dX1_drift_50 : decode cX1_drift 50 = .ok (.aload_n 0, 1) := dk_42 (dk_at dksX1_drift_2 4 rfl rfl)
theorem dX1_drift_51 : decode cX1_drift 51 = .ok (.getfield 9, 3) := dk_180 0 9 (dk_at dksX1_drift_2 5 rfl rfl)
theorem dX1_drift_54 : decode cX1_drift 54 = .ok (.bipush 7, 2) := dk_16 7 (dk_at dksX1_drift_2 8 rfl rfl)
theorem dX1_drift_56 : decode cX1_drift 56 = .ok (.iaload, 1) := dk_46 (dk_at dksX1_drift_2 10 rfl rfl)
theorem dX1_drift_57 : decode cX1_drift 57 = .ok (.bipush 8, 2) := dk_16 8 (dk_at dksX1_drift_2 11 rfl rfl)
theorem dX1_drift_59 : decode cX1_drift 59 = .ok (.if_icmp .ge 34, 3) := dk_162 0 34 (dk_at dksX1_drift_2 13 rfl rfl)
theorem dX1_drift_62 : decode cX1_drift 62 = .ok (.iload 4, 2) := dk_21 4 (dk_at dksX1_drift_2 16 rfl rfl)
theorem dX1_drift_64 : decode cX1_drift 64 = .ok (.aload_n 0, 1) := dk_42 (dk_at dksX1_drift_2 18 rfl rfl)
theorem dX1_drift_65 : decode cX1_drift 65 = .ok (.getfield 9, 3) := dk_180 0 9 (dk_at dksX1_drift_2 19 rfl rfl)
theorem dX1_drift_68 : decode cX1_drift 68 = .ok (.bipush 7, 2) := dk_16 7 (dk_at dksX1_drift_2 22 rfl rfl)
theorem dX1_drift_70 : decode cX1_drift 70 = .ok (.iaload, 1) := dk_46 (dk_at dksX1_drift_3 0 rfl rfl)
theorem dX1_drift_71 : decode cX1_drift 71 = .ok (.iconst 1, 1) := dk_4 (dk_at dksX1_drift_3 1 rfl rfl)
theorem dX1_drift_72 : decode cX1_drift 72 = .ok (.invokestatic 41, 3) := dk_184 0 41 (dk_at dksX1_drift_3 2 rfl rfl)
theorem dX1_drift_75 : decode cX1_drift 75 = .ok (.ifCond .lt 18, 3) := dk_155 0 18 (dk_at dksX1_drift_3 5 rfl rfl)
theorem dX1_drift_78 : decode cX1_drift 78 = .ok (.iload 4, 2) := dk_21 4 (dk_at dksX1_drift_3 8 rfl rfl)
theorem dX1_drift_80 : decode cX1_drift 80 = .ok (.aload_n 0, 1) := dk_42 (dk_at dksX1_drift_3 10 rfl rfl)
theorem dX1_drift_81 : decode cX1_drift 81 = .ok (.getfield 9, 3) := dk_180 0 9 (dk_at dksX1_drift_3 11 rfl rfl)
theorem dX1_drift_84 : decode cX1_drift 84 = .ok (.bipush 7, 2) := dk_16 7 (dk_at dksX1_drift_3 14 rfl rfl)
theorem dX1_drift_86 : decode cX1_drift 86 = .ok (.iaload, 1) := dk_46 (dk_at dksX1_drift_3 16 rfl rfl)
theorem dX1_drift_87 : decode cX1_drift 87 = .ok (.iconst 1, 1) := dk_4 (dk_at dksX1_drift_3 17 rfl rfl)
theorem dX1_drift_88 : decode cX1_drift 88 = .ok (.invokestatic 41, 3) := dk_184 0 41 (dk_at dksX1_drift_3 18 rfl rfl)
theorem dX1_drift_91 : decode cX1_drift 91 = .ok (.istore 4, 2) := dk_54 4 (dk_at dksX1_drift_3 21 rfl rfl)
theorem dX1_drift_93 : decode cX1_drift 93 = .ok (.iload 4, 2) := dk_21 4 (dk_at dksX1_drift_4 0 rfl rfl)
theorem dX1_drift_95 : decode cX1_drift 95 = .ok (.ireturn, 1) := dk_172 (dk_at dksX1_drift_4 2 rfl rfl)
abbrev cX1_takeFrom : ByteArray := prog_12_method_5_code
def yX1_takeFrom : MethodName := ⟨RX1, "takeFrom", "(LSevenRings$Told;)V"⟩
def dkwX1_takeFrom_6 : List UInt8 := [185, 0, 56, 2, 0, 87, 177]
abbrev dktX1_takeFrom_6 : List UInt8 := dkwX1_takeFrom_6 ++ []
def dkwX1_takeFrom_5 : List UInt8 := [185, 0, 56, 2, 0, 87, 42, 180, 0, 38, 185, 0, 51, 1, 0, 42, 180, 0, 38, 43, 180, 0, 38]
abbrev dktX1_takeFrom_5 : List UInt8 := dkwX1_takeFrom_5 ++ dktX1_takeFrom_6
def dkwX1_takeFrom_4 : List UInt8 := [184, 0, 45, 42, 180, 0, 34, 185, 0, 51, 1, 0, 42, 180, 0, 34, 43, 180, 0, 34]
abbrev dktX1_takeFrom_4 : List UInt8 := dkwX1_takeFrom_4 ++ dktX1_takeFrom_5
def dkwX1_takeFrom_3 : List UInt8 := [180, 0, 25, 3, 17, 0, 200, 184, 0, 45, 43, 180, 0, 28, 3, 42, 180, 0, 28, 3, 16, 100]
abbrev dktX1_takeFrom_3 : List UInt8 := dkwX1_takeFrom_3 ++ dktX1_takeFrom_4
def dkwX1_takeFrom_2 : List UInt8 := [43, 180, 0, 21, 3, 42, 180, 0, 21, 3, 17, 0, 200, 184, 0, 45, 43, 180, 0, 25, 3, 42]
abbrev dktX1_takeFrom_2 : List UInt8 := dkwX1_takeFrom_2 ++ dktX1_takeFrom_3
def dkwX1_takeFrom_1 : List UInt8 := [180, 0, 15, 3, 16, 7, 184, 0, 45, 43, 180, 0, 18, 3, 42, 180, 0, 18, 3, 16, 7, 184, 0, 45]
abbrev dktX1_takeFrom_1 : List UInt8 := dkwX1_takeFrom_1 ++ dktX1_takeFrom_2
def dkwX1_takeFrom_0 : List UInt8 := [43, 180, 0, 9, 3, 42, 180, 0, 9, 3, 42, 180, 0, 9, 190, 184, 0, 45, 43, 180, 0, 15, 3, 42]
abbrev dktX1_takeFrom_0 : List UInt8 := dkwX1_takeFrom_0 ++ dktX1_takeFrom_1
theorem dksX1_takeFrom_0 : cX1_takeFrom.data.toList.drop 0 = dktX1_takeFrom_0 := by decide +kernel
theorem dksX1_takeFrom_1 : cX1_takeFrom.data.toList.drop 24 = dktX1_takeFrom_1 := dk_seg dksX1_takeFrom_0 24 rfl rfl
theorem dksX1_takeFrom_2 : cX1_takeFrom.data.toList.drop 48 = dktX1_takeFrom_2 := dk_seg dksX1_takeFrom_1 24 rfl rfl
theorem dksX1_takeFrom_3 : cX1_takeFrom.data.toList.drop 70 = dktX1_takeFrom_3 := dk_seg dksX1_takeFrom_2 22 rfl rfl
theorem dksX1_takeFrom_4 : cX1_takeFrom.data.toList.drop 92 = dktX1_takeFrom_4 := dk_seg dksX1_takeFrom_3 22 rfl rfl
theorem dksX1_takeFrom_5 : cX1_takeFrom.data.toList.drop 112 = dktX1_takeFrom_5 := dk_seg dksX1_takeFrom_4 20 rfl rfl
theorem dksX1_takeFrom_6 : cX1_takeFrom.data.toList.drop 135 = dktX1_takeFrom_6 := dk_seg dksX1_takeFrom_5 23 rfl rfl
theorem dX1_takeFrom_0 : decode cX1_takeFrom 0 = .ok (.aload_n 1, 1) := dk_43 (dk_at dksX1_takeFrom_0 0 rfl rfl)
theorem dX1_takeFrom_1 : decode cX1_takeFrom 1 = .ok (.getfield 9, 3) := dk_180 0 9 (dk_at dksX1_takeFrom_0 1 rfl rfl)
theorem dX1_takeFrom_4 : decode cX1_takeFrom 4 = .ok (.iconst 0, 1) := dk_3 (dk_at dksX1_takeFrom_0 4 rfl rfl)
theorem dX1_takeFrom_5 : decode cX1_takeFrom 5 = .ok (.aload_n 0, 1) := dk_42 (dk_at dksX1_takeFrom_0 5 rfl rfl)
theorem dX1_takeFrom_6 : decode cX1_takeFrom 6 = .ok (.getfield 9, 3) := dk_180 0 9 (dk_at dksX1_takeFrom_0 6 rfl rfl)
theorem dX1_takeFrom_9 : decode cX1_takeFrom 9 = .ok (.iconst 0, 1) := dk_3 (dk_at dksX1_takeFrom_0 9 rfl rfl)
theorem dX1_takeFrom_10 : decode cX1_takeFrom 10 = .ok (.aload_n 0, 1) := dk_42 (dk_at dksX1_takeFrom_0 10 rfl rfl)
theorem dX1_takeFrom_11 : decode cX1_takeFrom 11 = .ok (.getfield 9, 3) := dk_180 0 9 (dk_at dksX1_takeFrom_0 11 rfl rfl)
theorem dX1_takeFrom_14 : decode cX1_takeFrom 14 = .ok (.arraylength, 1) := dk_190 (dk_at dksX1_takeFrom_0 14 rfl rfl)
theorem dX1_takeFrom_15 : decode cX1_takeFrom 15 = .ok (.invokestatic 45, 3) := dk_184 0 45 (dk_at dksX1_takeFrom_0 15 rfl rfl)
theorem dX1_takeFrom_18 : decode cX1_takeFrom 18 = .ok (.aload_n 1, 1) := dk_43 (dk_at dksX1_takeFrom_0 18 rfl rfl)
theorem dX1_takeFrom_19 : decode cX1_takeFrom 19 = .ok (.getfield 15, 3) := dk_180 0 15 (dk_at dksX1_takeFrom_0 19 rfl rfl)
theorem dX1_takeFrom_22 : decode cX1_takeFrom 22 = .ok (.iconst 0, 1) := dk_3 (dk_at dksX1_takeFrom_0 22 rfl rfl)
theorem dX1_takeFrom_23 : decode cX1_takeFrom 23 = .ok (.aload_n 0, 1) := dk_42 (dk_at dksX1_takeFrom_0 23 rfl rfl)
theorem dX1_takeFrom_24 : decode cX1_takeFrom 24 = .ok (.getfield 15, 3) := dk_180 0 15 (dk_at dksX1_takeFrom_1 0 rfl rfl)
theorem dX1_takeFrom_27 : decode cX1_takeFrom 27 = .ok (.iconst 0, 1) := dk_3 (dk_at dksX1_takeFrom_1 3 rfl rfl)
theorem dX1_takeFrom_28 : decode cX1_takeFrom 28 = .ok (.bipush 7, 2) := dk_16 7 (dk_at dksX1_takeFrom_1 4 rfl rfl)
theorem dX1_takeFrom_30 : decode cX1_takeFrom 30 = .ok (.invokestatic 45, 3) := dk_184 0 45 (dk_at dksX1_takeFrom_1 6 rfl rfl)
theorem dX1_takeFrom_33 : decode cX1_takeFrom 33 = .ok (.aload_n 1, 1) := dk_43 (dk_at dksX1_takeFrom_1 9 rfl rfl)
theorem dX1_takeFrom_34 : decode cX1_takeFrom 34 = .ok (.getfield 18, 3) := dk_180 0 18 (dk_at dksX1_takeFrom_1 10 rfl rfl)
theorem dX1_takeFrom_37 : decode cX1_takeFrom 37 = .ok (.iconst 0, 1) := dk_3 (dk_at dksX1_takeFrom_1 13 rfl rfl)
theorem dX1_takeFrom_38 : decode cX1_takeFrom 38 = .ok (.aload_n 0, 1) := dk_42 (dk_at dksX1_takeFrom_1 14 rfl rfl)
theorem dX1_takeFrom_39 : decode cX1_takeFrom 39 = .ok (.getfield 18, 3) := dk_180 0 18 (dk_at dksX1_takeFrom_1 15 rfl rfl)
theorem dX1_takeFrom_42 : decode cX1_takeFrom 42 = .ok (.iconst 0, 1) := dk_3 (dk_at dksX1_takeFrom_1 18 rfl rfl)
theorem dX1_takeFrom_43 : decode cX1_takeFrom 43 = .ok (.bipush 7, 2) := dk_16 7 (dk_at dksX1_takeFrom_1 19 rfl rfl)
theorem dX1_takeFrom_45 : decode cX1_takeFrom 45 = .ok (.invokestatic 45, 3) := dk_184 0 45 (dk_at dksX1_takeFrom_1 21 rfl rfl)
theorem dX1_takeFrom_48 : decode cX1_takeFrom 48 = .ok (.aload_n 1, 1) := dk_43 (dk_at dksX1_takeFrom_2 0 rfl rfl)
theorem dX1_takeFrom_49 : decode cX1_takeFrom 49 = .ok (.getfield 21, 3) := dk_180 0 21 (dk_at dksX1_takeFrom_2 1 rfl rfl)
theorem dX1_takeFrom_52 : decode cX1_takeFrom 52 = .ok (.iconst 0, 1) := dk_3 (dk_at dksX1_takeFrom_2 4 rfl rfl)
theorem dX1_takeFrom_53 : decode cX1_takeFrom 53 = .ok (.aload_n 0, 1) := dk_42 (dk_at dksX1_takeFrom_2 5 rfl rfl)
theorem dX1_takeFrom_54 : decode cX1_takeFrom 54 = .ok (.getfield 21, 3) := dk_180 0 21 (dk_at dksX1_takeFrom_2 6 rfl rfl)
theorem dX1_takeFrom_57 : decode cX1_takeFrom 57 = .ok (.iconst 0, 1) := dk_3 (dk_at dksX1_takeFrom_2 9 rfl rfl)
theorem dX1_takeFrom_58 : decode cX1_takeFrom 58 = .ok (.sipush 200, 3) := dk_17 0 200 (dk_at dksX1_takeFrom_2 10 rfl rfl)
theorem dX1_takeFrom_61 : decode cX1_takeFrom 61 = .ok (.invokestatic 45, 3) := dk_184 0 45 (dk_at dksX1_takeFrom_2 13 rfl rfl)
theorem dX1_takeFrom_64 : decode cX1_takeFrom 64 = .ok (.aload_n 1, 1) := dk_43 (dk_at dksX1_takeFrom_2 16 rfl rfl)
theorem dX1_takeFrom_65 : decode cX1_takeFrom 65 = .ok (.getfield 25, 3) := dk_180 0 25 (dk_at dksX1_takeFrom_2 17 rfl rfl)
theorem dX1_takeFrom_68 : decode cX1_takeFrom 68 = .ok (.iconst 0, 1) := dk_3 (dk_at dksX1_takeFrom_2 20 rfl rfl)
theorem dX1_takeFrom_69 : decode cX1_takeFrom 69 = .ok (.aload_n 0, 1) := dk_42 (dk_at dksX1_takeFrom_2 21 rfl rfl)
theorem dX1_takeFrom_70 : decode cX1_takeFrom 70 = .ok (.getfield 25, 3) := dk_180 0 25 (dk_at dksX1_takeFrom_3 0 rfl rfl)
theorem dX1_takeFrom_73 : decode cX1_takeFrom 73 = .ok (.iconst 0, 1) := dk_3 (dk_at dksX1_takeFrom_3 3 rfl rfl)
theorem dX1_takeFrom_74 : decode cX1_takeFrom 74 = .ok (.sipush 200, 3) := dk_17 0 200 (dk_at dksX1_takeFrom_3 4 rfl rfl)
theorem dX1_takeFrom_77 : decode cX1_takeFrom 77 = .ok (.invokestatic 45, 3) := dk_184 0 45 (dk_at dksX1_takeFrom_3 7 rfl rfl)
theorem dX1_takeFrom_80 : decode cX1_takeFrom 80 = .ok (.aload_n 1, 1) := dk_43 (dk_at dksX1_takeFrom_3 10 rfl rfl)
theorem dX1_takeFrom_81 : decode cX1_takeFrom 81 = .ok (.getfield 28, 3) := dk_180 0 28 (dk_at dksX1_takeFrom_3 11 rfl rfl)
theorem dX1_takeFrom_84 : decode cX1_takeFrom 84 = .ok (.iconst 0, 1) := dk_3 (dk_at dksX1_takeFrom_3 14 rfl rfl)
theorem dX1_takeFrom_85 : decode cX1_takeFrom 85 = .ok (.aload_n 0, 1) := dk_42 (dk_at dksX1_takeFrom_3 15 rfl rfl)
theorem dX1_takeFrom_86 : decode cX1_takeFrom 86 = .ok (.getfield 28, 3) := dk_180 0 28 (dk_at dksX1_takeFrom_3 16 rfl rfl)
theorem dX1_takeFrom_89 : decode cX1_takeFrom 89 = .ok (.iconst 0, 1) := dk_3 (dk_at dksX1_takeFrom_3 19 rfl rfl)
theorem dX1_takeFrom_90 : decode cX1_takeFrom 90 = .ok (.bipush 100, 2) := dk_16 100 (dk_at dksX1_takeFrom_3 20 rfl rfl)
theorem dX1_takeFrom_92 : decode cX1_takeFrom 92 = .ok (.invokestatic 45, 3) := dk_184 0 45 (dk_at dksX1_takeFrom_4 0 rfl rfl)
theorem dX1_takeFrom_95 : decode cX1_takeFrom 95 = .ok (.aload_n 0, 1) := dk_42 (dk_at dksX1_takeFrom_4 3 rfl rfl)
theorem dX1_takeFrom_96 : decode cX1_takeFrom 96 = .ok (.getfield 34, 3) := dk_180 0 34 (dk_at dksX1_takeFrom_4 4 rfl rfl)
theorem dX1_takeFrom_99 : decode cX1_takeFrom 99 = .ok (.invokeinterface 51 1, 5) := by decide +kernel
theorem dX1_takeFrom_104 : decode cX1_takeFrom 104 = .ok (.aload_n 0, 1) := dk_42 (dk_at dksX1_takeFrom_4 12 rfl rfl)
theorem dX1_takeFrom_105 : decode cX1_takeFrom 105 = .ok (.getfield 34, 3) := dk_180 0 34 (dk_at dksX1_takeFrom_4 13 rfl rfl)
theorem dX1_takeFrom_108 : decode cX1_takeFrom 108 = .ok (.aload_n 1, 1) := dk_43 (dk_at dksX1_takeFrom_4 16 rfl rfl)
theorem dX1_takeFrom_109 : decode cX1_takeFrom 109 = .ok (.getfield 34, 3) := dk_180 0 34 (dk_at dksX1_takeFrom_4 17 rfl rfl)
theorem dX1_takeFrom_112 : decode cX1_takeFrom 112 = .ok (.invokeinterface 56 2, 5) := by decide +kernel
theorem dX1_takeFrom_117 : decode cX1_takeFrom 117 = .ok (.pop, 1) := dk_87 (dk_at dksX1_takeFrom_5 5 rfl rfl)
theorem dX1_takeFrom_118 : decode cX1_takeFrom 118 = .ok (.aload_n 0, 1) := dk_42 (dk_at dksX1_takeFrom_5 6 rfl rfl)
theorem dX1_takeFrom_119 : decode cX1_takeFrom 119 = .ok (.getfield 38, 3) := dk_180 0 38 (dk_at dksX1_takeFrom_5 7 rfl rfl)
theorem dX1_takeFrom_122 : decode cX1_takeFrom 122 = .ok (.invokeinterface 51 1, 5) := by decide +kernel
theorem dX1_takeFrom_127 : decode cX1_takeFrom 127 = .ok (.aload_n 0, 1) := dk_42 (dk_at dksX1_takeFrom_5 15 rfl rfl)
theorem dX1_takeFrom_128 : decode cX1_takeFrom 128 = .ok (.getfield 38, 3) := dk_180 0 38 (dk_at dksX1_takeFrom_5 16 rfl rfl)
theorem dX1_takeFrom_131 : decode cX1_takeFrom 131 = .ok (.aload_n 1, 1) := dk_43 (dk_at dksX1_takeFrom_5 19 rfl rfl)
theorem dX1_takeFrom_132 : decode cX1_takeFrom 132 = .ok (.getfield 38, 3) := dk_180 0 38 (dk_at dksX1_takeFrom_5 20 rfl rfl)
theorem dX1_takeFrom_135 : decode cX1_takeFrom 135 = .ok (.invokeinterface 56 2, 5) := by decide +kernel
theorem dX1_takeFrom_140 : decode cX1_takeFrom 140 = .ok (.pop, 1) := dk_87 (dk_at dksX1_takeFrom_6 5 rfl rfl)
theorem dX1_takeFrom_141 : decode cX1_takeFrom 141 = .ok (.return_, 1) := dk_177 (dk_at dksX1_takeFrom_6 6 rfl rfl)
theorem q52 : (Jvm.Cond.initialized "SevenRings$Told") ∈ lw_all := lw_g (lw_at lw_m1 2 rfl) rfl
theorem q92 : (Jvm.Cond.instantiable "SevenRings$Told" (8 : Nat)) ∈ lw_all := lw_g (lw_at lw_m1 42 rfl) rfl
theorem q94 : (Jvm.Cond.instanceMethod ({ cls := "SevenRings$Told", name := "<init>", desc := "()V" } : Jvm.MethodName)) ∈ lw_all := lw_g (lw_at lw_m1 44 rfl) rfl
theorem q95 : (Jvm.Cond.code ({ cls := "SevenRings$Told", name := "<init>", desc := "()V" } : Jvm.MethodName) prog_12_method_1_code (2 : Nat) (Option.none : Option Jvm.ClassFile.FieldType)) ∈ lw_all := lw_g (lw_at lw_m1 45 rfl) rfl
theorem q96 : (Jvm.Cond.methodLink "SevenRings$Told" (3 : Nat) ({ cls := "java/lang/Object", name := "<init>", desc := "()V" } : Jvm.MethodName)) ∈ lw_all := lw_g (lw_at lw_m1 46 rfl) rfl
theorem q97 : (Jvm.Cond.classLink "SevenRings$Told" (31 : Nat) "java/util/ArrayList") ∈ lw_all := lw_g (lw_at lw_m1 47 rfl) rfl
theorem q99 : (Jvm.Cond.methodLink "SevenRings$Told" (33 : Nat) ({ cls := "java/util/ArrayList", name := "<init>", desc := "()V" } : Jvm.MethodName)) ∈ lw_all := lw_g (lw_at lw_m1 49 rfl) rfl
theorem q125 : (Jvm.Cond.fieldLink "SevenRings$Told" (9 : Nat) "SevenRings$Told" "set" "[I") ∈ lw_all := lw_g (lw_at lw_m1 75 rfl) rfl
theorem q128 : (Jvm.Cond.fieldLink "SevenRings$Told" (15 : Nat) "SevenRings$Told" "fars" "[I") ∈ lw_all := lw_g (lw_at lw_m1 78 rfl) rfl
theorem q130 : (Jvm.Cond.fieldLink "SevenRings$Told" (18 : Nat) "SevenRings$Told" "tones" "[I") ∈ lw_all := lw_g (lw_at lw_m1 80 rfl) rfl
theorem q132 : (Jvm.Cond.fieldLink "SevenRings$Told" (21 : Nat) "SevenRings$Told" "currents" "[B") ∈ lw_all := lw_g (lw_at lw_m1 82 rfl) rfl
theorem q134 : (Jvm.Cond.fieldLink "SevenRings$Told" (25 : Nat) "SevenRings$Told" "warmths" "[B") ∈ lw_all := lw_g (lw_at lw_m1 84 rfl) rfl
theorem q137 : (Jvm.Cond.fieldLink "SevenRings$Told" (28 : Nat) "SevenRings$Told" "depths" "[B") ∈ lw_all := lw_g (lw_at lw_m1 87 rfl) rfl
theorem q139 : (Jvm.Cond.fieldLink "SevenRings$Told" (34 : Nat) "SevenRings$Told" "pieces" "Ljava/util/List;") ∈ lw_all := lw_g (lw_at lw_m1 89 rfl) rfl
theorem q141 : (Jvm.Cond.fieldLink "SevenRings$Told" (38 : Nat) "SevenRings$Told" "drags" "Ljava/util/List;") ∈ lw_all := lw_g (lw_at lw_m1 91 rfl) rfl
theorem q143 : (Jvm.Cond.laysFinal "SevenRings$Told" "SevenRings$Told" "set" "[I") ∈ lw_all := lw_g (lw_at lw_m1 93 rfl) rfl
theorem q144 : (Jvm.Cond.soleField "SevenRings$Told" "set") ∈ lw_all := lw_g (lw_at lw_m1 94 rfl) rfl
theorem q145 : (Jvm.Cond.laysFinal "SevenRings$Told" "SevenRings$Told" "fars" "[I") ∈ lw_all := lw_g (lw_at lw_m1 95 rfl) rfl
theorem q146 : (Jvm.Cond.soleField "SevenRings$Told" "fars") ∈ lw_all := lw_g (lw_at lw_m1 96 rfl) rfl
theorem q147 : (Jvm.Cond.laysFinal "SevenRings$Told" "SevenRings$Told" "tones" "[I") ∈ lw_all := lw_g (lw_at lw_m1 97 rfl) rfl
theorem q148 : (Jvm.Cond.soleField "SevenRings$Told" "tones") ∈ lw_all := lw_g (lw_at lw_m1 98 rfl) rfl
theorem q149 : (Jvm.Cond.laysFinal "SevenRings$Told" "SevenRings$Told" "currents" "[B") ∈ lw_all := lw_g (lw_at lw_m1 99 rfl) rfl
theorem q150 : (Jvm.Cond.soleField "SevenRings$Told" "currents") ∈ lw_all := lw_g (lw_at lw_m1 100 rfl) rfl
theorem q151 : (Jvm.Cond.laysFinal "SevenRings$Told" "SevenRings$Told" "warmths" "[B") ∈ lw_all := lw_g (lw_at lw_m1 101 rfl) rfl
theorem q152 : (Jvm.Cond.soleField "SevenRings$Told" "warmths") ∈ lw_all := lw_g (lw_at lw_m1 102 rfl) rfl
theorem q153 : (Jvm.Cond.laysFinal "SevenRings$Told" "SevenRings$Told" "depths" "[B") ∈ lw_all := lw_g (lw_at lw_m1 103 rfl) rfl
theorem q154 : (Jvm.Cond.soleField "SevenRings$Told" "depths") ∈ lw_all := lw_g (lw_at lw_m1 104 rfl) rfl
theorem q155 : (Jvm.Cond.laysFinal "SevenRings$Told" "SevenRings$Told" "pieces" "Ljava/util/List;") ∈ lw_all := lw_g (lw_at lw_m1 105 rfl) rfl
theorem q156 : (Jvm.Cond.soleField "SevenRings$Told" "pieces") ∈ lw_all := lw_g (lw_at lw_m1 106 rfl) rfl
theorem q157 : (Jvm.Cond.laysFinal "SevenRings$Told" "SevenRings$Told" "drags" "Ljava/util/List;") ∈ lw_all := lw_g (lw_at lw_m1 107 rfl) rfl
theorem q158 : (Jvm.Cond.soleField "SevenRings$Told" "drags") ∈ lw_all := lw_g (lw_at lw_m1 108 rfl) rfl
theorem q159 : (Jvm.Cond.superclass "SevenRings$Told" "java/lang/Object") ∈ lw_all := lw_g (lw_at lw_m1 109 rfl) rfl
theorem q341 : (Jvm.Cond.instanceMethod ({ cls := "SevenRings$Told", name := "far", desc := "(I)I" } : Jvm.MethodName)) ∈ lw_all := lw_g (lw_at lw_m2 51 rfl) rfl
theorem q342 : (Jvm.Cond.selects "SevenRings$Told" ({ cls := "SevenRings$Told", name := "far", desc := "(I)I" } : Jvm.MethodName) ({ cls := "SevenRings$Told", name := "far", desc := "(I)I" } : Jvm.MethodName)) ∈ lw_all := lw_g (lw_at lw_m2 52 rfl) rfl
theorem q343 : (Jvm.Cond.code ({ cls := "SevenRings$Told", name := "far", desc := "(I)I" } : Jvm.MethodName) prog_12_method_3_code (6 : Nat) (Option.some Jvm.ClassFile.FieldType.int)) ∈ lw_all := lw_g (lw_at lw_m2 53 rfl) rfl
theorem q447 : (Jvm.Cond.instanceMethod ({ cls := "SevenRings$Told", name := "hours", desc := "()I" } : Jvm.MethodName)) ∈ lw_all := lw_g (lw_at lw_m2 157 rfl) rfl
theorem q448 : (Jvm.Cond.selects "SevenRings$Told" ({ cls := "SevenRings$Told", name := "hours", desc := "()I" } : Jvm.MethodName) ({ cls := "SevenRings$Told", name := "hours", desc := "()I" } : Jvm.MethodName)) ∈ lw_all := lw_g (lw_at lw_m2 158 rfl) rfl
theorem q449 : (Jvm.Cond.code ({ cls := "SevenRings$Told", name := "hours", desc := "()I" } : Jvm.MethodName) prog_12_method_2_code (1 : Nat) (Option.some Jvm.ClassFile.FieldType.int)) ∈ lw_all := lw_g (lw_at lw_m2 159 rfl) rfl
theorem q635 : (Jvm.Cond.selects "SevenRings$Told" ({ cls := "java/lang/Object", name := "getClass", desc := "()Ljava/lang/Class;" } : Jvm.MethodName) ({ cls := "java/lang/Object", name := "getClass", desc := "()Ljava/lang/Class;" } : Jvm.MethodName)) ∈ lw_all := lw_g (lw_at lw_m3 105 rfl) rfl
theorem q663 : (Jvm.Cond.instanceMethod ({ cls := "SevenRings$Told", name := "drift", desc := "(IIZ)I" } : Jvm.MethodName)) ∈ lw_all := lw_g (lw_at lw_m3 133 rfl) rfl
theorem q664 : (Jvm.Cond.selects "SevenRings$Told" ({ cls := "SevenRings$Told", name := "drift", desc := "(IIZ)I" } : Jvm.MethodName) ({ cls := "SevenRings$Told", name := "drift", desc := "(IIZ)I" } : Jvm.MethodName)) ∈ lw_all := lw_g (lw_at lw_m3 134 rfl) rfl
theorem q665 : (Jvm.Cond.code ({ cls := "SevenRings$Told", name := "drift", desc := "(IIZ)I" } : Jvm.MethodName) prog_12_method_4_code (6 : Nat) (Option.some Jvm.ClassFile.FieldType.int)) ∈ lw_all := lw_g (lw_at lw_m3 135 rfl) rfl
theorem q666 : (Jvm.Cond.methodLinkNest "SevenRings$Told" (41 : Nat) ({ cls := "SevenRings", name := "beyond", desc := "(III)I" } : Jvm.MethodName) "SevenRings") ∈ lw_tbl := lw_at lw_m3 136 rfl
theorem q863 : (Jvm.Cond.instanceMethod ({ cls := "SevenRings$Told", name := "takeFrom", desc := "(LSevenRings$Told;)V" } : Jvm.MethodName)) ∈ lw_all := lw_g (lw_at lw_m4 93 rfl) rfl
theorem q864 : (Jvm.Cond.selects "SevenRings$Told" ({ cls := "SevenRings$Told", name := "takeFrom", desc := "(LSevenRings$Told;)V" } : Jvm.MethodName) ({ cls := "SevenRings$Told", name := "takeFrom", desc := "(LSevenRings$Told;)V" } : Jvm.MethodName)) ∈ lw_all := lw_g (lw_at lw_m4 94 rfl) rfl
theorem q865 : (Jvm.Cond.code ({ cls := "SevenRings$Told", name := "takeFrom", desc := "(LSevenRings$Told;)V" } : Jvm.MethodName) prog_12_method_5_code (2 : Nat) (Option.none : Option Jvm.ClassFile.FieldType)) ∈ lw_all := lw_g (lw_at lw_m4 95 rfl) rfl
theorem q866 : (Jvm.Cond.methodLink "SevenRings$Told" (45 : Nat) ({ cls := "java/lang/System", name := "arraycopy", desc := "(Ljava/lang/Object;ILjava/lang/Object;II)V" } : Jvm.MethodName)) ∈ lw_all := lw_g (lw_at lw_m4 96 rfl) rfl
theorem q867 : (Jvm.Cond.interfaceEntry "SevenRings$Told" (51 : Nat)) ∈ lw_tbl := lw_at lw_m4 97 rfl
theorem q868 : (Jvm.Cond.methodLink "SevenRings$Told" (51 : Nat) ({ cls := "java/util/List", name := "clear", desc := "()V" } : Jvm.MethodName)) ∈ lw_all := lw_g (lw_at lw_m4 98 rfl) rfl
theorem q869 : (Jvm.Cond.interfaceEntry "SevenRings$Told" (56 : Nat)) ∈ lw_tbl := lw_at lw_m4 99 rfl
theorem q870 : (Jvm.Cond.methodLink "SevenRings$Told" (56 : Nat) ({ cls := "java/util/List", name := "addAll", desc := "(Ljava/util/Collection;)Z" } : Jvm.MethodName)) ∈ lw_all := lw_g (lw_at lw_m4 100 rfl) rfl
theorem q1415 : (Jvm.Cond.castable "SevenRings$Told" "java/lang/Object") ∈ lw_tbl := lw_at lw_m6 165 rfl
theorem in_X1 : ∀ w ∈ wsX10, w ∈ lw_all := lw_in wsX10 [143, 145, 147, 149, 151, 153, 155, 157] (by decide +kernel) (by decide +kernel)

/-! SevenRings$Drag -/
set_option maxRecDepth 100000
def RX10 : String := "SevenRings$Drag"
def TX10 : u_T := fun k => match k with
  | 0 => ("SevenRings$Drag", "cell", "I", true)
  | _ => ("SevenRings$Drag", "eighths", "I", true)
def tyX10 : Nat → FieldType := fun k => match k with
  | 0 => .int
  | _ => .int
abbrev wsX100 : List Cond := u_ws RX10 TX10 2
theorem nmX10 : ∀ a, a < 2 → ∀ b, b < 2 → a ≠ b → (TX10 a).2.1 ≠ (TX10 b).2.1 := by decide +kernel
theorem tyX10_ok : ∀ k, k < 2 → parseFieldDescriptor (TX10 k).2.2.1 = some (tyX10 k) := by decide +kernel
abbrev cX10_init : ByteArray := prog_3_method_1_code
def yX10_init : MethodName := ⟨RX10, "<init>", "(II)V"⟩
def dkwX10_init_0 : List UInt8 := [42, 183, 0, 3, 42, 27, 181, 0, 9, 42, 28, 181, 0, 15, 177]
abbrev dktX10_init_0 : List UInt8 := dkwX10_init_0 ++ []
theorem dksX10_init_0 : cX10_init.data.toList.drop 0 = dktX10_init_0 := by decide +kernel
theorem dX10_init_0 : decode cX10_init 0 = .ok (.aload_n 0, 1) := dk_42 (dk_at dksX10_init_0 0 rfl rfl)
theorem dX10_init_1 : decode cX10_init 1 = .ok (.invokespecial 3, 3) := dk_183 0 3 (dk_at dksX10_init_0 1 rfl rfl)
theorem dX10_init_4 : decode cX10_init 4 = .ok (.aload_n 0, 1) := dk_42 (dk_at dksX10_init_0 4 rfl rfl)
theorem dX10_init_5 : decode cX10_init 5 = .ok (.iload_n 1, 1) := dk_27 (dk_at dksX10_init_0 5 rfl rfl)
theorem dX10_init_6 : decode cX10_init 6 = .ok (.putfield 9, 3) := dk_181 0 9 (dk_at dksX10_init_0 6 rfl rfl)
theorem dX10_init_9 : decode cX10_init 9 = .ok (.aload_n 0, 1) := dk_42 (dk_at dksX10_init_0 9 rfl rfl)
theorem dX10_init_10 : decode cX10_init 10 = .ok (.iload_n 2, 1) := dk_28 (dk_at dksX10_init_0 10 rfl rfl)
theorem dX10_init_11 : decode cX10_init 11 = .ok (.putfield 15, 3) := dk_181 0 15 (dk_at dksX10_init_0 11 rfl rfl)
theorem dX10_init_14 : decode cX10_init 14 = .ok (.return_, 1) := dk_177 (dk_at dksX10_init_0 14 rfl rfl)
abbrev cX10_misses : ByteArray := prog_3_method_2_code
def yX10_misses : MethodName := ⟨RX10, "misses", "(I)I"⟩
def dkwX10_misses_0 : List UInt8 := [27, 42, 180, 0, 9, 160, 0, 13, 16, 8, 42, 180, 0, 15, 100, 167, 0, 5, 16, 8, 172]
abbrev dktX10_misses_0 : List UInt8 := dkwX10_misses_0 ++ []
theorem dksX10_misses_0 : cX10_misses.data.toList.drop 0 = dktX10_misses_0 := by decide +kernel
theorem dX10_misses_0 : decode cX10_misses 0 = .ok (.iload_n 1, 1) := dk_27 (dk_at dksX10_misses_0 0 rfl rfl)
theorem dX10_misses_1 : decode cX10_misses 1 = .ok (.aload_n 0, 1) := dk_42 (dk_at dksX10_misses_0 1 rfl rfl)
theorem dX10_misses_2 : decode cX10_misses 2 = .ok (.getfield 9, 3) := dk_180 0 9 (dk_at dksX10_misses_0 2 rfl rfl)
theorem dX10_misses_5 : decode cX10_misses 5 = .ok (.if_icmp .ne 13, 3) := dk_160 0 13 (dk_at dksX10_misses_0 5 rfl rfl)
theorem dX10_misses_8 : decode cX10_misses 8 = .ok (.bipush 8, 2) := dk_16 8 (dk_at dksX10_misses_0 8 rfl rfl)
theorem dX10_misses_10 : decode cX10_misses 10 = .ok (.aload_n 0, 1) := dk_42 (dk_at dksX10_misses_0 10 rfl rfl)
theorem dX10_misses_11 : decode cX10_misses 11 = .ok (.getfield 15, 3) := dk_180 0 15 (dk_at dksX10_misses_0 11 rfl rfl)
theorem dX10_misses_14 : decode cX10_misses 14 = .ok (.isub, 1) := dk_100 (dk_at dksX10_misses_0 14 rfl rfl)
theorem dX10_misses_15 : decode cX10_misses 15 = .ok (.goto 5, 3) := dk_167 0 5 (dk_at dksX10_misses_0 15 rfl rfl)
theorem dX10_misses_18 : decode cX10_misses 18 = .ok (.bipush 8, 2) := dk_16 8 (dk_at dksX10_misses_0 18 rfl rfl)
theorem dX10_misses_20 : decode cX10_misses 20 = .ok (.ireturn, 1) := dk_172 (dk_at dksX10_misses_0 20 rfl rfl)
theorem q72 : (Jvm.Cond.initialized "SevenRings$Drag") ∈ lw_all := lw_g (lw_at lw_m1 22 rfl) rfl
theorem q627 : (Jvm.Cond.selects "SevenRings$Drag" ({ cls := "java/lang/Object", name := "getClass", desc := "()Ljava/lang/Class;" } : Jvm.MethodName) ({ cls := "java/lang/Object", name := "getClass", desc := "()Ljava/lang/Class;" } : Jvm.MethodName)) ∈ lw_all := lw_g (lw_at lw_m3 97 rfl) rfl
theorem q703 : (Jvm.Cond.instantiable "SevenRings$Drag" (2 : Nat)) ∈ lw_all := lw_g (lw_at lw_m3 173 rfl) rfl
theorem q705 : (Jvm.Cond.instanceMethod ({ cls := "SevenRings$Drag", name := "<init>", desc := "(II)V" } : Jvm.MethodName)) ∈ lw_all := lw_g (lw_at lw_m3 175 rfl) rfl
theorem q706 : (Jvm.Cond.code ({ cls := "SevenRings$Drag", name := "<init>", desc := "(II)V" } : Jvm.MethodName) prog_3_method_1_code (3 : Nat) (Option.none : Option Jvm.ClassFile.FieldType)) ∈ lw_all := lw_g (lw_at lw_m3 176 rfl) rfl
theorem q707 : (Jvm.Cond.methodLink "SevenRings$Drag" (3 : Nat) ({ cls := "java/lang/Object", name := "<init>", desc := "()V" } : Jvm.MethodName)) ∈ lw_all := lw_g (lw_at lw_m3 177 rfl) rfl
theorem q708 : (Jvm.Cond.fieldLink "SevenRings$Drag" (9 : Nat) "SevenRings$Drag" "cell" "I") ∈ lw_all := lw_g (lw_at lw_m3 178 rfl) rfl
theorem q710 : (Jvm.Cond.fieldLink "SevenRings$Drag" (15 : Nat) "SevenRings$Drag" "eighths" "I") ∈ lw_all := lw_g (lw_at lw_m3 180 rfl) rfl
theorem q711 : (Jvm.Cond.laysFinal "SevenRings$Drag" "SevenRings$Drag" "cell" "I") ∈ lw_all := lw_g (lw_at lw_m3 181 rfl) rfl
theorem q712 : (Jvm.Cond.soleField "SevenRings$Drag" "cell") ∈ lw_all := lw_g (lw_at lw_m3 182 rfl) rfl
theorem q713 : (Jvm.Cond.laysFinal "SevenRings$Drag" "SevenRings$Drag" "eighths" "I") ∈ lw_all := lw_g (lw_at lw_m3 183 rfl) rfl
theorem q714 : (Jvm.Cond.soleField "SevenRings$Drag" "eighths") ∈ lw_all := lw_g (lw_at lw_m3 184 rfl) rfl
theorem q715 : (Jvm.Cond.superclass "SevenRings$Drag" "java/lang/Object") ∈ lw_all := lw_g (lw_at lw_m3 185 rfl) rfl
theorem q750 : (Jvm.Cond.instanceMethod ({ cls := "SevenRings$Drag", name := "misses", desc := "(I)I" } : Jvm.MethodName)) ∈ lw_all := lw_g (lw_at lw_m3 220 rfl) rfl
theorem q751 : (Jvm.Cond.selects "SevenRings$Drag" ({ cls := "SevenRings$Drag", name := "misses", desc := "(I)I" } : Jvm.MethodName) ({ cls := "SevenRings$Drag", name := "misses", desc := "(I)I" } : Jvm.MethodName)) ∈ lw_all := lw_g (lw_at lw_m3 221 rfl) rfl
theorem q752 : (Jvm.Cond.code ({ cls := "SevenRings$Drag", name := "misses", desc := "(I)I" } : Jvm.MethodName) prog_3_method_2_code (2 : Nat) (Option.some Jvm.ClassFile.FieldType.int)) ∈ lw_all := lw_g (lw_at lw_m3 222 rfl) rfl
theorem q1423 : (Jvm.Cond.castable "SevenRings$Drag" "java/lang/Object") ∈ lw_tbl := lw_at lw_m6 173 rfl
theorem in_X10 : ∀ w ∈ wsX100, w ∈ lw_all := lw_in wsX100 [711, 713] (by decide +kernel) (by decide +kernel)

/-! SevenRings$Ender -/
set_option maxRecDepth 100000
def RX11 : String := "SevenRings$Ender"
def TX11 : u_T := fun k => match k with
  | _ => ("SevenRings$Ender", "sums", "[J", true)
def tyX11 : Nat → FieldType := fun k => match k with
  | _ => .array .long
abbrev wsX110 : List Cond := u_ws RX11 TX11 1
theorem nmX11 : ∀ a, a < 1 → ∀ b, b < 1 → a ≠ b → (TX11 a).2.1 ≠ (TX11 b).2.1 := by decide +kernel
theorem tyX11_ok : ∀ k, k < 1 → parseFieldDescriptor (TX11 k).2.2.1 = some (tyX11 k) := by decide +kernel
abbrev cX11_way : ByteArray := prog_4_method_2_code
def yX11_way : MethodName := ⟨RX11, "way", "(LSevenRings;I)Z"⟩
def dkwX11_way_3 : List UInt8 := [155, 0, 15, 42, 180, 0, 9, 21, 4, 92, 47, 28, 133, 97, 80, 132, 5, 1, 167, 255, 204, 4, 172]
abbrev dktX11_way_3 : List UInt8 := dkwX11_way_3 ++ []
def dkwX11_way_2 : List UInt8 := [162, 0, 43, 21, 4, 155, 0, 38, 21, 4, 43, 180, 0, 34, 4, 184, 0, 38, 54, 4, 21, 4]
abbrev dktX11_way_2 : List UInt8 := dkwX11_way_2 ++ dktX11_way_3
def dkwX11_way_1 : List UInt8 := [133, 105, 97, 80, 29, 54, 4, 3, 54, 5, 21, 5, 43, 180, 0, 19, 180, 0, 31, 16, 6, 46]
abbrev dktX11_way_1 : List UInt8 := dkwX11_way_1 ++ dktX11_way_2
def dkwX11_way_0 : List UInt8 := [43, 180, 0, 15, 43, 180, 0, 19, 182, 0, 23, 46, 62, 42, 180, 0, 9, 29, 92, 47, 20, 0, 29, 28]
abbrev dktX11_way_0 : List UInt8 := dkwX11_way_0 ++ dktX11_way_1
theorem dksX11_way_0 : cX11_way.data.toList.drop 0 = dktX11_way_0 := by decide +kernel
theorem dksX11_way_1 : cX11_way.data.toList.drop 24 = dktX11_way_1 := dk_seg dksX11_way_0 24 rfl rfl
theorem dksX11_way_2 : cX11_way.data.toList.drop 46 = dktX11_way_2 := dk_seg dksX11_way_1 22 rfl rfl
theorem dksX11_way_3 : cX11_way.data.toList.drop 68 = dktX11_way_3 := dk_seg dksX11_way_2 22 rfl rfl
theorem dX11_way_0 : decode cX11_way 0 = .ok (.aload_n 1, 1) := dk_43 (dk_at dksX11_way_0 0 rfl rfl)
theorem dX11_way_1 : decode cX11_way 1 = .ok (.getfield 15, 3) := dk_180 0 15 (dk_at dksX11_way_0 1 rfl rfl)
theorem dX11_way_4 : decode cX11_way 4 = .ok (.aload_n 1, 1) := dk_43 (dk_at dksX11_way_0 4 rfl rfl)
theorem dX11_way_5 : decode cX11_way 5 = .ok (.getfield 19, 3) := dk_180 0 19 (dk_at dksX11_way_0 5 rfl rfl)
theorem dX11_way_8 : decode cX11_way 8 = .ok (.invokevirtual 23, 3) := dk_182 0 23 (dk_at dksX11_way_0 8 rfl rfl)
theorem dX11_way_11 : decode cX11_way 11 = .ok (.iaload, 1) := dk_46 (dk_at dksX11_way_0 11 rfl rfl)
theorem dX11_way_12 : decode cX11_way 12 = .ok (.istore_n 3, 1) := dk_62 (dk_at dksX11_way_0 12 rfl rfl)
theorem dX11_way_13 : decode cX11_way 13 = .ok (.aload_n 0, 1) := dk_42 (dk_at dksX11_way_0 13 rfl rfl)
theorem dX11_way_14 : decode cX11_way 14 = .ok (.getfield 9, 3) := dk_180 0 9 (dk_at dksX11_way_0 14 rfl rfl)
theorem dX11_way_17 : decode cX11_way 17 = .ok (.iload_n 3, 1) := dk_29 (dk_at dksX11_way_0 17 rfl rfl)
theorem dX11_way_18 : decode cX11_way 18 = .ok (.dup2, 1) := dk_92 (dk_at dksX11_way_0 18 rfl rfl)
theorem dX11_way_19 : decode cX11_way 19 = .ok (.laload, 1) := dk_47 (dk_at dksX11_way_0 19 rfl rfl)
theorem dX11_way_20 : decode cX11_way 20 = .ok (.ldc2_w 29, 3) := dk_20 0 29 (dk_at dksX11_way_0 20 rfl rfl)
theorem dX11_way_23 : decode cX11_way 23 = .ok (.iload_n 2, 1) := dk_28 (dk_at dksX11_way_0 23 rfl rfl)
theorem dX11_way_24 : decode cX11_way 24 = .ok (.i2l, 1) := dk_133 (dk_at dksX11_way_1 0 rfl rfl)
theorem dX11_way_25 : decode cX11_way 25 = .ok (.lmul, 1) := dk_105 (dk_at dksX11_way_1 1 rfl rfl)
theorem dX11_way_26 : decode cX11_way 26 = .ok (.ladd, 1) := dk_97 (dk_at dksX11_way_1 2 rfl rfl)
theorem dX11_way_27 : decode cX11_way 27 = .ok (.lastore, 1) := dk_80 (dk_at dksX11_way_1 3 rfl rfl)
theorem dX11_way_28 : decode cX11_way 28 = .ok (.iload_n 3, 1) := dk_29 (dk_at dksX11_way_1 4 rfl rfl)
theorem dX11_way_29 : decode cX11_way 29 = .ok (.istore 4, 2) := dk_54 4 (dk_at dksX11_way_1 5 rfl rfl)
theorem dX11_way_31 : decode cX11_way 31 = .ok (.iconst 0, 1) := dk_3 (dk_at dksX11_way_1 7 rfl rfl)
theorem dX11_way_32 : decode cX11_way 32 = .ok (.istore 5, 2) := dk_54 5 (dk_at dksX11_way_1 8 rfl rfl)
theorem dX11_way_34 : decode cX11_way 34 = .ok (.iload 5, 2) := dk_21 5 (dk_at dksX11_way_1 10 rfl rfl)
theorem dX11_way_36 : decode cX11_way 36 = .ok (.aload_n 1, 1) := dk_43 (dk_at dksX11_way_1 12 rfl rfl)
theorem dX11_way_37 : decode cX11_way 37 = .ok (.getfield 19, 3) := dk_180 0 19 (dk_at dksX11_way_1 13 rfl rfl)
theorem dX11_way_40 : decode cX11_way 40 = .ok (.getfield 31, 3) := dk_180 0 31 (dk_at dksX11_way_1 16 rfl rfl)
theorem dX11_way_43 : decode cX11_way 43 = .ok (.bipush 6, 2) := dk_16 6 (dk_at dksX11_way_1 19 rfl rfl)
theorem dX11_way_45 : decode cX11_way 45 = .ok (.iaload, 1) := dk_46 (dk_at dksX11_way_1 21 rfl rfl)
theorem dX11_way_46 : decode cX11_way 46 = .ok (.if_icmp .ge 43, 3) := dk_162 0 43 (dk_at dksX11_way_2 0 rfl rfl)
theorem dX11_way_49 : decode cX11_way 49 = .ok (.iload 4, 2) := dk_21 4 (dk_at dksX11_way_2 3 rfl rfl)
theorem dX11_way_51 : decode cX11_way 51 = .ok (.ifCond .lt 38, 3) := dk_155 0 38 (dk_at dksX11_way_2 5 rfl rfl)
theorem dX11_way_54 : decode cX11_way 54 = .ok (.iload 4, 2) := dk_21 4 (dk_at dksX11_way_2 8 rfl rfl)
theorem dX11_way_56 : decode cX11_way 56 = .ok (.aload_n 1, 1) := dk_43 (dk_at dksX11_way_2 10 rfl rfl)
theorem dX11_way_57 : decode cX11_way 57 = .ok (.getfield 34, 3) := dk_180 0 34 (dk_at dksX11_way_2 11 rfl rfl)
theorem dX11_way_60 : decode cX11_way 60 = .ok (.iconst 1, 1) := dk_4 (dk_at dksX11_way_2 14 rfl rfl)
theorem dX11_way_61 : decode cX11_way 61 = .ok (.invokestatic 38, 3) := dk_184 0 38 (dk_at dksX11_way_2 15 rfl rfl)
theorem dX11_way_64 : decode cX11_way 64 = .ok (.istore 4, 2) := dk_54 4 (dk_at dksX11_way_2 18 rfl rfl)
theorem dX11_way_66 : decode cX11_way 66 = .ok (.iload 4, 2) := dk_21 4 (dk_at dksX11_way_2 20 rfl rfl)
theorem dX11_way_68 : decode cX11_way 68 = .ok (.ifCond .lt 15, 3) := dk_155 0 15 (dk_at dksX11_way_3 0 rfl rfl)
theorem dX11_way_71 : decode cX11_way 71 = .ok (.aload_n 0, 1) := dk_42 (dk_at dksX11_way_3 3 rfl rfl)
theorem dX11_way_72 : decode cX11_way 72 = .ok (.getfield 9, 3) := dk_180 0 9 (dk_at dksX11_way_3 4 rfl rfl)
theorem dX11_way_75 : decode cX11_way 75 = .ok (.iload 4, 2) := dk_21 4 (dk_at dksX11_way_3 7 rfl rfl)
theorem dX11_way_77 : decode cX11_way 77 = .ok (.dup2, 1) := dk_92 (dk_at dksX11_way_3 9 rfl rfl)
theorem dX11_way_78 : decode cX11_way 78 = .ok (.laload, 1) := dk_47 (dk_at dksX11_way_3 10 rfl rfl)
theorem dX11_way_79 : decode cX11_way 79 = .ok (.iload_n 2, 1) := dk_28 (dk_at dksX11_way_3 11 rfl rfl)
theorem dX11_way_80 : decode cX11_way 80 = .ok (.i2l, 1) := dk_133 (dk_at dksX11_way_3 12 rfl rfl)
theorem dX11_way_81 : decode cX11_way 81 = .ok (.ladd, 1) := dk_97 (dk_at dksX11_way_3 13 rfl rfl)
theorem dX11_way_82 : decode cX11_way 82 = .ok (.lastore, 1) := dk_80 (dk_at dksX11_way_3 14 rfl rfl)
theorem dX11_way_83 : decode cX11_way 83 = .ok (.iinc 5 1, 3) := dk_132 5 1 (dk_at dksX11_way_3 15 rfl rfl)
theorem dX11_way_86 : decode cX11_way 86 = .ok (.goto (-52), 3) := dk_167 255 204 (dk_at dksX11_way_3 18 rfl rfl)
theorem dX11_way_89 : decode cX11_way 89 = .ok (.iconst 1, 1) := dk_4 (dk_at dksX11_way_3 21 rfl rfl)
theorem dX11_way_90 : decode cX11_way 90 = .ok (.ireturn, 1) := dk_172 (dk_at dksX11_way_3 22 rfl rfl)
abbrev cX11_init : ByteArray := prog_4_method_1_code
def yX11_init : MethodName := ⟨RX11, "<init>", "()V"⟩
def dkwX11_init_0 : List UInt8 := [42, 183, 0, 3, 42, 16, 100, 188, 11, 181, 0, 9, 177]
abbrev dktX11_init_0 : List UInt8 := dkwX11_init_0 ++ []
theorem dksX11_init_0 : cX11_init.data.toList.drop 0 = dktX11_init_0 := by decide +kernel
theorem dX11_init_0 : decode cX11_init 0 = .ok (.aload_n 0, 1) := dk_42 (dk_at dksX11_init_0 0 rfl rfl)
theorem dX11_init_1 : decode cX11_init 1 = .ok (.invokespecial 3, 3) := dk_183 0 3 (dk_at dksX11_init_0 1 rfl rfl)
theorem dX11_init_4 : decode cX11_init 4 = .ok (.aload_n 0, 1) := dk_42 (dk_at dksX11_init_0 4 rfl rfl)
theorem dX11_init_5 : decode cX11_init 5 = .ok (.bipush 100, 2) := dk_16 100 (dk_at dksX11_init_0 5 rfl rfl)
theorem dX11_init_7 : decode cX11_init 7 = .ok (.newarray .long, 2) := dk_188_11 (dk_at dksX11_init_0 7 rfl rfl)
theorem dX11_init_9 : decode cX11_init 9 = .ok (.putfield 9, 3) := dk_181 0 9 (dk_at dksX11_init_0 9 rfl rfl)
theorem dX11_init_12 : decode cX11_init 12 = .ok (.return_, 1) := dk_177 (dk_at dksX11_init_0 12 rfl rfl)
theorem q73 : (Jvm.Cond.initialized "SevenRings$Ender") ∈ lw_all := lw_g (lw_at lw_m1 23 rfl) rfl
theorem q126 : (Jvm.Cond.fieldLinkNest "SevenRings$Ender" (31 : Nat) "SevenRings$Told" "set" "[I" "SevenRings") ∈ lw_tbl := lw_at lw_m1 76 rfl
theorem q253 : (Jvm.Cond.fieldLinkNest "SevenRings$Ender" (19 : Nat) "SevenRings" "told" "LSevenRings$Told;" "SevenRings") ∈ lw_tbl := lw_at lw_m1 203 rfl
theorem q263 : (Jvm.Cond.fieldLinkNest "SevenRings$Ender" (15 : Nat) "SevenRings" "cells" "[I" "SevenRings") ∈ lw_tbl := lw_at lw_m1 213 rfl
theorem q268 : (Jvm.Cond.fieldLinkNest "SevenRings$Ender" (34 : Nat) "SevenRings" "course" "I" "SevenRings") ∈ lw_tbl := lw_at lw_m1 218 rfl
theorem q460 : (Jvm.Cond.selects "SevenRings$Ender" ({ cls := "SevenRings$Hearer", name := "way", desc := "(LSevenRings;I)Z" } : Jvm.MethodName) ({ cls := "SevenRings$Ender", name := "way", desc := "(LSevenRings;I)Z" } : Jvm.MethodName)) ∈ lw_all := lw_g (lw_at lw_m2 170 rfl) rfl
theorem q461 : (Jvm.Cond.instanceMethod ({ cls := "SevenRings$Ender", name := "way", desc := "(LSevenRings;I)Z" } : Jvm.MethodName)) ∈ lw_all := lw_g (lw_at lw_m2 171 rfl) rfl
theorem q462 : (Jvm.Cond.code ({ cls := "SevenRings$Ender", name := "way", desc := "(LSevenRings;I)Z" } : Jvm.MethodName) prog_4_method_2_code (6 : Nat) (Option.some Jvm.ClassFile.FieldType.boolean)) ∈ lw_all := lw_g (lw_at lw_m2 172 rfl) rfl
theorem q463 : (Jvm.Cond.methodLink "SevenRings$Ender" (23 : Nat) ({ cls := "SevenRings$Told", name := "hours", desc := "()I" } : Jvm.MethodName)) ∈ lw_all := lw_g (lw_at lw_m2 173 rfl) rfl
theorem q464 : (Jvm.Cond.constantLong "SevenRings$Ender" (29 : Nat) (2 : Int64)) ∈ lw_all := lw_g (lw_at lw_m2 174 rfl) rfl
theorem q465 : (Jvm.Cond.methodLinkNest "SevenRings$Ender" (38 : Nat) ({ cls := "SevenRings", name := "beyond", desc := "(III)I" } : Jvm.MethodName) "SevenRings") ∈ lw_tbl := lw_at lw_m2 175 rfl
theorem q628 : (Jvm.Cond.selects "SevenRings$Ender" ({ cls := "java/lang/Object", name := "getClass", desc := "()Ljava/lang/Class;" } : Jvm.MethodName) ({ cls := "java/lang/Object", name := "getClass", desc := "()Ljava/lang/Class;" } : Jvm.MethodName)) ∈ lw_all := lw_g (lw_at lw_m3 98 rfl) rfl
theorem q739 : (Jvm.Cond.instantiable "SevenRings$Ender" (1 : Nat)) ∈ lw_all := lw_g (lw_at lw_m3 209 rfl) rfl
theorem q741 : (Jvm.Cond.instanceMethod ({ cls := "SevenRings$Ender", name := "<init>", desc := "()V" } : Jvm.MethodName)) ∈ lw_all := lw_g (lw_at lw_m3 211 rfl) rfl
theorem q742 : (Jvm.Cond.code ({ cls := "SevenRings$Ender", name := "<init>", desc := "()V" } : Jvm.MethodName) prog_4_method_1_code (1 : Nat) (Option.none : Option Jvm.ClassFile.FieldType)) ∈ lw_all := lw_g (lw_at lw_m3 212 rfl) rfl
theorem q743 : (Jvm.Cond.methodLinkNest "SevenRings$Ender" (3 : Nat) ({ cls := "SevenRings$Hearer", name := "<init>", desc := "()V" } : Jvm.MethodName) "SevenRings") ∈ lw_tbl := lw_at lw_m3 213 rfl
theorem q744 : (Jvm.Cond.fieldLink "SevenRings$Ender" (9 : Nat) "SevenRings$Ender" "sums" "[J") ∈ lw_all := lw_g (lw_at lw_m3 214 rfl) rfl
theorem q746 : (Jvm.Cond.laysFinal "SevenRings$Ender" "SevenRings$Ender" "sums" "[J") ∈ lw_all := lw_g (lw_at lw_m3 216 rfl) rfl
theorem q747 : (Jvm.Cond.soleField "SevenRings$Ender" "sums") ∈ lw_all := lw_g (lw_at lw_m3 217 rfl) rfl
theorem q748 : (Jvm.Cond.superclass "SevenRings$Ender" "SevenRings$Hearer") ∈ lw_all := lw_g (lw_at lw_m3 218 rfl) rfl
theorem q1424 : (Jvm.Cond.castable "SevenRings$Ender" "java/lang/Object") ∈ lw_tbl := lw_at lw_m6 174 rfl
theorem in_X11 : ∀ w ∈ wsX110, w ∈ lw_all := lw_in wsX110 [746] (by decide +kernel) (by decide +kernel)

/-! SevenRings$Knower -/
set_option maxRecDepth 100000
def RX12 : String := "SevenRings$Knower"
def TX12 : u_T := fun k => match k with
  | 0 => ("SevenRings$Knower", "cells", "[I", true)
  | _ => ("SevenRings$Knower", "knows", "Z", false)
def tyX12 : Nat → FieldType := fun k => match k with
  | 0 => .array .int
  | _ => .boolean
abbrev wsX120 : List Cond := u_ws RX12 TX12 2
theorem nmX12 : ∀ a, a < 2 → ∀ b, b < 2 → a ≠ b → (TX12 a).2.1 ≠ (TX12 b).2.1 := by decide +kernel
theorem tyX12_ok : ∀ k, k < 2 → parseFieldDescriptor (TX12 k).2.2.1 = some (tyX12 k) := by decide +kernel
abbrev cX12_way : ByteArray := prog_7_method_2_code
def yX12_way : MethodName := ⟨RX12, "way", "(LSevenRings;I)Z"⟩
def dkwX12_way_2 : List UInt8 := [42, 89, 180, 0, 26, 29, 128, 181, 0, 26, 42, 180, 0, 26, 154, 0, 7, 4, 167, 0, 4, 3, 172]
abbrev dktX12_way_2 : List UInt8 := dkwX12_way_2 ++ []
def dkwX12_way_1 : List UInt8 := [46, 42, 180, 0, 9, 21, 4, 46, 160, 0, 7, 4, 167, 0, 4, 3, 126, 62, 132, 4, 1, 167, 255, 216]
abbrev dktX12_way_1 : List UInt8 := dkwX12_way_1 ++ dktX12_way_2
def dkwX12_way_0 : List UInt8 := [4, 62, 3, 54, 4, 21, 4, 43, 180, 0, 15, 182, 0, 19, 163, 0, 34, 29, 43, 180, 0, 25, 21, 4]
abbrev dktX12_way_0 : List UInt8 := dkwX12_way_0 ++ dktX12_way_1
theorem dksX12_way_0 : cX12_way.data.toList.drop 0 = dktX12_way_0 := by decide +kernel
theorem dksX12_way_1 : cX12_way.data.toList.drop 24 = dktX12_way_1 := dk_seg dksX12_way_0 24 rfl rfl
theorem dksX12_way_2 : cX12_way.data.toList.drop 48 = dktX12_way_2 := dk_seg dksX12_way_1 24 rfl rfl
theorem dX12_way_0 : decode cX12_way 0 = .ok (.iconst 1, 1) := dk_4 (dk_at dksX12_way_0 0 rfl rfl)
theorem dX12_way_1 : decode cX12_way 1 = .ok (.istore_n 3, 1) := dk_62 (dk_at dksX12_way_0 1 rfl rfl)
theorem dX12_way_2 : decode cX12_way 2 = .ok (.iconst 0, 1) := dk_3 (dk_at dksX12_way_0 2 rfl rfl)
theorem dX12_way_3 : decode cX12_way 3 = .ok (.istore 4, 2) := dk_54 4 (dk_at dksX12_way_0 3 rfl rfl)
theorem dX12_way_5 : decode cX12_way 5 = .ok (.iload 4, 2) := dk_21 4 (dk_at dksX12_way_0 5 rfl rfl)
theorem dX12_way_7 : decode cX12_way 7 = .ok (.aload_n 1, 1) := dk_43 (dk_at dksX12_way_0 7 rfl rfl)
theorem dX12_way_8 : decode cX12_way 8 = .ok (.getfield 15, 3) := dk_180 0 15 (dk_at dksX12_way_0 8 rfl rfl)
theorem dX12_way_11 : decode cX12_way 11 = .ok (.invokevirtual 19, 3) := dk_182 0 19 (dk_at dksX12_way_0 11 rfl rfl)
theorem dX12_way_14 : decode cX12_way 14 = .ok (.if_icmp .gt 34, 3) := dk_163 0 34 (dk_at dksX12_way_0 14 rfl rfl)
theorem dX12_way_17 : decode cX12_way 17 = .ok (.iload_n 3, 1) := dk_29 (dk_at dksX12_way_0 17 rfl rfl)
theorem dX12_way_18 : decode cX12_way 18 = .ok (.aload_n 1, 1) := dk_43 (dk_at dksX12_way_0 18 rfl rfl)
theorem dX12_way_19 : decode cX12_way 19 = .ok (.getfield 25, 3) := dk_180 0 25 (dk_at dksX12_way_0 19 rfl rfl)
theorem dX12_way_22 : decode cX12_way 22 = .ok (.iload 4, 2) := dk_21 4 (dk_at dksX12_way_0 22 rfl rfl)
theorem dX12_way_24 : decode cX12_way 24 = .ok (.iaload, 1) := dk_46 (dk_at dksX12_way_1 0 rfl rfl)
theorem dX12_way_25 : decode cX12_way 25 = .ok (.aload_n 0, 1) := dk_42 (dk_at dksX12_way_1 1 rfl rfl)
theorem dX12_way_26 : decode cX12_way 26 = .ok (.getfield 9, 3) := dk_180 0 9 (dk_at dksX12_way_1 2 rfl rfl)
theorem dX12_way_29 : decode cX12_way 29 = .ok (.iload 4, 2) := dk_21 4 (dk_at dksX12_way_1 5 rfl rfl)
theorem dX12_way_31 : decode cX12_way 31 = .ok (.iaload, 1) := dk_46 (dk_at dksX12_way_1 7 rfl rfl)
theorem dX12_way_32 : decode cX12_way 32 = .ok (.if_icmp .ne 7, 3) := dk_160 0 7 (dk_at dksX12_way_1 8 rfl rfl)
theorem dX12_way_35 : decode cX12_way 35 = .ok (.iconst 1, 1) := dk_4 (dk_at dksX12_way_1 11 rfl rfl)
theorem dX12_way_36 : decode cX12_way 36 = .ok (.goto 4, 3) := dk_167 0 4 (dk_at dksX12_way_1 12 rfl rfl)
theorem dX12_way_39 : decode cX12_way 39 = .ok (.iconst 0, 1) := dk_3 (dk_at dksX12_way_1 15 rfl rfl)
theorem dX12_way_40 : decode cX12_way 40 = .ok (.iand, 1) := dk_126 (dk_at dksX12_way_1 16 rfl rfl)
theorem dX12_way_41 : decode cX12_way 41 = .ok (.istore_n 3, 1) := dk_62 (dk_at dksX12_way_1 17 rfl rfl)
theorem dX12_way_42 : decode cX12_way 42 = .ok (.iinc 4 1, 3) := dk_132 4 1 (dk_at dksX12_way_1 18 rfl rfl)
theorem dX12_way_45 : decode cX12_way 45 = .ok (.goto (-40), 3) := dk_167 255 216 (dk_at dksX12_way_1 21 rfl rfl)
theorem dX12_way_48 : decode cX12_way 48 = .ok (.aload_n 0, 1) := dk_42 (dk_at dksX12_way_2 0 rfl rfl)
theorem dX12_way_49 : decode cX12_way 49 = .ok (.dup, 1) := dk_89 (dk_at dksX12_way_2 1 rfl rfl)
theorem dX12_way_50 : decode cX12_way 50 = .ok (.getfield 26, 3) := dk_180 0 26 (dk_at dksX12_way_2 2 rfl rfl)
theorem dX12_way_53 : decode cX12_way 53 = .ok (.iload_n 3, 1) := dk_29 (dk_at dksX12_way_2 5 rfl rfl)
theorem dX12_way_54 : decode cX12_way 54 = .ok (.ior, 1) := dk_128 (dk_at dksX12_way_2 6 rfl rfl)
theorem dX12_way_55 : decode cX12_way 55 = .ok (.putfield 26, 3) := dk_181 0 26 (dk_at dksX12_way_2 7 rfl rfl)
theorem dX12_way_58 : decode cX12_way 58 = .ok (.aload_n 0, 1) := dk_42 (dk_at dksX12_way_2 10 rfl rfl)
theorem dX12_way_59 : decode cX12_way 59 = .ok (.getfield 26, 3) := dk_180 0 26 (dk_at dksX12_way_2 11 rfl rfl)
theorem dX12_way_62 : decode cX12_way 62 = .ok (.ifCond .ne 7, 3) := dk_154 0 7 (dk_at dksX12_way_2 14 rfl rfl)
theorem dX12_way_65 : decode cX12_way 65 = .ok (.iconst 1, 1) := dk_4 (dk_at dksX12_way_2 17 rfl rfl)
theorem dX12_way_66 : decode cX12_way 66 = .ok (.goto 4, 3) := dk_167 0 4 (dk_at dksX12_way_2 18 rfl rfl)
theorem dX12_way_69 : decode cX12_way 69 = .ok (.iconst 0, 1) := dk_3 (dk_at dksX12_way_2 21 rfl rfl)
theorem dX12_way_70 : decode cX12_way 70 = .ok (.ireturn, 1) := dk_172 (dk_at dksX12_way_2 22 rfl rfl)
abbrev cX12_init : ByteArray := prog_7_method_1_code
def yX12_init : MethodName := ⟨RX12, "<init>", "()V"⟩
def dkwX12_init_0 : List UInt8 := [42, 183, 0, 3, 42, 16, 7, 188, 10, 181, 0, 9, 177]
abbrev dktX12_init_0 : List UInt8 := dkwX12_init_0 ++ []
theorem dksX12_init_0 : cX12_init.data.toList.drop 0 = dktX12_init_0 := by decide +kernel
theorem dX12_init_0 : decode cX12_init 0 = .ok (.aload_n 0, 1) := dk_42 (dk_at dksX12_init_0 0 rfl rfl)
theorem dX12_init_1 : decode cX12_init 1 = .ok (.invokespecial 3, 3) := dk_183 0 3 (dk_at dksX12_init_0 1 rfl rfl)
theorem dX12_init_4 : decode cX12_init 4 = .ok (.aload_n 0, 1) := dk_42 (dk_at dksX12_init_0 4 rfl rfl)
theorem dX12_init_5 : decode cX12_init 5 = .ok (.bipush 7, 2) := dk_16 7 (dk_at dksX12_init_0 5 rfl rfl)
theorem dX12_init_7 : decode cX12_init 7 = .ok (.newarray .int, 2) := dk_188_10 (dk_at dksX12_init_0 7 rfl rfl)
theorem dX12_init_9 : decode cX12_init 9 = .ok (.putfield 9, 3) := dk_181 0 9 (dk_at dksX12_init_0 9 rfl rfl)
theorem dX12_init_12 : decode cX12_init 12 = .ok (.return_, 1) := dk_177 (dk_at dksX12_init_0 12 rfl rfl)
theorem q74 : (Jvm.Cond.initialized "SevenRings$Knower") ∈ lw_all := lw_g (lw_at lw_m1 24 rfl) rfl
theorem q254 : (Jvm.Cond.fieldLinkNest "SevenRings$Knower" (15 : Nat) "SevenRings" "told" "LSevenRings$Told;" "SevenRings") ∈ lw_tbl := lw_at lw_m1 204 rfl
theorem q265 : (Jvm.Cond.fieldLinkNest "SevenRings$Knower" (25 : Nat) "SevenRings" "cells" "[I" "SevenRings") ∈ lw_tbl := lw_at lw_m1 215 rfl
theorem q466 : (Jvm.Cond.selects "SevenRings$Knower" ({ cls := "SevenRings$Hearer", name := "way", desc := "(LSevenRings;I)Z" } : Jvm.MethodName) ({ cls := "SevenRings$Knower", name := "way", desc := "(LSevenRings;I)Z" } : Jvm.MethodName)) ∈ lw_all := lw_g (lw_at lw_m2 176 rfl) rfl
theorem q467 : (Jvm.Cond.instanceMethod ({ cls := "SevenRings$Knower", name := "way", desc := "(LSevenRings;I)Z" } : Jvm.MethodName)) ∈ lw_all := lw_g (lw_at lw_m2 177 rfl) rfl
theorem q468 : (Jvm.Cond.code ({ cls := "SevenRings$Knower", name := "way", desc := "(LSevenRings;I)Z" } : Jvm.MethodName) prog_7_method_2_code (5 : Nat) (Option.some Jvm.ClassFile.FieldType.boolean)) ∈ lw_all := lw_g (lw_at lw_m2 178 rfl) rfl
theorem q469 : (Jvm.Cond.methodLink "SevenRings$Knower" (19 : Nat) ({ cls := "SevenRings$Told", name := "hours", desc := "()I" } : Jvm.MethodName)) ∈ lw_all := lw_g (lw_at lw_m2 179 rfl) rfl
theorem q630 : (Jvm.Cond.selects "SevenRings$Knower" ({ cls := "java/lang/Object", name := "getClass", desc := "()Ljava/lang/Class;" } : Jvm.MethodName) ({ cls := "java/lang/Object", name := "getClass", desc := "()Ljava/lang/Class;" } : Jvm.MethodName)) ∈ lw_all := lw_g (lw_at lw_m3 100 rfl) rfl
theorem q828 : (Jvm.Cond.instantiable "SevenRings$Knower" (2 : Nat)) ∈ lw_all := lw_g (lw_at lw_m4 58 rfl) rfl
theorem q830 : (Jvm.Cond.instanceMethod ({ cls := "SevenRings$Knower", name := "<init>", desc := "()V" } : Jvm.MethodName)) ∈ lw_all := lw_g (lw_at lw_m4 60 rfl) rfl
theorem q831 : (Jvm.Cond.code ({ cls := "SevenRings$Knower", name := "<init>", desc := "()V" } : Jvm.MethodName) prog_7_method_1_code (1 : Nat) (Option.none : Option Jvm.ClassFile.FieldType)) ∈ lw_all := lw_g (lw_at lw_m4 61 rfl) rfl
theorem q832 : (Jvm.Cond.methodLinkNest "SevenRings$Knower" (3 : Nat) ({ cls := "SevenRings$Hearer", name := "<init>", desc := "()V" } : Jvm.MethodName) "SevenRings") ∈ lw_tbl := lw_at lw_m4 62 rfl
theorem q833 : (Jvm.Cond.fieldLink "SevenRings$Knower" (9 : Nat) "SevenRings$Knower" "cells" "[I") ∈ lw_all := lw_g (lw_at lw_m4 63 rfl) rfl
theorem q835 : (Jvm.Cond.fieldLink "SevenRings$Knower" (26 : Nat) "SevenRings$Knower" "knows" "Z") ∈ lw_all := lw_g (lw_at lw_m4 65 rfl) rfl
theorem q837 : (Jvm.Cond.laysFinal "SevenRings$Knower" "SevenRings$Knower" "cells" "[I") ∈ lw_all := lw_g (lw_at lw_m4 67 rfl) rfl
theorem q838 : (Jvm.Cond.soleField "SevenRings$Knower" "cells") ∈ lw_all := lw_g (lw_at lw_m4 68 rfl) rfl
theorem q839 : (Jvm.Cond.lays "SevenRings$Knower" "SevenRings$Knower" "knows" "Z") ∈ lw_all := lw_g (lw_at lw_m4 69 rfl) rfl
theorem q840 : (Jvm.Cond.soleField "SevenRings$Knower" "knows") ∈ lw_all := lw_g (lw_at lw_m4 70 rfl) rfl
theorem q841 : (Jvm.Cond.superclass "SevenRings$Knower" "SevenRings$Hearer") ∈ lw_all := lw_g (lw_at lw_m4 71 rfl) rfl
theorem q1425 : (Jvm.Cond.castable "SevenRings$Knower" "java/lang/Object") ∈ lw_tbl := lw_at lw_m6 175 rfl
theorem in_X12 : ∀ w ∈ wsX120, w ∈ lw_all := lw_in wsX120 [837, 839] (by decide +kernel) (by decide +kernel)

/-! SevenRings$Fault -/
set_option maxRecDepth 100000
def RX2 : String := "SevenRings$Fault"
def TX2 : u_T := fun k => match k with
  | 0 => ("java/lang/Throwable", "cause", "Ljava/lang/Throwable;", false)
  | 1 => ("java/lang/Throwable", "stackTrace", "[Ljava/lang/StackTraceElement;", false)
  | 2 => ("java/lang/Throwable", "suppressedExceptions", "Ljava/util/List;", false)
  | 3 => ("java/lang/Throwable", "detailMessage", "Ljava/lang/String;", false)
  | 4 => ("java/lang/Throwable", "backtrace", "Ljava/lang/Object;", false)
  | 5 => ("java/lang/Throwable", "depth", "I", false)
  | _ => ("SevenRings$Fault", "place", "I", false)
def tyX2 : Nat → FieldType := fun k => match k with
  | 0 => .object "java/lang/Throwable"
  | 1 => .array (.object "java/lang/StackTraceElement")
  | 2 => .object "java/util/List"
  | 3 => .object "java/lang/String"
  | 4 => .object "java/lang/Object"
  | 5 => .int
  | _ => .int
abbrev wsX20 : List Cond := u_ws RX2 TX2 7
theorem nmX2 : ∀ a, a < 7 → ∀ b, b < 7 → a ≠ b → (TX2 a).2.1 ≠ (TX2 b).2.1 := by decide +kernel
theorem tyX2_ok : ∀ k, k < 7 → parseFieldDescriptor (TX2 k).2.2.1 = some (tyX2 k) := by decide +kernel
abbrev cX2_init : ByteArray := prog_5_method_1_code
def yX2_init : MethodName := ⟨RX2, "<init>", "()V"⟩
def dkwX2_init_0 : List UInt8 := [42, 1, 1, 3, 3, 183, 0, 1, 177]
abbrev dktX2_init_0 : List UInt8 := dkwX2_init_0 ++ []
theorem dksX2_init_0 : cX2_init.data.toList.drop 0 = dktX2_init_0 := by decide +kernel
theorem dX2_init_0 : decode cX2_init 0 = .ok (.aload_n 0, 1) := dk_42 (dk_at dksX2_init_0 0 rfl rfl)
theorem dX2_init_1 : decode cX2_init 1 = .ok (.aconst_null, 1) := dk_1 (dk_at dksX2_init_0 1 rfl rfl)
theorem dX2_init_2 : decode cX2_init 2 = .ok (.aconst_null, 1) := dk_1 (dk_at dksX2_init_0 2 rfl rfl)
theorem dX2_init_3 : decode cX2_init 3 = .ok (.iconst 0, 1) := dk_3 (dk_at dksX2_init_0 3 rfl rfl)
theorem dX2_init_4 : decode cX2_init 4 = .ok (.iconst 0, 1) := dk_3 (dk_at dksX2_init_0 4 rfl rfl)
theorem dX2_init_5 : decode cX2_init 5 = .ok (.invokespecial 1, 3) := dk_183 0 1 (dk_at dksX2_init_0 5 rfl rfl)
theorem dX2_init_8 : decode cX2_init 8 = .ok (.return_, 1) := dk_177 (dk_at dksX2_init_0 8 rfl rfl)
theorem q58 : (Jvm.Cond.initialized "SevenRings$Fault") ∈ lw_all := lw_g (lw_at lw_m1 8 rfl) rfl
theorem q161 : (Jvm.Cond.instantiable "SevenRings$Fault" (7 : Nat)) ∈ lw_all := lw_g (lw_at lw_m1 111 rfl) rfl
theorem q162 : (Jvm.Cond.castable "SevenRings$Fault" "SevenRings$Fault") ∈ lw_tbl := lw_at lw_m1 112 rfl
theorem q167 : (Jvm.Cond.selects "SevenRings$Fault" ({ cls := "java/lang/Throwable", name := "fillInStackTrace", desc := "(I)Ljava/lang/Throwable;" } : Jvm.MethodName) ({ cls := "java/lang/Throwable", name := "fillInStackTrace", desc := "(I)Ljava/lang/Throwable;" } : Jvm.MethodName)) ∈ lw_all := lw_g (lw_at lw_m1 117 rfl) rfl
theorem q168 : (Jvm.Cond.selects "SevenRings$Fault" ({ cls := "java/lang/Throwable", name := "fillInStackTrace", desc := "()Ljava/lang/Throwable;" } : Jvm.MethodName) ({ cls := "java/lang/Throwable", name := "fillInStackTrace", desc := "()Ljava/lang/Throwable;" } : Jvm.MethodName)) ∈ lw_all := lw_g (lw_at lw_m1 118 rfl) rfl
theorem q169 : (Jvm.Cond.lays "SevenRings$Fault" "java/lang/Throwable" "cause" "Ljava/lang/Throwable;") ∈ lw_all := lw_g (lw_at lw_m1 119 rfl) rfl
theorem q171 : (Jvm.Cond.lays "SevenRings$Fault" "java/lang/Throwable" "stackTrace" "[Ljava/lang/StackTraceElement;") ∈ lw_all := lw_g (lw_at lw_m1 121 rfl) rfl
theorem q173 : (Jvm.Cond.lays "SevenRings$Fault" "java/lang/Throwable" "suppressedExceptions" "Ljava/util/List;") ∈ lw_all := lw_g (lw_at lw_m1 123 rfl) rfl
theorem q175 : (Jvm.Cond.lays "SevenRings$Fault" "java/lang/Throwable" "detailMessage" "Ljava/lang/String;") ∈ lw_all := lw_g (lw_at lw_m1 125 rfl) rfl
theorem q177 : (Jvm.Cond.lays "SevenRings$Fault" "java/lang/Throwable" "backtrace" "Ljava/lang/Object;") ∈ lw_all := lw_g (lw_at lw_m1 127 rfl) rfl
theorem q216 : (Jvm.Cond.instanceMethod ({ cls := "SevenRings$Fault", name := "<init>", desc := "()V" } : Jvm.MethodName)) ∈ lw_all := lw_g (lw_at lw_m1 166 rfl) rfl
theorem q217 : (Jvm.Cond.code ({ cls := "SevenRings$Fault", name := "<init>", desc := "()V" } : Jvm.MethodName) prog_5_method_1_code (1 : Nat) (Option.none : Option Jvm.ClassFile.FieldType)) ∈ lw_all := lw_g (lw_at lw_m1 167 rfl) rfl
theorem q218 : (Jvm.Cond.methodLink "SevenRings$Fault" (1 : Nat) ({ cls := "java/lang/Exception", name := "<init>", desc := "(Ljava/lang/String;Ljava/lang/Throwable;ZZ)V" } : Jvm.MethodName)) ∈ lw_all := lw_g (lw_at lw_m1 168 rfl) rfl
theorem q230 : (Jvm.Cond.lays "SevenRings$Fault" "SevenRings$Fault" "place" "I") ∈ lw_all := lw_g (lw_at lw_m1 180 rfl) rfl
theorem q231 : (Jvm.Cond.soleField "SevenRings$Fault" "place") ∈ lw_all := lw_g (lw_at lw_m1 181 rfl) rfl
theorem q236 : (Jvm.Cond.lays "SevenRings$Fault" "java/lang/Throwable" "depth" "I") ∈ lw_all := lw_g (lw_at lw_m1 186 rfl) rfl
theorem q239 : (Jvm.Cond.superclass "SevenRings$Fault" "java/lang/Exception") ∈ lw_all := lw_g (lw_at lw_m1 189 rfl) rfl
theorem q629 : (Jvm.Cond.selects "SevenRings$Fault" ({ cls := "java/lang/Object", name := "getClass", desc := "()Ljava/lang/Class;" } : Jvm.MethodName) ({ cls := "java/lang/Object", name := "getClass", desc := "()Ljava/lang/Class;" } : Jvm.MethodName)) ∈ lw_all := lw_g (lw_at lw_m3 99 rfl) rfl
theorem q1417 : (Jvm.Cond.castable "SevenRings$Fault" "java/lang/Object") ∈ lw_tbl := lw_at lw_m6 167 rfl
theorem in_X2 : ∀ w ∈ wsX20, w ∈ lw_all := lw_in wsX20 [169, 171, 173, 175, 177, 236, 230] (by decide +kernel) (by decide +kernel)

/-! SevenRings$Sheet -/
set_option maxRecDepth 100000
def RX3 : String := "SevenRings$Sheet"
def TX3 : u_T := fun k => match k with
  | _ => ("SevenRings$Sheet", "row", "Ljava/lang/Object;", false)
def tyX3 : Nat → FieldType := fun k => match k with
  | _ => .object "java/lang/Object"
abbrev wsX30 : List Cond := u_ws RX3 TX3 1
theorem nmX3 : ∀ a, a < 1 → ∀ b, b < 1 → a ≠ b → (TX3 a).2.1 ≠ (TX3 b).2.1 := by decide +kernel
theorem tyX3_ok : ∀ k, k < 1 → parseFieldDescriptor (TX3 k).2.2.1 = some (tyX3 k) := by decide +kernel
abbrev cX3_init : ByteArray := prog_11_method_1_code
def yX3_init : MethodName := ⟨RX3, "<init>", "()V"⟩
theorem dX3_init_0 : decode cX3_init 0 = .ok (.aload_n 0, 1) := by decide +kernel
theorem dX3_init_1 : decode cX3_init 1 = .ok (.invokespecial 1, 3) := by decide +kernel
theorem dX3_init_4 : decode cX3_init 4 = .ok (.return_, 1) := by decide +kernel
abbrev cX3_lane : ByteArray := prog_11_method_2_code
def yX3_lane : MethodName := ⟨RX3, "lane", "()I"⟩
def dkwX3_lane_1 : List UInt8 := [4, 167, 0, 4, 5, 172]
abbrev dktX3_lane_1 : List UInt8 := dkwX3_lane_1 ++ []
def dkwX3_lane_0 : List UInt8 := [42, 180, 0, 7, 193, 0, 13, 153, 0, 7, 3, 167, 0, 18, 42, 180, 0, 7, 193, 0, 15, 153, 0, 7]
abbrev dktX3_lane_0 : List UInt8 := dkwX3_lane_0 ++ dktX3_lane_1
theorem dksX3_lane_0 : cX3_lane.data.toList.drop 0 = dktX3_lane_0 := by decide +kernel
theorem dksX3_lane_1 : cX3_lane.data.toList.drop 24 = dktX3_lane_1 := dk_seg dksX3_lane_0 24 rfl rfl
theorem dX3_lane_0 : decode cX3_lane 0 = .ok (.aload_n 0, 1) := dk_42 (dk_at dksX3_lane_0 0 rfl rfl)
theorem dX3_lane_1 : decode cX3_lane 1 = .ok (.getfield 7, 3) := dk_180 0 7 (dk_at dksX3_lane_0 1 rfl rfl)
theorem dX3_lane_4 : decode cX3_lane 4 = .ok (.instanceof 13, 3) := dk_193 0 13 (dk_at dksX3_lane_0 4 rfl rfl)
theorem dX3_lane_7 : decode cX3_lane 7 = .ok (.ifCond .eq 7, 3) := dk_153 0 7 (dk_at dksX3_lane_0 7 rfl rfl)
theorem dX3_lane_10 : decode cX3_lane 10 = .ok (.iconst 0, 1) := dk_3 (dk_at dksX3_lane_0 10 rfl rfl)
theorem dX3_lane_11 : decode cX3_lane 11 = .ok (.goto 18, 3) := dk_167 0 18 (dk_at dksX3_lane_0 11 rfl rfl)
theorem dX3_lane_14 : decode cX3_lane 14 = .ok (.aload_n 0, 1) := dk_42 (dk_at dksX3_lane_0 14 rfl rfl)
theorem dX3_lane_15 : decode cX3_lane 15 = .ok (.getfield 7, 3) := dk_180 0 7 (dk_at dksX3_lane_0 15 rfl rfl)
theorem dX3_lane_18 : decode cX3_lane 18 = .ok (.instanceof 15, 3) := dk_193 0 15 (dk_at dksX3_lane_0 18 rfl rfl)
theorem dX3_lane_21 : decode cX3_lane 21 = .ok (.ifCond .eq 7, 3) := dk_153 0 7 (dk_at dksX3_lane_0 21 rfl rfl)
theorem dX3_lane_24 : decode cX3_lane 24 = .ok (.iconst 1, 1) := dk_4 (dk_at dksX3_lane_1 0 rfl rfl)
theorem dX3_lane_25 : decode cX3_lane 25 = .ok (.goto 4, 3) := dk_167 0 4 (dk_at dksX3_lane_1 1 rfl rfl)
theorem dX3_lane_28 : decode cX3_lane 28 = .ok (.iconst 2, 1) := dk_5 (dk_at dksX3_lane_1 4 rfl rfl)
theorem dX3_lane_29 : decode cX3_lane 29 = .ok (.ireturn, 1) := dk_172 (dk_at dksX3_lane_1 5 rfl rfl)
abbrev cX3_size : ByteArray := prog_11_method_3_code
def yX3_size : MethodName := ⟨RX3, "size", "()I"⟩
def dkwX3_size_2 : List UInt8 := [192, 0, 17, 190, 172]
abbrev dktX3_size_2 : List UInt8 := dkwX3_size_2 ++ []
def dkwX3_size_1 : List UInt8 := [77, 44, 193, 0, 15, 153, 0, 13, 44, 192, 0, 15, 76, 43, 190, 167, 0, 11, 42, 180, 0, 7]
abbrev dktX3_size_1 : List UInt8 := dkwX3_size_1 ++ dktX3_size_2
def dkwX3_size_0 : List UInt8 := [42, 180, 0, 7, 77, 44, 193, 0, 13, 153, 0, 11, 44, 192, 0, 13, 76, 43, 190, 172, 42, 180, 0, 7]
abbrev dktX3_size_0 : List UInt8 := dkwX3_size_0 ++ dktX3_size_1
theorem dksX3_size_0 : cX3_size.data.toList.drop 0 = dktX3_size_0 := by decide +kernel
theorem dksX3_size_1 : cX3_size.data.toList.drop 24 = dktX3_size_1 := dk_seg dksX3_size_0 24 rfl rfl
theorem dksX3_size_2 : cX3_size.data.toList.drop 46 = dktX3_size_2 := dk_seg dksX3_size_1 22 rfl rfl
theorem dX3_size_0 : decode cX3_size 0 = .ok (.aload_n 0, 1) := dk_42 (dk_at dksX3_size_0 0 rfl rfl)
theorem dX3_size_1 : decode cX3_size 1 = .ok (.getfield 7, 3) := dk_180 0 7 (dk_at dksX3_size_0 1 rfl rfl)
theorem dX3_size_4 : decode cX3_size 4 = .ok (.astore_n 2, 1) := dk_77 (dk_at dksX3_size_0 4 rfl rfl)
theorem dX3_size_5 : decode cX3_size 5 = .ok (.aload_n 2, 1) := dk_44 (dk_at dksX3_size_0 5 rfl rfl)
theorem dX3_size_6 : decode cX3_size 6 = .ok (.instanceof 13, 3) := dk_193 0 13 (dk_at dksX3_size_0 6 rfl rfl)
theorem dX3_size_9 : decode cX3_size 9 = .ok (.ifCond .eq 11, 3) := dk_153 0 11 (dk_at dksX3_size_0 9 rfl rfl)
theorem dX3_size_12 : decode cX3_size 12 = .ok (.aload_n 2, 1) := dk_44 (dk_at dksX3_size_0 12 rfl rfl)
theorem dX3_size_13 : decode cX3_size 13 = .ok (.checkcast 13, 3) := dk_192 0 13 (dk_at dksX3_size_0 13 rfl rfl)
theorem dX3_size_16 : decode cX3_size 16 = .ok (.astore_n 1, 1) := dk_76 (dk_at dksX3_size_0 16 rfl rfl)
theorem dX3_size_17 : decode cX3_size 17 = .ok (.aload_n 1, 1) := dk_43 (dk_at dksX3_size_0 17 rfl rfl)
theorem dX3_size_18 : decode cX3_size 18 = .ok (.arraylength, 1) := dk_190 (dk_at dksX3_size_0 18 rfl rfl)
theorem dX3_size_19 : decode cX3_size 19 = .ok (.ireturn, 1) := dk_172 (dk_at dksX3_size_0 19 rfl rfl)
theorem dX3_size_20 : decode cX3_size 20 = .ok (.aload_n 0, 1) := dk_42 (dk_at dksX3_size_0 20 rfl rfl)
theorem dX3_size_21 : decode cX3_size 21 = .ok (.getfield 7, 3) := dk_180 0 7 (dk_at dksX3_size_0 21 rfl rfl)
theorem dX3_size_24 : decode cX3_size 24 = .ok (.astore_n 2, 1) := dk_77 (dk_at dksX3_size_1 0 rfl rfl)
theorem dX3_size_25 : decode cX3_size 25 = .ok (.aload_n 2, 1) := dk_44 (dk_at dksX3_size_1 1 rfl rfl)
theorem dX3_size_26 : decode cX3_size 26 = .ok (.instanceof 15, 3) := dk_193 0 15 (dk_at dksX3_size_1 2 rfl rfl)
theorem dX3_size_29 : decode cX3_size 29 = .ok (.ifCond .eq 13, 3) := dk_153 0 13 (dk_at dksX3_size_1 5 rfl rfl)
theorem dX3_size_32 : decode cX3_size 32 = .ok (.aload_n 2, 1) := dk_44 (dk_at dksX3_size_1 8 rfl rfl)
theorem dX3_size_33 : decode cX3_size 33 = .ok (.checkcast 15, 3) := dk_192 0 15 (dk_at dksX3_size_1 9 rfl rfl)
theorem dX3_size_36 : decode cX3_size 36 = .ok (.astore_n 1, 1) := dk_76 (dk_at dksX3_size_1 12 rfl rfl)
theorem dX3_size_37 : decode cX3_size 37 = .ok (.aload_n 1, 1) := dk_43 (dk_at dksX3_size_1 13 rfl rfl)
theorem dX3_size_38 : decode cX3_size 38 = .ok (.arraylength, 1) := dk_190 (dk_at dksX3_size_1 14 rfl rfl)
theorem dX3_size_39 : decode cX3_size 39 = .ok (.goto 11, 3) := dk_167 0 11 (dk_at dksX3_size_1 15 rfl rfl)
theorem dX3_size_42 : decode cX3_size 42 = .ok (.aload_n 0, 1) := dk_42 (dk_at dksX3_size_1 18 rfl rfl)
theorem dX3_size_43 : decode cX3_size 43 = .ok (.getfield 7, 3) := dk_180 0 7 (dk_at dksX3_size_1 19 rfl rfl)
theorem dX3_size_46 : decode cX3_size 46 = .ok (.checkcast 17, 3) := dk_192 0 17 (dk_at dksX3_size_2 0 rfl rfl)
theorem dX3_size_49 : decode cX3_size 49 = .ok (.arraylength, 1) := dk_190 (dk_at dksX3_size_2 3 rfl rfl)
theorem dX3_size_50 : decode cX3_size 50 = .ok (.ireturn, 1) := dk_172 (dk_at dksX3_size_2 4 rfl rfl)
abbrev cX3_get : ByteArray := prog_11_method_4_code
def yX3_get : MethodName := ⟨RX3, "get", "(I)I"⟩
def dkwX3_get_2 : List UInt8 := [180, 0, 7, 192, 0, 17, 27, 46, 172]
abbrev dktX3_get_2 : List UInt8 := dkwX3_get_2 ++ []
def dkwX3_get_1 : List UInt8 := [180, 0, 7, 78, 45, 193, 0, 15, 153, 0, 14, 45, 192, 0, 15, 77, 44, 27, 53, 167, 0, 12, 42]
abbrev dktX3_get_1 : List UInt8 := dkwX3_get_1 ++ dktX3_get_2
def dkwX3_get_0 : List UInt8 := [42, 180, 0, 7, 78, 45, 193, 0, 13, 153, 0, 12, 45, 192, 0, 13, 77, 44, 27, 51, 172, 42]
abbrev dktX3_get_0 : List UInt8 := dkwX3_get_0 ++ dktX3_get_1
theorem dksX3_get_0 : cX3_get.data.toList.drop 0 = dktX3_get_0 := by decide +kernel
theorem dksX3_get_1 : cX3_get.data.toList.drop 22 = dktX3_get_1 := dk_seg dksX3_get_0 22 rfl rfl
theorem dksX3_get_2 : cX3_get.data.toList.drop 45 = dktX3_get_2 := dk_seg dksX3_get_1 23 rfl rfl
theorem dX3_get_0 : decode cX3_get 0 = .ok (.aload_n 0, 1) := dk_42 (dk_at dksX3_get_0 0 rfl rfl)
theorem dX3_get_1 : decode cX3_get 1 = .ok (.getfield 7, 3) := dk_180 0 7 (dk_at dksX3_get_0 1 rfl rfl)
theorem dX3_get_4 : decode cX3_get 4 = .ok (.astore_n 3, 1) := dk_78 (dk_at dksX3_get_0 4 rfl rfl)
theorem dX3_get_5 : decode cX3_get 5 = .ok (.aload_n 3, 1) := dk_45 (dk_at dksX3_get_0 5 rfl rfl)
theorem dX3_get_6 : decode cX3_get 6 = .ok (.instanceof 13, 3) := dk_193 0 13 (dk_at dksX3_get_0 6 rfl rfl)
theorem dX3_get_9 : decode cX3_get 9 = .ok (.ifCond .eq 12, 3) := dk_153 0 12 (dk_at dksX3_get_0 9 rfl rfl)
theorem dX3_get_12 : decode cX3_get 12 = .ok (.aload_n 3, 1) := dk_45 (dk_at dksX3_get_0 12 rfl rfl)
theorem dX3_get_13 : decode cX3_get 13 = .ok (.checkcast 13, 3) := dk_192 0 13 (dk_at dksX3_get_0 13 rfl rfl)
theorem dX3_get_16 : decode cX3_get 16 = .ok (.astore_n 2, 1) := dk_77 (dk_at dksX3_get_0 16 rfl rfl)
theorem dX3_get_17 : decode cX3_get 17 = .ok (.aload_n 2, 1) := dk_44 (dk_at dksX3_get_0 17 rfl rfl)
theorem dX3_get_18 : decode cX3_get 18 = .ok (.iload_n 1, 1) := dk_27 (dk_at dksX3_get_0 18 rfl rfl)
theorem dX3_get_19 : decode cX3_get 19 = .ok (.baload, 1) := dk_51 (dk_at dksX3_get_0 19 rfl rfl)
theorem dX3_get_20 : decode cX3_get 20 = .ok (.ireturn, 1) := dk_172 (dk_at dksX3_get_0 20 rfl rfl)
theorem dX3_get_21 : decode cX3_get 21 = .ok (.aload_n 0, 1) := dk_42 (dk_at dksX3_get_0 21 rfl rfl)
theorem dX3_get_22 : decode cX3_get 22 = .ok (.getfield 7, 3) := dk_180 0 7 (dk_at dksX3_get_1 0 rfl rfl)
theorem dX3_get_25 : decode cX3_get 25 = .ok (.astore_n 3, 1) := dk_78 (dk_at dksX3_get_1 3 rfl rfl)
theorem dX3_get_26 : decode cX3_get 26 = .ok (.aload_n 3, 1) := dk_45 (dk_at dksX3_get_1 4 rfl rfl)
theorem dX3_get_27 : decode cX3_get 27 = .ok (.instanceof 15, 3) := dk_193 0 15 (dk_at dksX3_get_1 5 rfl rfl)
theorem dX3_get_30 : decode cX3_get 30 = .ok (.ifCond .eq 14, 3) := dk_153 0 14 (dk_at dksX3_get_1 8 rfl rfl)
theorem dX3_get_33 : decode cX3_get 33 = .ok (.aload_n 3, 1) := dk_45 (dk_at dksX3_get_1 11 rfl rfl)
theorem dX3_get_34 : decode cX3_get 34 = .ok (.checkcast 15, 3) := dk_192 0 15 (dk_at dksX3_get_1 12 rfl rfl)
theorem dX3_get_37 : decode cX3_get 37 = .ok (.astore_n 2, 1) := dk_77 (dk_at dksX3_get_1 15 rfl rfl)
theorem dX3_get_38 : decode cX3_get 38 = .ok (.aload_n 2, 1) := dk_44 (dk_at dksX3_get_1 16 rfl rfl)
theorem dX3_get_39 : decode cX3_get 39 = .ok (.iload_n 1, 1) := dk_27 (dk_at dksX3_get_1 17 rfl rfl)
theorem dX3_get_40 : decode cX3_get 40 = .ok (.saload, 1) := dk_53 (dk_at dksX3_get_1 18 rfl rfl)
theorem dX3_get_41 : decode cX3_get 41 = .ok (.goto 12, 3) := dk_167 0 12 (dk_at dksX3_get_1 19 rfl rfl)
theorem dX3_get_44 : decode cX3_get 44 = .ok (.aload_n 0, 1) := dk_42 (dk_at dksX3_get_1 22 rfl rfl)
theorem dX3_get_45 : decode cX3_get 45 = .ok (.getfield 7, 3) := dk_180 0 7 (dk_at dksX3_get_2 0 rfl rfl)
theorem dX3_get_48 : decode cX3_get 48 = .ok (.checkcast 17, 3) := dk_192 0 17 (dk_at dksX3_get_2 3 rfl rfl)
theorem dX3_get_51 : decode cX3_get 51 = .ok (.iload_n 1, 1) := dk_27 (dk_at dksX3_get_2 6 rfl rfl)
theorem dX3_get_52 : decode cX3_get 52 = .ok (.iaload, 1) := dk_46 (dk_at dksX3_get_2 7 rfl rfl)
theorem dX3_get_53 : decode cX3_get 53 = .ok (.ireturn, 1) := dk_172 (dk_at dksX3_get_2 8 rfl rfl)
abbrev cX3_set : ByteArray := prog_11_method_5_code
def yX3_set : MethodName := ⟨RX3, "set", "(II)V"⟩
def dkwX3_set_2 : List UInt8 := [58, 4, 25, 4, 27, 28, 147, 86, 167, 0, 13, 42, 180, 0, 7, 192, 0, 17, 27, 28, 79, 177]
abbrev dktX3_set_2 : List UInt8 := dkwX3_set_2 ++ []
def dkwX3_set_1 : List UInt8 := [84, 167, 0, 43, 42, 180, 0, 7, 58, 5, 25, 5, 193, 0, 15, 153, 0, 19, 25, 5, 192, 0, 15]
abbrev dktX3_set_1 : List UInt8 := dkwX3_set_1 ++ dktX3_set_2
def dkwX3_set_0 : List UInt8 := [42, 180, 0, 7, 58, 5, 25, 5, 193, 0, 13, 153, 0, 17, 25, 5, 192, 0, 13, 78, 45, 27, 28, 145]
abbrev dktX3_set_0 : List UInt8 := dkwX3_set_0 ++ dktX3_set_1
theorem dksX3_set_0 : cX3_set.data.toList.drop 0 = dktX3_set_0 := by decide +kernel
theorem dksX3_set_1 : cX3_set.data.toList.drop 24 = dktX3_set_1 := dk_seg dksX3_set_0 24 rfl rfl
theorem dksX3_set_2 : cX3_set.data.toList.drop 47 = dktX3_set_2 := dk_seg dksX3_set_1 23 rfl rfl
theorem dX3_set_0 : decode cX3_set 0 = .ok (.aload_n 0, 1) := dk_42 (dk_at dksX3_set_0 0 rfl rfl)
theorem dX3_set_1 : decode cX3_set 1 = .ok (.getfield 7, 3) := dk_180 0 7 (dk_at dksX3_set_0 1 rfl rfl)
theorem dX3_set_4 : decode cX3_set 4 = .ok (.astore 5, 2) := dk_58 5 (dk_at dksX3_set_0 4 rfl rfl)
theorem dX3_set_6 : decode cX3_set 6 = .ok (.aload 5, 2) := dk_25 5 (dk_at dksX3_set_0 6 rfl rfl)
theorem dX3_set_8 : decode cX3_set 8 = .ok (.instanceof 13, 3) := dk_193 0 13 (dk_at dksX3_set_0 8 rfl rfl)
theorem dX3_set_11 : decode cX3_set 11 = .ok (.ifCond .eq 17, 3) := dk_153 0 17 (dk_at dksX3_set_0 11 rfl rfl)
theorem dX3_set_14 : decode cX3_set 14 = .ok (.aload 5, 2) := dk_25 5 (dk_at dksX3_set_0 14 rfl rfl)
theorem dX3_set_16 : decode cX3_set 16 = .ok (.checkcast 13, 3) := dk_192 0 13 (dk_at dksX3_set_0 16 rfl rfl)
theorem dX3_set_19 : decode cX3_set 19 = .ok (.astore_n 3, 1) := dk_78 (dk_at dksX3_set_0 19 rfl rfl)
theorem dX3_set_20 : decode cX3_set 20 = .ok (.aload_n 3, 1) := dk_45 (dk_at dksX3_set_0 20 rfl rfl)
theorem dX3_set_21 : decode cX3_set 21 = .ok (.iload_n 1, 1) := dk_27 (dk_at dksX3_set_0 21 rfl rfl)
theorem dX3_set_22 : decode cX3_set 22 = .ok (.iload_n 2, 1) := dk_28 (dk_at dksX3_set_0 22 rfl rfl)
theorem dX3_set_23 : decode cX3_set 23 = .ok (.i2b, 1) := dk_145 (dk_at dksX3_set_0 23 rfl rfl)
theorem dX3_set_24 : decode cX3_set 24 = .ok (.bastore, 1) := dk_84 (dk_at dksX3_set_1 0 rfl rfl)
theorem dX3_set_25 : decode cX3_set 25 = .ok (.goto 43, 3) := dk_167 0 43 (dk_at dksX3_set_1 1 rfl rfl)
theorem dX3_set_28 : decode cX3_set 28 = .ok (.aload_n 0, 1) := dk_42 (dk_at dksX3_set_1 4 rfl rfl)
theorem dX3_set_29 : decode cX3_set 29 = .ok (.getfield 7, 3) := dk_180 0 7 (dk_at dksX3_set_1 5 rfl rfl)
theorem dX3_set_32 : decode cX3_set 32 = .ok (.astore 5, 2) := dk_58 5 (dk_at dksX3_set_1 8 rfl rfl)
theorem dX3_set_34 : decode cX3_set 34 = .ok (.aload 5, 2) := dk_25 5 (dk_at dksX3_set_1 10 rfl rfl)
theorem dX3_set_36 : decode cX3_set 36 = .ok (.instanceof 15, 3) := dk_193 0 15 (dk_at dksX3_set_1 12 rfl rfl)
theorem dX3_set_39 : decode cX3_set 39 = .ok (.ifCond .eq 19, 3) := dk_153 0 19 (dk_at dksX3_set_1 15 rfl rfl)
theorem dX3_set_42 : decode cX3_set 42 = .ok (.aload 5, 2) := dk_25 5 (dk_at dksX3_set_1 18 rfl rfl)
theorem dX3_set_44 : decode cX3_set 44 = .ok (.checkcast 15, 3) := dk_192 0 15 (dk_at dksX3_set_1 20 rfl rfl)
theorem dX3_set_47 : decode cX3_set 47 = .ok (.astore 4, 2) := dk_58 4 (dk_at dksX3_set_2 0 rfl rfl)
theorem dX3_set_49 : decode cX3_set 49 = .ok (.aload 4, 2) := dk_25 4 (dk_at dksX3_set_2 2 rfl rfl)
theorem dX3_set_51 : decode cX3_set 51 = .ok (.iload_n 1, 1) := dk_27 (dk_at dksX3_set_2 4 rfl rfl)
theorem dX3_set_52 : decode cX3_set 52 = .ok (.iload_n 2, 1) := dk_28 (dk_at dksX3_set_2 5 rfl rfl)
theorem dX3_set_53 : decode cX3_set 53 = .ok (.i2s, 1) := dk_147 (dk_at dksX3_set_2 6 rfl rfl)
theorem dX3_set_54 : decode cX3_set 54 = .ok (.sastore, 1) := dk_86 (dk_at dksX3_set_2 7 rfl rfl)
theorem dX3_set_55 : decode cX3_set 55 = .ok (.goto 13, 3) := dk_167 0 13 (dk_at dksX3_set_2 8 rfl rfl)
theorem dX3_set_58 : decode cX3_set 58 = .ok (.aload_n 0, 1) := dk_42 (dk_at dksX3_set_2 11 rfl rfl)
theorem dX3_set_59 : decode cX3_set 59 = .ok (.getfield 7, 3) := dk_180 0 7 (dk_at dksX3_set_2 12 rfl rfl)
theorem dX3_set_62 : decode cX3_set 62 = .ok (.checkcast 17, 3) := dk_192 0 17 (dk_at dksX3_set_2 15 rfl rfl)
theorem dX3_set_65 : decode cX3_set 65 = .ok (.iload_n 1, 1) := dk_27 (dk_at dksX3_set_2 18 rfl rfl)
theorem dX3_set_66 : decode cX3_set 66 = .ok (.iload_n 2, 1) := dk_28 (dk_at dksX3_set_2 19 rfl rfl)
theorem dX3_set_67 : decode cX3_set 67 = .ok (.iastore, 1) := dk_79 (dk_at dksX3_set_2 20 rfl rfl)
theorem dX3_set_68 : decode cX3_set 68 = .ok (.return_, 1) := dk_177 (dk_at dksX3_set_2 21 rfl rfl)
theorem q59 : (Jvm.Cond.initialized "SevenRings$Sheet") ∈ lw_all := lw_g (lw_at lw_m1 9 rfl) rfl
theorem q242 : (Jvm.Cond.instantiable "SevenRings$Sheet" (1 : Nat)) ∈ lw_all := lw_g (lw_at lw_m1 192 rfl) rfl
theorem q244 : (Jvm.Cond.instanceMethod ({ cls := "SevenRings$Sheet", name := "<init>", desc := "()V" } : Jvm.MethodName)) ∈ lw_all := lw_g (lw_at lw_m1 194 rfl) rfl
theorem q245 : (Jvm.Cond.code ({ cls := "SevenRings$Sheet", name := "<init>", desc := "()V" } : Jvm.MethodName) prog_11_method_1_code (1 : Nat) (Option.none : Option Jvm.ClassFile.FieldType)) ∈ lw_all := lw_g (lw_at lw_m1 195 rfl) rfl
theorem q246 : (Jvm.Cond.methodLink "SevenRings$Sheet" (1 : Nat) ({ cls := "java/lang/Object", name := "<init>", desc := "()V" } : Jvm.MethodName)) ∈ lw_all := lw_g (lw_at lw_m1 196 rfl) rfl
theorem q247 : (Jvm.Cond.fieldLink "SevenRings$Sheet" (7 : Nat) "SevenRings$Sheet" "row" "Ljava/lang/Object;") ∈ lw_all := lw_g (lw_at lw_m1 197 rfl) rfl
theorem q249 : (Jvm.Cond.lays "SevenRings$Sheet" "SevenRings$Sheet" "row" "Ljava/lang/Object;") ∈ lw_all := lw_g (lw_at lw_m1 199 rfl) rfl
theorem q250 : (Jvm.Cond.soleField "SevenRings$Sheet" "row") ∈ lw_all := lw_g (lw_at lw_m1 200 rfl) rfl
theorem q251 : (Jvm.Cond.superclass "SevenRings$Sheet" "java/lang/Object") ∈ lw_all := lw_g (lw_at lw_m1 201 rfl) rfl
theorem q634 : (Jvm.Cond.selects "SevenRings$Sheet" ({ cls := "java/lang/Object", name := "getClass", desc := "()Ljava/lang/Class;" } : Jvm.MethodName) ({ cls := "java/lang/Object", name := "getClass", desc := "()Ljava/lang/Class;" } : Jvm.MethodName)) ∈ lw_all := lw_g (lw_at lw_m3 104 rfl) rfl
theorem q813 : (Jvm.Cond.instanceMethod ({ cls := "SevenRings$Sheet", name := "lane", desc := "()I" } : Jvm.MethodName)) ∈ lw_all := lw_g (lw_at lw_m4 43 rfl) rfl
theorem q814 : (Jvm.Cond.selects "SevenRings$Sheet" ({ cls := "SevenRings$Sheet", name := "lane", desc := "()I" } : Jvm.MethodName) ({ cls := "SevenRings$Sheet", name := "lane", desc := "()I" } : Jvm.MethodName)) ∈ lw_all := lw_g (lw_at lw_m4 44 rfl) rfl
theorem q815 : (Jvm.Cond.code ({ cls := "SevenRings$Sheet", name := "lane", desc := "()I" } : Jvm.MethodName) prog_11_method_2_code (1 : Nat) (Option.some Jvm.ClassFile.FieldType.int)) ∈ lw_all := lw_g (lw_at lw_m4 45 rfl) rfl
theorem q816 : (Jvm.Cond.classLink "SevenRings$Sheet" (13 : Nat) "[B") ∈ lw_all := lw_g (lw_at lw_m4 46 rfl) rfl
theorem q817 : (Jvm.Cond.classLink "SevenRings$Sheet" (15 : Nat) "[S") ∈ lw_all := lw_g (lw_at lw_m4 47 rfl) rfl
theorem q819 : (Jvm.Cond.instanceMethod ({ cls := "SevenRings$Sheet", name := "size", desc := "()I" } : Jvm.MethodName)) ∈ lw_all := lw_g (lw_at lw_m4 49 rfl) rfl
theorem q820 : (Jvm.Cond.selects "SevenRings$Sheet" ({ cls := "SevenRings$Sheet", name := "size", desc := "()I" } : Jvm.MethodName) ({ cls := "SevenRings$Sheet", name := "size", desc := "()I" } : Jvm.MethodName)) ∈ lw_all := lw_g (lw_at lw_m4 50 rfl) rfl
theorem q821 : (Jvm.Cond.code ({ cls := "SevenRings$Sheet", name := "size", desc := "()I" } : Jvm.MethodName) prog_11_method_3_code (3 : Nat) (Option.some Jvm.ClassFile.FieldType.int)) ∈ lw_all := lw_g (lw_at lw_m4 51 rfl) rfl
theorem q822 : (Jvm.Cond.classLink "SevenRings$Sheet" (17 : Nat) "[I") ∈ lw_all := lw_g (lw_at lw_m4 52 rfl) rfl
theorem q843 : (Jvm.Cond.instanceMethod ({ cls := "SevenRings$Sheet", name := "get", desc := "(I)I" } : Jvm.MethodName)) ∈ lw_all := lw_g (lw_at lw_m4 73 rfl) rfl
theorem q844 : (Jvm.Cond.selects "SevenRings$Sheet" ({ cls := "SevenRings$Sheet", name := "get", desc := "(I)I" } : Jvm.MethodName) ({ cls := "SevenRings$Sheet", name := "get", desc := "(I)I" } : Jvm.MethodName)) ∈ lw_all := lw_g (lw_at lw_m4 74 rfl) rfl
theorem q845 : (Jvm.Cond.code ({ cls := "SevenRings$Sheet", name := "get", desc := "(I)I" } : Jvm.MethodName) prog_11_method_4_code (4 : Nat) (Option.some Jvm.ClassFile.FieldType.int)) ∈ lw_all := lw_g (lw_at lw_m4 75 rfl) rfl
theorem q855 : (Jvm.Cond.instanceMethod ({ cls := "SevenRings$Sheet", name := "set", desc := "(II)V" } : Jvm.MethodName)) ∈ lw_all := lw_g (lw_at lw_m4 85 rfl) rfl
theorem q856 : (Jvm.Cond.selects "SevenRings$Sheet" ({ cls := "SevenRings$Sheet", name := "set", desc := "(II)V" } : Jvm.MethodName) ({ cls := "SevenRings$Sheet", name := "set", desc := "(II)V" } : Jvm.MethodName)) ∈ lw_all := lw_g (lw_at lw_m4 86 rfl) rfl
theorem q857 : (Jvm.Cond.code ({ cls := "SevenRings$Sheet", name := "set", desc := "(II)V" } : Jvm.MethodName) prog_11_method_5_code (6 : Nat) (Option.none : Option Jvm.ClassFile.FieldType)) ∈ lw_all := lw_g (lw_at lw_m4 87 rfl) rfl
theorem q1413 : (Jvm.Cond.castable "SevenRings$Sheet" "java/lang/Object") ∈ lw_tbl := lw_at lw_m6 163 rfl
theorem in_X3 : ∀ w ∈ wsX30, w ∈ lw_all := lw_in wsX30 [249] (by decide +kernel) (by decide +kernel)

/-! SevenRings$Hearer -/
set_option maxRecDepth 100000
def RX5 : String := "SevenRings$Hearer"
abbrev cX5_init : ByteArray := prog_6_method_1_code
def yX5_init : MethodName := ⟨RX5, "<init>", "()V"⟩
theorem dX5_init_0 : decode cX5_init 0 = .ok (.aload_n 0, 1) := by decide +kernel
theorem dX5_init_1 : decode cX5_init 1 = .ok (.invokespecial 1, 3) := by decide +kernel
theorem dX5_init_4 : decode cX5_init 4 = .ok (.return_, 1) := by decide +kernel
theorem q63 : (Jvm.Cond.initialized "SevenRings$Hearer") ∈ lw_all := lw_g (lw_at lw_m1 13 rfl) rfl
theorem q409 : (Jvm.Cond.instanceMethod ({ cls := "SevenRings$Hearer", name := "<init>", desc := "()V" } : Jvm.MethodName)) ∈ lw_all := lw_g (lw_at lw_m2 119 rfl) rfl
theorem q410 : (Jvm.Cond.code ({ cls := "SevenRings$Hearer", name := "<init>", desc := "()V" } : Jvm.MethodName) prog_6_method_1_code (1 : Nat) (Option.none : Option Jvm.ClassFile.FieldType)) ∈ lw_all := lw_g (lw_at lw_m2 120 rfl) rfl
theorem q411 : (Jvm.Cond.methodLink "SevenRings$Hearer" (1 : Nat) ({ cls := "java/lang/Object", name := "<init>", desc := "()V" } : Jvm.MethodName)) ∈ lw_all := lw_g (lw_at lw_m2 121 rfl) rfl
theorem q455 : (Jvm.Cond.declares ({ cls := "SevenRings$Hearer", name := "way", desc := "(LSevenRings;I)Z" } : Jvm.MethodName)) ∈ lw_tbl := lw_at lw_m2 165 rfl
theorem q456 : (Jvm.Cond.sameMethod "SevenRings$Hearer" "SevenRings$Hearer" "way" "(LSevenRings;I)Z") ∈ lw_all := lw_g (lw_at lw_m2 166 rfl) rfl

/-! SevenRings$Counter -/
set_option maxRecDepth 100000
def RX6 : String := "SevenRings$Counter"
def TX6 : u_T := fun k => match k with
  | 0 => ("SevenRings$Counter", "many", "I", false)
  | _ => ("SevenRings$Counter", "weight", "J", false)
def tyX6 : Nat → FieldType := fun k => match k with
  | 0 => .int
  | _ => .long
abbrev wsX60 : List Cond := u_ws RX6 TX6 2
theorem nmX6 : ∀ a, a < 2 → ∀ b, b < 2 → a ≠ b → (TX6 a).2.1 ≠ (TX6 b).2.1 := by decide +kernel
theorem tyX6_ok : ∀ k, k < 2 → parseFieldDescriptor (TX6 k).2.2.1 = some (tyX6 k) := by decide +kernel
abbrev cX6_init : ByteArray := prog_2_method_1_code
def yX6_init : MethodName := ⟨RX6, "<init>", "()V"⟩
theorem dX6_init_0 : decode cX6_init 0 = .ok (.aload_n 0, 1) := by decide +kernel
theorem dX6_init_1 : decode cX6_init 1 = .ok (.invokespecial 1, 3) := by decide +kernel
theorem dX6_init_4 : decode cX6_init 4 = .ok (.return_, 1) := by decide +kernel
abbrev cX6_way : ByteArray := prog_2_method_2_code
def yX6_way : MethodName := ⟨RX6, "way", "(LSevenRings;I)Z"⟩
def dkwX6_way_0 : List UInt8 := [42, 89, 180, 0, 7, 4, 96, 181, 0, 7, 42, 89, 180, 0, 13, 28, 133, 97, 181, 0, 13, 4, 172]
abbrev dktX6_way_0 : List UInt8 := dkwX6_way_0 ++ []
theorem dksX6_way_0 : cX6_way.data.toList.drop 0 = dktX6_way_0 := by decide +kernel
theorem dX6_way_0 : decode cX6_way 0 = .ok (.aload_n 0, 1) := dk_42 (dk_at dksX6_way_0 0 rfl rfl)
theorem dX6_way_1 : decode cX6_way 1 = .ok (.dup, 1) := dk_89 (dk_at dksX6_way_0 1 rfl rfl)
theorem dX6_way_2 : decode cX6_way 2 = .ok (.getfield 7, 3) := dk_180 0 7 (dk_at dksX6_way_0 2 rfl rfl)
theorem dX6_way_5 : decode cX6_way 5 = .ok (.iconst 1, 1) := dk_4 (dk_at dksX6_way_0 5 rfl rfl)
theorem dX6_way_6 : decode cX6_way 6 = .ok (.iadd, 1) := dk_96 (dk_at dksX6_way_0 6 rfl rfl)
theorem dX6_way_7 : decode cX6_way 7 = .ok (.putfield 7, 3) := dk_181 0 7 (dk_at dksX6_way_0 7 rfl rfl)
theorem dX6_way_10 : decode cX6_way 10 = .ok (.aload_n 0, 1) := dk_42 (dk_at dksX6_way_0 10 rfl rfl)
theorem dX6_way_11 : decode cX6_way 11 = .ok (.dup, 1) := dk_89 (dk_at dksX6_way_0 11 rfl rfl)
theorem dX6_way_12 : decode cX6_way 12 = .ok (.getfield 13, 3) := dk_180 0 13 (dk_at dksX6_way_0 12 rfl rfl)
theorem dX6_way_15 : decode cX6_way 15 = .ok (.iload_n 2, 1) := dk_28 (dk_at dksX6_way_0 15 rfl rfl)
theorem dX6_way_16 : decode cX6_way 16 = .ok (.i2l, 1) := dk_133 (dk_at dksX6_way_0 16 rfl rfl)
theorem dX6_way_17 : decode cX6_way 17 = .ok (.ladd, 1) := dk_97 (dk_at dksX6_way_0 17 rfl rfl)
theorem dX6_way_18 : decode cX6_way 18 = .ok (.putfield 13, 3) := dk_181 0 13 (dk_at dksX6_way_0 18 rfl rfl)
theorem dX6_way_21 : decode cX6_way 21 = .ok (.iconst 1, 1) := dk_4 (dk_at dksX6_way_0 21 rfl rfl)
theorem dX6_way_22 : decode cX6_way 22 = .ok (.ireturn, 1) := dk_172 (dk_at dksX6_way_0 22 rfl rfl)
theorem q64 : (Jvm.Cond.initialized "SevenRings$Counter") ∈ lw_all := lw_g (lw_at lw_m1 14 rfl) rfl
theorem q404 : (Jvm.Cond.instantiable "SevenRings$Counter" (2 : Nat)) ∈ lw_all := lw_g (lw_at lw_m2 114 rfl) rfl
theorem q406 : (Jvm.Cond.instanceMethod ({ cls := "SevenRings$Counter", name := "<init>", desc := "()V" } : Jvm.MethodName)) ∈ lw_all := lw_g (lw_at lw_m2 116 rfl) rfl
theorem q407 : (Jvm.Cond.code ({ cls := "SevenRings$Counter", name := "<init>", desc := "()V" } : Jvm.MethodName) prog_2_method_1_code (1 : Nat) (Option.none : Option Jvm.ClassFile.FieldType)) ∈ lw_all := lw_g (lw_at lw_m2 117 rfl) rfl
theorem q408 : (Jvm.Cond.methodLinkNest "SevenRings$Counter" (1 : Nat) ({ cls := "SevenRings$Hearer", name := "<init>", desc := "()V" } : Jvm.MethodName) "SevenRings") ∈ lw_tbl := lw_at lw_m2 118 rfl
theorem q412 : (Jvm.Cond.fieldLink "SevenRings$Counter" (7 : Nat) "SevenRings$Counter" "many" "I") ∈ lw_all := lw_g (lw_at lw_m2 122 rfl) rfl
theorem q414 : (Jvm.Cond.fieldLink "SevenRings$Counter" (13 : Nat) "SevenRings$Counter" "weight" "J") ∈ lw_all := lw_g (lw_at lw_m2 124 rfl) rfl
theorem q416 : (Jvm.Cond.lays "SevenRings$Counter" "SevenRings$Counter" "many" "I") ∈ lw_all := lw_g (lw_at lw_m2 126 rfl) rfl
theorem q417 : (Jvm.Cond.soleField "SevenRings$Counter" "many") ∈ lw_all := lw_g (lw_at lw_m2 127 rfl) rfl
theorem q418 : (Jvm.Cond.lays "SevenRings$Counter" "SevenRings$Counter" "weight" "J") ∈ lw_all := lw_g (lw_at lw_m2 128 rfl) rfl
theorem q419 : (Jvm.Cond.soleField "SevenRings$Counter" "weight") ∈ lw_all := lw_g (lw_at lw_m2 129 rfl) rfl
theorem q420 : (Jvm.Cond.superclass "SevenRings$Counter" "SevenRings$Hearer") ∈ lw_all := lw_g (lw_at lw_m2 130 rfl) rfl
theorem q457 : (Jvm.Cond.selects "SevenRings$Counter" ({ cls := "SevenRings$Hearer", name := "way", desc := "(LSevenRings;I)Z" } : Jvm.MethodName) ({ cls := "SevenRings$Counter", name := "way", desc := "(LSevenRings;I)Z" } : Jvm.MethodName)) ∈ lw_all := lw_g (lw_at lw_m2 167 rfl) rfl
theorem q458 : (Jvm.Cond.instanceMethod ({ cls := "SevenRings$Counter", name := "way", desc := "(LSevenRings;I)Z" } : Jvm.MethodName)) ∈ lw_all := lw_g (lw_at lw_m2 168 rfl) rfl
theorem q459 : (Jvm.Cond.code ({ cls := "SevenRings$Counter", name := "way", desc := "(LSevenRings;I)Z" } : Jvm.MethodName) prog_2_method_2_code (3 : Nat) (Option.some Jvm.ClassFile.FieldType.boolean)) ∈ lw_all := lw_g (lw_at lw_m2 169 rfl) rfl
theorem q626 : (Jvm.Cond.selects "SevenRings$Counter" ({ cls := "java/lang/Object", name := "getClass", desc := "()Ljava/lang/Class;" } : Jvm.MethodName) ({ cls := "java/lang/Object", name := "getClass", desc := "()Ljava/lang/Class;" } : Jvm.MethodName)) ∈ lw_all := lw_g (lw_at lw_m3 96 rfl) rfl
theorem q1419 : (Jvm.Cond.castable "SevenRings$Counter" "java/lang/Object") ∈ lw_tbl := lw_at lw_m6 169 rfl
theorem in_X6 : ∀ w ∈ wsX60, w ∈ lw_all := lw_in wsX60 [416, 418] (by decide +kernel) (by decide +kernel)

/-! SevenRings$Seeker -/
set_option maxRecDepth 100000
def RX7 : String := "SevenRings$Seeker"
def TX7 : u_T := fun k => match k with
  | 0 => ("SevenRings$Seeker", "left", "I", false)
  | 1 => ("SevenRings$Seeker", "weight", "I", false)
  | 2 => ("SevenRings$Seeker", "turns", "I", false)
  | 3 => ("SevenRings$Seeker", "slowed", "Z", false)
  | _ => ("SevenRings$Seeker", "cells", "[I", true)
def tyX7 : Nat → FieldType := fun k => match k with
  | 0 => .int
  | 1 => .int
  | 2 => .int
  | 3 => .boolean
  | _ => .array .int
abbrev wsX70 : List Cond := u_ws RX7 TX7 5
theorem nmX7 : ∀ a, a < 5 → ∀ b, b < 5 → a ≠ b → (TX7 a).2.1 ≠ (TX7 b).2.1 := by decide +kernel
theorem tyX7_ok : ∀ k, k < 5 → parseFieldDescriptor (TX7 k).2.2.1 = some (tyX7 k) := by decide +kernel
abbrev cX7_way : ByteArray := prog_10_method_2_code
def yX7_way : MethodName := ⟨RX7, "way", "(LSevenRings;I)Z"⟩
def dkwX7_way_2 : List UInt8 := [180, 0, 15, 4, 100, 181, 0, 15, 42, 180, 0, 15, 155, 0, 7, 4, 167, 0, 4, 3, 172]
abbrev dktX7_way_2 : List UInt8 := dkwX7_way_2 ++ []
def dkwX7_way_1 : List UInt8 := [180, 0, 26, 181, 0, 30, 43, 180, 0, 31, 3, 42, 180, 0, 9, 3, 16, 7, 184, 0, 32, 42, 89]
abbrev dktX7_way_1 : List UInt8 := dkwX7_way_1 ++ dktX7_way_2
def dkwX7_way_0 : List UInt8 := [42, 180, 0, 15, 154, 0, 39, 42, 28, 181, 0, 19, 42, 43, 180, 0, 22, 181, 0, 25, 42, 43]
abbrev dktX7_way_0 : List UInt8 := dkwX7_way_0 ++ dktX7_way_1
theorem dksX7_way_0 : cX7_way.data.toList.drop 0 = dktX7_way_0 := by decide +kernel
theorem dksX7_way_1 : cX7_way.data.toList.drop 22 = dktX7_way_1 := dk_seg dksX7_way_0 22 rfl rfl
theorem dksX7_way_2 : cX7_way.data.toList.drop 45 = dktX7_way_2 := dk_seg dksX7_way_1 23 rfl rfl
theorem dX7_way_0 : decode cX7_way 0 = .ok (.aload_n 0, 1) := dk_42 (dk_at dksX7_way_0 0 rfl rfl)
theorem dX7_way_1 : decode cX7_way 1 = .ok (.getfield 15, 3) := dk_180 0 15 (dk_at dksX7_way_0 1 rfl rfl)
theorem dX7_way_4 : decode cX7_way 4 = .ok (.ifCond .ne 39, 3) := dk_154 0 39 (dk_at dksX7_way_0 4 rfl rfl)
theorem dX7_way_7 : decode cX7_way 7 = .ok (.aload_n 0, 1) := dk_42 (dk_at dksX7_way_0 7 rfl rfl)
theorem dX7_way_8 : decode cX7_way 8 = .ok (.iload_n 2, 1) := dk_28 (dk_at dksX7_way_0 8 rfl rfl)
theorem dX7_way_9 : decode cX7_way 9 = .ok (.putfield 19, 3) := dk_181 0 19 (dk_at dksX7_way_0 9 rfl rfl)
theorem dX7_way_12 : decode cX7_way 12 = .ok (.aload_n 0, 1) := dk_42 (dk_at dksX7_way_0 12 rfl rfl)
theorem dX7_way_13 : decode cX7_way 13 = .ok (.aload_n 1, 1) := dk_43 (dk_at dksX7_way_0 13 rfl rfl)
theorem dX7_way_14 : decode cX7_way 14 = .ok (.getfield 22, 3) := dk_180 0 22 (dk_at dksX7_way_0 14 rfl rfl)
theorem dX7_way_17 : decode cX7_way 17 = .ok (.putfield 25, 3) := dk_181 0 25 (dk_at dksX7_way_0 17 rfl rfl)
theorem dX7_way_20 : decode cX7_way 20 = .ok (.aload_n 0, 1) := dk_42 (dk_at dksX7_way_0 20 rfl rfl)
theorem dX7_way_21 : decode cX7_way 21 = .ok (.aload_n 1, 1) := dk_43 (dk_at dksX7_way_0 21 rfl rfl)
theorem dX7_way_22 : decode cX7_way 22 = .ok (.getfield 26, 3) := dk_180 0 26 (dk_at dksX7_way_1 0 rfl rfl)
theorem dX7_way_25 : decode cX7_way 25 = .ok (.putfield 30, 3) := dk_181 0 30 (dk_at dksX7_way_1 3 rfl rfl)
theorem dX7_way_28 : decode cX7_way 28 = .ok (.aload_n 1, 1) := dk_43 (dk_at dksX7_way_1 6 rfl rfl)
theorem dX7_way_29 : decode cX7_way 29 = .ok (.getfield 31, 3) := dk_180 0 31 (dk_at dksX7_way_1 7 rfl rfl)
theorem dX7_way_32 : decode cX7_way 32 = .ok (.iconst 0, 1) := dk_3 (dk_at dksX7_way_1 10 rfl rfl)
theorem dX7_way_33 : decode cX7_way 33 = .ok (.aload_n 0, 1) := dk_42 (dk_at dksX7_way_1 11 rfl rfl)
theorem dX7_way_34 : decode cX7_way 34 = .ok (.getfield 9, 3) := dk_180 0 9 (dk_at dksX7_way_1 12 rfl rfl)
theorem dX7_way_37 : decode cX7_way 37 = .ok (.iconst 0, 1) := dk_3 (dk_at dksX7_way_1 15 rfl rfl)
theorem dX7_way_38 : decode cX7_way 38 = .ok (.bipush 7, 2) := dk_16 7 (dk_at dksX7_way_1 16 rfl rfl)
theorem dX7_way_40 : decode cX7_way 40 = .ok (.invokestatic 32, 3) := dk_184 0 32 (dk_at dksX7_way_1 18 rfl rfl)
theorem dX7_way_43 : decode cX7_way 43 = .ok (.aload_n 0, 1) := dk_42 (dk_at dksX7_way_1 21 rfl rfl)
theorem dX7_way_44 : decode cX7_way 44 = .ok (.dup, 1) := dk_89 (dk_at dksX7_way_1 22 rfl rfl)
theorem dX7_way_45 : decode cX7_way 45 = .ok (.getfield 15, 3) := dk_180 0 15 (dk_at dksX7_way_2 0 rfl rfl)
theorem dX7_way_48 : decode cX7_way 48 = .ok (.iconst 1, 1) := dk_4 (dk_at dksX7_way_2 3 rfl rfl)
theorem dX7_way_49 : decode cX7_way 49 = .ok (.isub, 1) := dk_100 (dk_at dksX7_way_2 4 rfl rfl)
theorem dX7_way_50 : decode cX7_way 50 = .ok (.putfield 15, 3) := dk_181 0 15 (dk_at dksX7_way_2 5 rfl rfl)
theorem dX7_way_53 : decode cX7_way 53 = .ok (.aload_n 0, 1) := dk_42 (dk_at dksX7_way_2 8 rfl rfl)
theorem dX7_way_54 : decode cX7_way 54 = .ok (.getfield 15, 3) := dk_180 0 15 (dk_at dksX7_way_2 9 rfl rfl)
theorem dX7_way_57 : decode cX7_way 57 = .ok (.ifCond .lt 7, 3) := dk_155 0 7 (dk_at dksX7_way_2 12 rfl rfl)
theorem dX7_way_60 : decode cX7_way 60 = .ok (.iconst 1, 1) := dk_4 (dk_at dksX7_way_2 15 rfl rfl)
theorem dX7_way_61 : decode cX7_way 61 = .ok (.goto 4, 3) := dk_167 0 4 (dk_at dksX7_way_2 16 rfl rfl)
theorem dX7_way_64 : decode cX7_way 64 = .ok (.iconst 0, 1) := dk_3 (dk_at dksX7_way_2 19 rfl rfl)
theorem dX7_way_65 : decode cX7_way 65 = .ok (.ireturn, 1) := dk_172 (dk_at dksX7_way_2 20 rfl rfl)
abbrev cX7_init : ByteArray := prog_10_method_1_code
def yX7_init : MethodName := ⟨RX7, "<init>", "()V"⟩
def dkwX7_init_0 : List UInt8 := [42, 183, 0, 3, 42, 16, 7, 188, 10, 181, 0, 9, 177]
abbrev dktX7_init_0 : List UInt8 := dkwX7_init_0 ++ []
theorem dksX7_init_0 : cX7_init.data.toList.drop 0 = dktX7_init_0 := by decide +kernel
theorem dX7_init_0 : decode cX7_init 0 = .ok (.aload_n 0, 1) := dk_42 (dk_at dksX7_init_0 0 rfl rfl)
theorem dX7_init_1 : decode cX7_init 1 = .ok (.invokespecial 3, 3) := dk_183 0 3 (dk_at dksX7_init_0 1 rfl rfl)
theorem dX7_init_4 : decode cX7_init 4 = .ok (.aload_n 0, 1) := dk_42 (dk_at dksX7_init_0 4 rfl rfl)
theorem dX7_init_5 : decode cX7_init 5 = .ok (.bipush 7, 2) := dk_16 7 (dk_at dksX7_init_0 5 rfl rfl)
theorem dX7_init_7 : decode cX7_init 7 = .ok (.newarray .int, 2) := dk_188_10 (dk_at dksX7_init_0 7 rfl rfl)
theorem dX7_init_9 : decode cX7_init 9 = .ok (.putfield 9, 3) := dk_181 0 9 (dk_at dksX7_init_0 9 rfl rfl)
theorem dX7_init_12 : decode cX7_init 12 = .ok (.return_, 1) := dk_177 (dk_at dksX7_init_0 12 rfl rfl)
theorem q65 : (Jvm.Cond.initialized "SevenRings$Seeker") ∈ lw_all := lw_g (lw_at lw_m1 15 rfl) rfl
theorem q266 : (Jvm.Cond.fieldLinkNest "SevenRings$Seeker" (31 : Nat) "SevenRings" "cells" "[I" "SevenRings") ∈ lw_tbl := lw_at lw_m1 216 rfl
theorem q271 : (Jvm.Cond.fieldLinkNest "SevenRings$Seeker" (22 : Nat) "SevenRings" "turns" "I" "SevenRings") ∈ lw_tbl := lw_at lw_m1 221 rfl
theorem q273 : (Jvm.Cond.fieldLinkNest "SevenRings$Seeker" (26 : Nat) "SevenRings" "slowed" "Z" "SevenRings") ∈ lw_tbl := lw_at lw_m1 223 rfl
theorem q473 : (Jvm.Cond.selects "SevenRings$Seeker" ({ cls := "SevenRings$Hearer", name := "way", desc := "(LSevenRings;I)Z" } : Jvm.MethodName) ({ cls := "SevenRings$Seeker", name := "way", desc := "(LSevenRings;I)Z" } : Jvm.MethodName)) ∈ lw_all := lw_g (lw_at lw_m2 183 rfl) rfl
theorem q474 : (Jvm.Cond.instanceMethod ({ cls := "SevenRings$Seeker", name := "way", desc := "(LSevenRings;I)Z" } : Jvm.MethodName)) ∈ lw_all := lw_g (lw_at lw_m2 184 rfl) rfl
theorem q475 : (Jvm.Cond.code ({ cls := "SevenRings$Seeker", name := "way", desc := "(LSevenRings;I)Z" } : Jvm.MethodName) prog_10_method_2_code (3 : Nat) (Option.some Jvm.ClassFile.FieldType.boolean)) ∈ lw_all := lw_g (lw_at lw_m2 185 rfl) rfl
theorem q476 : (Jvm.Cond.methodLink "SevenRings$Seeker" (32 : Nat) ({ cls := "java/lang/System", name := "arraycopy", desc := "(Ljava/lang/Object;ILjava/lang/Object;II)V" } : Jvm.MethodName)) ∈ lw_all := lw_g (lw_at lw_m2 186 rfl) rfl
theorem q498 : (Jvm.Cond.instantiable "SevenRings$Seeker" (5 : Nat)) ∈ lw_all := lw_g (lw_at lw_m2 208 rfl) rfl
theorem q500 : (Jvm.Cond.instanceMethod ({ cls := "SevenRings$Seeker", name := "<init>", desc := "()V" } : Jvm.MethodName)) ∈ lw_all := lw_g (lw_at lw_m2 210 rfl) rfl
theorem q501 : (Jvm.Cond.code ({ cls := "SevenRings$Seeker", name := "<init>", desc := "()V" } : Jvm.MethodName) prog_10_method_1_code (1 : Nat) (Option.none : Option Jvm.ClassFile.FieldType)) ∈ lw_all := lw_g (lw_at lw_m2 211 rfl) rfl
theorem q502 : (Jvm.Cond.methodLinkNest "SevenRings$Seeker" (3 : Nat) ({ cls := "SevenRings$Hearer", name := "<init>", desc := "()V" } : Jvm.MethodName) "SevenRings") ∈ lw_tbl := lw_at lw_m2 212 rfl
theorem q503 : (Jvm.Cond.fieldLink "SevenRings$Seeker" (15 : Nat) "SevenRings$Seeker" "left" "I") ∈ lw_all := lw_g (lw_at lw_m2 213 rfl) rfl
theorem q505 : (Jvm.Cond.fieldLink "SevenRings$Seeker" (19 : Nat) "SevenRings$Seeker" "weight" "I") ∈ lw_all := lw_g (lw_at lw_m2 215 rfl) rfl
theorem q507 : (Jvm.Cond.fieldLink "SevenRings$Seeker" (25 : Nat) "SevenRings$Seeker" "turns" "I") ∈ lw_all := lw_g (lw_at lw_m2 217 rfl) rfl
theorem q509 : (Jvm.Cond.fieldLink "SevenRings$Seeker" (30 : Nat) "SevenRings$Seeker" "slowed" "Z") ∈ lw_all := lw_g (lw_at lw_m2 219 rfl) rfl
theorem q511 : (Jvm.Cond.fieldLink "SevenRings$Seeker" (9 : Nat) "SevenRings$Seeker" "cells" "[I") ∈ lw_all := lw_g (lw_at lw_m2 221 rfl) rfl
theorem q513 : (Jvm.Cond.lays "SevenRings$Seeker" "SevenRings$Seeker" "left" "I") ∈ lw_all := lw_g (lw_at lw_m2 223 rfl) rfl
theorem q514 : (Jvm.Cond.soleField "SevenRings$Seeker" "left") ∈ lw_all := lw_g (lw_at lw_m2 224 rfl) rfl
theorem q515 : (Jvm.Cond.lays "SevenRings$Seeker" "SevenRings$Seeker" "weight" "I") ∈ lw_all := lw_g (lw_at lw_m2 225 rfl) rfl
theorem q516 : (Jvm.Cond.soleField "SevenRings$Seeker" "weight") ∈ lw_all := lw_g (lw_at lw_m2 226 rfl) rfl
theorem q517 : (Jvm.Cond.lays "SevenRings$Seeker" "SevenRings$Seeker" "turns" "I") ∈ lw_all := lw_g (lw_at lw_m2 227 rfl) rfl
theorem q518 : (Jvm.Cond.soleField "SevenRings$Seeker" "turns") ∈ lw_all := lw_g (lw_at lw_m2 228 rfl) rfl
theorem q519 : (Jvm.Cond.lays "SevenRings$Seeker" "SevenRings$Seeker" "slowed" "Z") ∈ lw_all := lw_g (lw_at lw_m2 229 rfl) rfl
theorem q520 : (Jvm.Cond.soleField "SevenRings$Seeker" "slowed") ∈ lw_all := lw_g (lw_at lw_m2 230 rfl) rfl
theorem q521 : (Jvm.Cond.laysFinal "SevenRings$Seeker" "SevenRings$Seeker" "cells" "[I") ∈ lw_all := lw_g (lw_at lw_m2 231 rfl) rfl
theorem q522 : (Jvm.Cond.soleField "SevenRings$Seeker" "cells") ∈ lw_all := lw_g (lw_at lw_m2 232 rfl) rfl
theorem q523 : (Jvm.Cond.superclass "SevenRings$Seeker" "SevenRings$Hearer") ∈ lw_all := lw_g (lw_at lw_m2 233 rfl) rfl
theorem q633 : (Jvm.Cond.selects "SevenRings$Seeker" ({ cls := "java/lang/Object", name := "getClass", desc := "()Ljava/lang/Class;" } : Jvm.MethodName) ({ cls := "java/lang/Object", name := "getClass", desc := "()Ljava/lang/Class;" } : Jvm.MethodName)) ∈ lw_all := lw_g (lw_at lw_m3 103 rfl) rfl
theorem q1420 : (Jvm.Cond.castable "SevenRings$Seeker" "java/lang/Object") ∈ lw_tbl := lw_at lw_m6 170 rfl
theorem in_X7 : ∀ w ∈ wsX70, w ∈ lw_all := lw_in wsX70 [513, 515, 517, 519, 521] (by decide +kernel) (by decide +kernel)

/-! SevenRings$Marker -/
set_option maxRecDepth 100000
def RX8 : String := "SevenRings$Marker"
def TX8 : u_T := fun k => match k with
  | 0 => ("SevenRings$Marker", "hour", "I", false)
  | _ => ("SevenRings$Marker", "marks", "[Z", true)
def tyX8 : Nat → FieldType := fun k => match k with
  | 0 => .int
  | _ => .array .boolean
abbrev wsX80 : List Cond := u_ws RX8 TX8 2
theorem nmX8 : ∀ a, a < 2 → ∀ b, b < 2 → a ≠ b → (TX8 a).2.1 ≠ (TX8 b).2.1 := by decide +kernel
theorem tyX8_ok : ∀ k, k < 2 → parseFieldDescriptor (TX8 k).2.2.1 = some (tyX8 k) := by decide +kernel
abbrev cX8_way : ByteArray := prog_8_method_2_code
def yX8_way : MethodName := ⟨RX8, "way", "(LSevenRings;I)Z"⟩
def dkwX8_way_0 : List UInt8 := [42, 180, 0, 9, 43, 180, 0, 15, 42, 180, 0, 19, 46, 4, 84, 4, 172]
abbrev dktX8_way_0 : List UInt8 := dkwX8_way_0 ++ []
theorem dksX8_way_0 : cX8_way.data.toList.drop 0 = dktX8_way_0 := by decide +kernel
theorem dX8_way_0 : decode cX8_way 0 = .ok (.aload_n 0, 1) := dk_42 (dk_at dksX8_way_0 0 rfl rfl)
theorem dX8_way_1 : decode cX8_way 1 = .ok (.getfield 9, 3) := dk_180 0 9 (dk_at dksX8_way_0 1 rfl rfl)
theorem dX8_way_4 : decode cX8_way 4 = .ok (.aload_n 1, 1) := dk_43 (dk_at dksX8_way_0 4 rfl rfl)
theorem dX8_way_5 : decode cX8_way 5 = .ok (.getfield 15, 3) := dk_180 0 15 (dk_at dksX8_way_0 5 rfl rfl)
theorem dX8_way_8 : decode cX8_way 8 = .ok (.aload_n 0, 1) := dk_42 (dk_at dksX8_way_0 8 rfl rfl)
theorem dX8_way_9 : decode cX8_way 9 = .ok (.getfield 19, 3) := dk_180 0 19 (dk_at dksX8_way_0 9 rfl rfl)
theorem dX8_way_12 : decode cX8_way 12 = .ok (.iaload, 1) := dk_46 (dk_at dksX8_way_0 12 rfl rfl)
theorem dX8_way_13 : decode cX8_way 13 = .ok (.iconst 1, 1) := dk_4 (dk_at dksX8_way_0 13 rfl rfl)
theorem dX8_way_14 : decode cX8_way 14 = .ok (.bastore, 1) := dk_84 (dk_at dksX8_way_0 14 rfl rfl)
theorem dX8_way_15 : decode cX8_way 15 = .ok (.iconst 1, 1) := dk_4 (dk_at dksX8_way_0 15 rfl rfl)
theorem dX8_way_16 : decode cX8_way 16 = .ok (.ireturn, 1) := dk_172 (dk_at dksX8_way_0 16 rfl rfl)
abbrev cX8_init : ByteArray := prog_8_method_1_code
def yX8_init : MethodName := ⟨RX8, "<init>", "()V"⟩
def dkwX8_init_0 : List UInt8 := [42, 183, 0, 3, 42, 16, 100, 188, 4, 181, 0, 9, 177]
abbrev dktX8_init_0 : List UInt8 := dkwX8_init_0 ++ []
theorem dksX8_init_0 : cX8_init.data.toList.drop 0 = dktX8_init_0 := by decide +kernel
theorem dX8_init_0 : decode cX8_init 0 = .ok (.aload_n 0, 1) := dk_42 (dk_at dksX8_init_0 0 rfl rfl)
theorem dX8_init_1 : decode cX8_init 1 = .ok (.invokespecial 3, 3) := dk_183 0 3 (dk_at dksX8_init_0 1 rfl rfl)
theorem dX8_init_4 : decode cX8_init 4 = .ok (.aload_n 0, 1) := dk_42 (dk_at dksX8_init_0 4 rfl rfl)
theorem dX8_init_5 : decode cX8_init 5 = .ok (.bipush 100, 2) := dk_16 100 (dk_at dksX8_init_0 5 rfl rfl)
theorem dX8_init_7 : decode cX8_init 7 = .ok (.newarray .boolean, 2) := dk_188_4 (dk_at dksX8_init_0 7 rfl rfl)
theorem dX8_init_9 : decode cX8_init 9 = .ok (.putfield 9, 3) := dk_181 0 9 (dk_at dksX8_init_0 9 rfl rfl)
theorem dX8_init_12 : decode cX8_init 12 = .ok (.return_, 1) := dk_177 (dk_at dksX8_init_0 12 rfl rfl)
theorem q66 : (Jvm.Cond.initialized "SevenRings$Marker") ∈ lw_all := lw_g (lw_at lw_m1 16 rfl) rfl
theorem q264 : (Jvm.Cond.fieldLinkNest "SevenRings$Marker" (15 : Nat) "SevenRings" "cells" "[I" "SevenRings") ∈ lw_tbl := lw_at lw_m1 214 rfl
theorem q470 : (Jvm.Cond.selects "SevenRings$Marker" ({ cls := "SevenRings$Hearer", name := "way", desc := "(LSevenRings;I)Z" } : Jvm.MethodName) ({ cls := "SevenRings$Marker", name := "way", desc := "(LSevenRings;I)Z" } : Jvm.MethodName)) ∈ lw_all := lw_g (lw_at lw_m2 180 rfl) rfl
theorem q471 : (Jvm.Cond.instanceMethod ({ cls := "SevenRings$Marker", name := "way", desc := "(LSevenRings;I)Z" } : Jvm.MethodName)) ∈ lw_all := lw_g (lw_at lw_m2 181 rfl) rfl
theorem q472 : (Jvm.Cond.code ({ cls := "SevenRings$Marker", name := "way", desc := "(LSevenRings;I)Z" } : Jvm.MethodName) prog_8_method_2_code (3 : Nat) (Option.some Jvm.ClassFile.FieldType.boolean)) ∈ lw_all := lw_g (lw_at lw_m2 182 rfl) rfl
theorem q529 : (Jvm.Cond.instantiable "SevenRings$Marker" (2 : Nat)) ∈ lw_all := lw_g (lw_at lw_m2 239 rfl) rfl
theorem q531 : (Jvm.Cond.instanceMethod ({ cls := "SevenRings$Marker", name := "<init>", desc := "()V" } : Jvm.MethodName)) ∈ lw_all := lw_g (lw_at lw_m3 1 rfl) rfl
theorem q532 : (Jvm.Cond.code ({ cls := "SevenRings$Marker", name := "<init>", desc := "()V" } : Jvm.MethodName) prog_8_method_1_code (1 : Nat) (Option.none : Option Jvm.ClassFile.FieldType)) ∈ lw_all := lw_g (lw_at lw_m3 2 rfl) rfl
theorem q533 : (Jvm.Cond.methodLinkNest "SevenRings$Marker" (3 : Nat) ({ cls := "SevenRings$Hearer", name := "<init>", desc := "()V" } : Jvm.MethodName) "SevenRings") ∈ lw_tbl := lw_at lw_m3 3 rfl
theorem q534 : (Jvm.Cond.fieldLink "SevenRings$Marker" (19 : Nat) "SevenRings$Marker" "hour" "I") ∈ lw_all := lw_g (lw_at lw_m3 4 rfl) rfl
theorem q536 : (Jvm.Cond.fieldLink "SevenRings$Marker" (9 : Nat) "SevenRings$Marker" "marks" "[Z") ∈ lw_all := lw_g (lw_at lw_m3 6 rfl) rfl
theorem q538 : (Jvm.Cond.lays "SevenRings$Marker" "SevenRings$Marker" "hour" "I") ∈ lw_all := lw_g (lw_at lw_m3 8 rfl) rfl
theorem q539 : (Jvm.Cond.soleField "SevenRings$Marker" "hour") ∈ lw_all := lw_g (lw_at lw_m3 9 rfl) rfl
theorem q540 : (Jvm.Cond.laysFinal "SevenRings$Marker" "SevenRings$Marker" "marks" "[Z") ∈ lw_all := lw_g (lw_at lw_m3 10 rfl) rfl
theorem q541 : (Jvm.Cond.soleField "SevenRings$Marker" "marks") ∈ lw_all := lw_g (lw_at lw_m3 11 rfl) rfl
theorem q542 : (Jvm.Cond.superclass "SevenRings$Marker" "SevenRings$Hearer") ∈ lw_all := lw_g (lw_at lw_m3 12 rfl) rfl
theorem q631 : (Jvm.Cond.selects "SevenRings$Marker" ({ cls := "java/lang/Object", name := "getClass", desc := "()Ljava/lang/Class;" } : Jvm.MethodName) ({ cls := "java/lang/Object", name := "getClass", desc := "()Ljava/lang/Class;" } : Jvm.MethodName)) ∈ lw_all := lw_g (lw_at lw_m3 101 rfl) rfl
theorem q1421 : (Jvm.Cond.castable "SevenRings$Marker" "java/lang/Object") ∈ lw_tbl := lw_at lw_m6 171 rfl
theorem in_X8 : ∀ w ∈ wsX80, w ∈ lw_all := lw_in wsX80 [538, 540] (by decide +kernel) (by decide +kernel)

/-! SevenRings$Piece -/
set_option maxRecDepth 100000
def RX9 : String := "SevenRings$Piece"
def TX9 : u_T := fun k => match k with
  | 0 => ("SevenRings$Piece", "found", "I", true)
  | 1 => ("SevenRings$Piece", "months", "I", true)
  | 2 => ("SevenRings$Piece", "high", "Z", true)
  | 3 => ("SevenRings$Piece", "age", "I", true)
  | _ => ("SevenRings$Piece", "need", "I", true)
def tyX9 : Nat → FieldType := fun k => match k with
  | 0 => .int
  | 1 => .int
  | 2 => .boolean
  | 3 => .int
  | _ => .int
abbrev wsX90 : List Cond := u_ws RX9 TX9 5
theorem nmX9 : ∀ a, a < 5 → ∀ b, b < 5 → a ≠ b → (TX9 a).2.1 ≠ (TX9 b).2.1 := by decide +kernel
theorem tyX9_ok : ∀ k, k < 5 → parseFieldDescriptor (TX9 k).2.2.1 = some (tyX9 k) := by decide +kernel
abbrev cX9_init : ByteArray := prog_9_method_1_code
def yX9_init : MethodName := ⟨RX9, "<init>", "(IIZII)V"⟩
def dkwX9_init_1 : List UInt8 := [181, 0, 22, 42, 21, 5, 181, 0, 25, 177]
abbrev dktX9_init_1 : List UInt8 := dkwX9_init_1 ++ []
def dkwX9_init_0 : List UInt8 := [42, 183, 0, 3, 42, 27, 181, 0, 9, 42, 28, 181, 0, 15, 42, 29, 181, 0, 18, 42, 21, 4]
abbrev dktX9_init_0 : List UInt8 := dkwX9_init_0 ++ dktX9_init_1
theorem dksX9_init_0 : cX9_init.data.toList.drop 0 = dktX9_init_0 := by decide +kernel
theorem dksX9_init_1 : cX9_init.data.toList.drop 22 = dktX9_init_1 := dk_seg dksX9_init_0 22 rfl rfl
theorem dX9_init_0 : decode cX9_init 0 = .ok (.aload_n 0, 1) := dk_42 (dk_at dksX9_init_0 0 rfl rfl)
theorem dX9_init_1 : decode cX9_init 1 = .ok (.invokespecial 3, 3) := dk_183 0 3 (dk_at dksX9_init_0 1 rfl rfl)
theorem dX9_init_4 : decode cX9_init 4 = .ok (.aload_n 0, 1) := dk_42 (dk_at dksX9_init_0 4 rfl rfl)
theorem dX9_init_5 : decode cX9_init 5 = .ok (.iload_n 1, 1) := dk_27 (dk_at dksX9_init_0 5 rfl rfl)
theorem dX9_init_6 : decode cX9_init 6 = .ok (.putfield 9, 3) := dk_181 0 9 (dk_at dksX9_init_0 6 rfl rfl)
theorem dX9_init_9 : decode cX9_init 9 = .ok (.aload_n 0, 1) := dk_42 (dk_at dksX9_init_0 9 rfl rfl)
theorem dX9_init_10 : decode cX9_init 10 = .ok (.iload_n 2, 1) := dk_28 (dk_at dksX9_init_0 10 rfl rfl)
theorem dX9_init_11 : decode cX9_init 11 = .ok (.putfield 15, 3) := dk_181 0 15 (dk_at dksX9_init_0 11 rfl rfl)
theorem dX9_init_14 : decode cX9_init 14 = .ok (.aload_n 0, 1) := dk_42 (dk_at dksX9_init_0 14 rfl rfl)
theorem dX9_init_15 : decode cX9_init 15 = .ok (.iload_n 3, 1) := dk_29 (dk_at dksX9_init_0 15 rfl rfl)
theorem dX9_init_16 : decode cX9_init 16 = .ok (.putfield 18, 3) := dk_181 0 18 (dk_at dksX9_init_0 16 rfl rfl)
theorem dX9_init_19 : decode cX9_init 19 = .ok (.aload_n 0, 1) := dk_42 (dk_at dksX9_init_0 19 rfl rfl)
theorem dX9_init_20 : decode cX9_init 20 = .ok (.iload 4, 2) := dk_21 4 (dk_at dksX9_init_0 20 rfl rfl)
theorem dX9_init_22 : decode cX9_init 22 = .ok (.putfield 22, 3) := dk_181 0 22 (dk_at dksX9_init_1 0 rfl rfl)
theorem dX9_init_25 : decode cX9_init 25 = .ok (.aload_n 0, 1) := dk_42 (dk_at dksX9_init_1 3 rfl rfl)
theorem dX9_init_26 : decode cX9_init 26 = .ok (.iload 5, 2) := dk_21 5 (dk_at dksX9_init_1 4 rfl rfl)
theorem dX9_init_28 : decode cX9_init 28 = .ok (.putfield 25, 3) := dk_181 0 25 (dk_at dksX9_init_1 6 rfl rfl)
theorem dX9_init_31 : decode cX9_init 31 = .ok (.return_, 1) := dk_177 (dk_at dksX9_init_1 9 rfl rfl)
abbrev cX9_fits : ByteArray := prog_9_method_2_code
def yX9_fits : MethodName := ⟨RX9, "fits", "(LSevenRings$Told;I)I"⟩
def dkwX9_fits_4 : List UInt8 := [160, 0, 7, 7, 167, 0, 19, 29, 42, 180, 0, 9, 184, 0, 38, 153, 0, 7, 4, 167, 0, 4, 3, 172]
abbrev dktX9_fits_4 : List UInt8 := dkwX9_fits_4 ++ []
def dkwX9_fits_3 : List UInt8 := [182, 0, 34, 62, 132, 5, 1, 167, 255, 187, 21, 4, 154, 0, 7, 3, 167, 0, 31, 29, 42, 180, 0, 9]
abbrev dktX9_fits_3 : List UInt8 := dkwX9_fits_3 ++ dktX9_fits_4
def dkwX9_fits_2 : List UInt8 := [51, 42, 180, 0, 25, 161, 0, 7, 4, 167, 0, 4, 3, 126, 54, 4, 43, 29, 21, 5, 42, 180, 0, 18]
abbrev dktX9_fits_2 : List UInt8 := dkwX9_fits_2 ++ dktX9_fits_3
def dkwX9_fits_1 : List UInt8 := [180, 0, 15, 42, 180, 0, 22, 100, 161, 0, 24, 43, 180, 0, 28, 16, 100, 21, 5, 5, 112, 104, 29, 96]
abbrev dktX9_fits_1 : List UInt8 := dkwX9_fits_1 ++ dktX9_fits_2
def dkwX9_fits_0 : List UInt8 := [28, 62, 4, 54, 4, 3, 54, 5, 21, 5, 42, 180, 0, 15, 162, 0, 66, 21, 4, 21, 5, 42]
abbrev dktX9_fits_0 : List UInt8 := dkwX9_fits_0 ++ dktX9_fits_1
theorem dksX9_fits_0 : cX9_fits.data.toList.drop 0 = dktX9_fits_0 := by decide +kernel
theorem dksX9_fits_1 : cX9_fits.data.toList.drop 22 = dktX9_fits_1 := dk_seg dksX9_fits_0 22 rfl rfl
theorem dksX9_fits_2 : cX9_fits.data.toList.drop 46 = dktX9_fits_2 := dk_seg dksX9_fits_1 24 rfl rfl
theorem dksX9_fits_3 : cX9_fits.data.toList.drop 70 = dktX9_fits_3 := dk_seg dksX9_fits_2 24 rfl rfl
theorem dksX9_fits_4 : cX9_fits.data.toList.drop 94 = dktX9_fits_4 := dk_seg dksX9_fits_3 24 rfl rfl
theorem dX9_fits_0 : decode cX9_fits 0 = .ok (.iload_n 2, 1) := dk_28 (dk_at dksX9_fits_0 0 rfl rfl)
theorem dX9_fits_1 : decode cX9_fits 1 = .ok (.istore_n 3, 1) := dk_62 (dk_at dksX9_fits_0 1 rfl rfl)
theorem dX9_fits_2 : decode cX9_fits 2 = .ok (.iconst 1, 1) := dk_4 (dk_at dksX9_fits_0 2 rfl rfl)
theorem dX9_fits_3 : decode cX9_fits 3 = .ok (.istore 4, 2) := dk_54 4 (dk_at dksX9_fits_0 3 rfl rfl)
theorem dX9_fits_5 : decode cX9_fits 5 = .ok (.iconst 0, 1) := dk_3 (dk_at dksX9_fits_0 5 rfl rfl)
theorem dX9_fits_6 : decode cX9_fits 6 = .ok (.istore 5, 2) := dk_54 5 (dk_at dksX9_fits_0 6 rfl rfl)
theorem dX9_fits_8 : decode cX9_fits 8 = .ok (.iload 5, 2) := dk_21 5 (dk_at dksX9_fits_0 8 rfl rfl)
theorem dX9_fits_10 : decode cX9_fits 10 = .ok (.aload_n 0, 1) := dk_42 (dk_at dksX9_fits_0 10 rfl rfl)
theorem dX9_fits_11 : decode cX9_fits 11 = .ok (.getfield 15, 3) := dk_180 0 15 (dk_at dksX9_fits_0 11 rfl rfl)
theorem dX9_fits_14 : decode cX9_fits 14 = .ok (.if_icmp .ge 66, 3) := dk_162 0 66 (dk_at dksX9_fits_0 14 rfl rfl)
theorem dX9_fits_17 : decode cX9_fits 17 = .ok (.iload 4, 2) := dk_21 4 (dk_at dksX9_fits_0 17 rfl rfl)
theorem dX9_fits_19 : decode cX9_fits 19 = .ok (.iload 5, 2) := dk_21 5 (dk_at dksX9_fits_0 19 rfl rfl)
theorem dX9_fits_21 : decode cX9_fits 21 = .ok (.aload_n 0, 1) := dk_42 (dk_at dksX9_fits_0 21 rfl rfl)
theorem dX9_fits_22 : decode cX9_fits 22 = .ok (.getfield 15, 3) := dk_180 0 15 (dk_at dksX9_fits_1 0 rfl rfl)
theorem dX9_fits_25 : decode cX9_fits 25 = .ok (.aload_n 0, 1) := dk_42 (dk_at dksX9_fits_1 3 rfl rfl)
theorem dX9_fits_26 : decode cX9_fits 26 = .ok (.getfield 22, 3) := dk_180 0 22 (dk_at dksX9_fits_1 4 rfl rfl)
theorem dX9_fits_29 : decode cX9_fits 29 = .ok (.isub, 1) := dk_100 (dk_at dksX9_fits_1 7 rfl rfl)
theorem dX9_fits_30 : decode cX9_fits 30 = .ok (.if_icmp .lt 24, 3) := dk_161 0 24 (dk_at dksX9_fits_1 8 rfl rfl)
theorem dX9_fits_33 : decode cX9_fits 33 = .ok (.aload_n 1, 1) := dk_43 (dk_at dksX9_fits_1 11 rfl rfl)
theorem dX9_fits_34 : decode cX9_fits 34 = .ok (.getfield 28, 3) := dk_180 0 28 (dk_at dksX9_fits_1 12 rfl rfl)
theorem dX9_fits_37 : decode cX9_fits 37 = .ok (.bipush 100, 2) := dk_16 100 (dk_at dksX9_fits_1 15 rfl rfl)
theorem dX9_fits_39 : decode cX9_fits 39 = .ok (.iload 5, 2) := dk_21 5 (dk_at dksX9_fits_1 17 rfl rfl)
theorem dX9_fits_41 : decode cX9_fits 41 = .ok (.iconst 2, 1) := dk_5 (dk_at dksX9_fits_1 19 rfl rfl)
theorem dX9_fits_42 : decode cX9_fits 42 = .ok (.irem, 1) := dk_112 (dk_at dksX9_fits_1 20 rfl rfl)
theorem dX9_fits_43 : decode cX9_fits 43 = .ok (.imul, 1) := dk_104 (dk_at dksX9_fits_1 21 rfl rfl)
theorem dX9_fits_44 : decode cX9_fits 44 = .ok (.iload_n 3, 1) := dk_29 (dk_at dksX9_fits_1 22 rfl rfl)
theorem dX9_fits_45 : decode cX9_fits 45 = .ok (.iadd, 1) := dk_96 (dk_at dksX9_fits_1 23 rfl rfl)
theorem dX9_fits_46 : decode cX9_fits 46 = .ok (.baload, 1) := dk_51 (dk_at dksX9_fits_2 0 rfl rfl)
theorem dX9_fits_47 : decode cX9_fits 47 = .ok (.aload_n 0, 1) := dk_42 (dk_at dksX9_fits_2 1 rfl rfl)
theorem dX9_fits_48 : decode cX9_fits 48 = .ok (.getfield 25, 3) := dk_180 0 25 (dk_at dksX9_fits_2 2 rfl rfl)
theorem dX9_fits_51 : decode cX9_fits 51 = .ok (.if_icmp .lt 7, 3) := dk_161 0 7 (dk_at dksX9_fits_2 5 rfl rfl)
theorem dX9_fits_54 : decode cX9_fits 54 = .ok (.iconst 1, 1) := dk_4 (dk_at dksX9_fits_2 8 rfl rfl)
theorem dX9_fits_55 : decode cX9_fits 55 = .ok (.goto 4, 3) := dk_167 0 4 (dk_at dksX9_fits_2 9 rfl rfl)
theorem dX9_fits_58 : decode cX9_fits 58 = .ok (.iconst 0, 1) := dk_3 (dk_at dksX9_fits_2 12 rfl rfl)
theorem dX9_fits_59 : decode cX9_fits 59 = .ok (.iand, 1) := dk_126 (dk_at dksX9_fits_2 13 rfl rfl)
theorem dX9_fits_60 : decode cX9_fits 60 = .ok (.istore 4, 2) := dk_54 4 (dk_at dksX9_fits_2 14 rfl rfl)
theorem dX9_fits_62 : decode cX9_fits 62 = .ok (.aload_n 1, 1) := dk_43 (dk_at dksX9_fits_2 16 rfl rfl)
theorem dX9_fits_63 : decode cX9_fits 63 = .ok (.iload_n 3, 1) := dk_29 (dk_at dksX9_fits_2 17 rfl rfl)
theorem dX9_fits_64 : decode cX9_fits 64 = .ok (.iload 5, 2) := dk_21 5 (dk_at dksX9_fits_2 18 rfl rfl)
theorem dX9_fits_66 : decode cX9_fits 66 = .ok (.aload_n 0, 1) := dk_42 (dk_at dksX9_fits_2 20 rfl rfl)
theorem dX9_fits_67 : decode cX9_fits 67 = .ok (.getfield 18, 3) := dk_180 0 18 (dk_at dksX9_fits_2 21 rfl rfl)
theorem dX9_fits_70 : decode cX9_fits 70 = .ok (.invokevirtual 34, 3) := dk_182 0 34 (dk_at dksX9_fits_3 0 rfl rfl)
theorem dX9_fits_73 : decode cX9_fits 73 = .ok (.istore_n 3, 1) := dk_62 (dk_at dksX9_fits_3 3 rfl rfl)
theorem dX9_fits_74 : decode cX9_fits 74 = .ok (.iinc 5 1, 3) := dk_132 5 1 (dk_at dksX9_fits_3 4 rfl rfl)
theorem dX9_fits_77 : decode cX9_fits 77 = .ok (.goto (-69), 3) := dk_167 255 187 (dk_at dksX9_fits_3 7 rfl rfl)
theorem dX9_fits_80 : decode cX9_fits 80 = .ok (.iload 4, 2) := dk_21 4 (dk_at dksX9_fits_3 10 rfl rfl)
theorem dX9_fits_82 : decode cX9_fits 82 = .ok (.ifCond .ne 7, 3) := dk_154 0 7 (dk_at dksX9_fits_3 12 rfl rfl)
theorem dX9_fits_85 : decode cX9_fits 85 = .ok (.iconst 0, 1) := dk_3 (dk_at dksX9_fits_3 15 rfl rfl)
theorem dX9_fits_86 : decode cX9_fits 86 = .ok (.goto 31, 3) := dk_167 0 31 (dk_at dksX9_fits_3 16 rfl rfl)
theorem dX9_fits_89 : decode cX9_fits 89 = .ok (.iload_n 3, 1) := dk_29 (dk_at dksX9_fits_3 19 rfl rfl)
theorem dX9_fits_90 : decode cX9_fits 90 = .ok (.aload_n 0, 1) := dk_42 (dk_at dksX9_fits_3 20 rfl rfl)
theorem dX9_fits_91 : decode cX9_fits 91 = .ok (.getfield 9, 3) := dk_180 0 9 (dk_at dksX9_fits_3 21 rfl rfl)
theorem dX9_fits_94 : decode cX9_fits 94 = .ok (.if_icmp .ne 7, 3) := dk_160 0 7 (dk_at dksX9_fits_4 0 rfl rfl)
theorem dX9_fits_97 : decode cX9_fits 97 = .ok (.iconst 4, 1) := dk_7 (dk_at dksX9_fits_4 3 rfl rfl)
theorem dX9_fits_98 : decode cX9_fits 98 = .ok (.goto 19, 3) := dk_167 0 19 (dk_at dksX9_fits_4 4 rfl rfl)
theorem dX9_fits_101 : decode cX9_fits 101 = .ok (.iload_n 3, 1) := dk_29 (dk_at dksX9_fits_4 7 rfl rfl)
theorem dX9_fits_102 : decode cX9_fits 102 = .ok (.aload_n 0, 1) := dk_42 (dk_at dksX9_fits_4 8 rfl rfl)
theorem dX9_fits_103 : decode cX9_fits 103 = .ok (.getfield 9, 3) := dk_180 0 9 (dk_at dksX9_fits_4 9 rfl rfl)
theorem dX9_fits_106 : decode cX9_fits 106 = .ok (.invokestatic 38, 3) := dk_184 0 38 (dk_at dksX9_fits_4 12 rfl rfl)
theorem dX9_fits_109 : decode cX9_fits 109 = .ok (.ifCond .eq 7, 3) := dk_153 0 7 (dk_at dksX9_fits_4 15 rfl rfl)
theorem dX9_fits_112 : decode cX9_fits 112 = .ok (.iconst 1, 1) := dk_4 (dk_at dksX9_fits_4 18 rfl rfl)
theorem dX9_fits_113 : decode cX9_fits 113 = .ok (.goto 4, 3) := dk_167 0 4 (dk_at dksX9_fits_4 19 rfl rfl)
theorem dX9_fits_116 : decode cX9_fits 116 = .ok (.iconst 0, 1) := dk_3 (dk_at dksX9_fits_4 22 rfl rfl)
theorem dX9_fits_117 : decode cX9_fits 117 = .ok (.ireturn, 1) := dk_172 (dk_at dksX9_fits_4 23 rfl rfl)
theorem q67 : (Jvm.Cond.initialized "SevenRings$Piece") ∈ lw_all := lw_g (lw_at lw_m1 17 rfl) rfl
theorem q135 : (Jvm.Cond.fieldLinkNest "SevenRings$Piece" (28 : Nat) "SevenRings$Told" "warmths" "[B" "SevenRings") ∈ lw_tbl := lw_at lw_m1 85 rfl
theorem q567 : (Jvm.Cond.instantiable "SevenRings$Piece" (5 : Nat)) ∈ lw_all := lw_g (lw_at lw_m3 37 rfl) rfl
theorem q569 : (Jvm.Cond.instanceMethod ({ cls := "SevenRings$Piece", name := "<init>", desc := "(IIZII)V" } : Jvm.MethodName)) ∈ lw_all := lw_g (lw_at lw_m3 39 rfl) rfl
theorem q570 : (Jvm.Cond.code ({ cls := "SevenRings$Piece", name := "<init>", desc := "(IIZII)V" } : Jvm.MethodName) prog_9_method_1_code (6 : Nat) (Option.none : Option Jvm.ClassFile.FieldType)) ∈ lw_all := lw_g (lw_at lw_m3 40 rfl) rfl
theorem q571 : (Jvm.Cond.methodLink "SevenRings$Piece" (3 : Nat) ({ cls := "java/lang/Object", name := "<init>", desc := "()V" } : Jvm.MethodName)) ∈ lw_all := lw_g (lw_at lw_m3 41 rfl) rfl
theorem q572 : (Jvm.Cond.fieldLink "SevenRings$Piece" (9 : Nat) "SevenRings$Piece" "found" "I") ∈ lw_all := lw_g (lw_at lw_m3 42 rfl) rfl
theorem q573 : (Jvm.Cond.fieldLink "SevenRings$Piece" (15 : Nat) "SevenRings$Piece" "months" "I") ∈ lw_all := lw_g (lw_at lw_m3 43 rfl) rfl
theorem q574 : (Jvm.Cond.fieldLink "SevenRings$Piece" (18 : Nat) "SevenRings$Piece" "high" "Z") ∈ lw_all := lw_g (lw_at lw_m3 44 rfl) rfl
theorem q575 : (Jvm.Cond.fieldLink "SevenRings$Piece" (22 : Nat) "SevenRings$Piece" "age" "I") ∈ lw_all := lw_g (lw_at lw_m3 45 rfl) rfl
theorem q576 : (Jvm.Cond.fieldLink "SevenRings$Piece" (25 : Nat) "SevenRings$Piece" "need" "I") ∈ lw_all := lw_g (lw_at lw_m3 46 rfl) rfl
theorem q577 : (Jvm.Cond.laysFinal "SevenRings$Piece" "SevenRings$Piece" "found" "I") ∈ lw_all := lw_g (lw_at lw_m3 47 rfl) rfl
theorem q578 : (Jvm.Cond.soleField "SevenRings$Piece" "found") ∈ lw_all := lw_g (lw_at lw_m3 48 rfl) rfl
theorem q579 : (Jvm.Cond.laysFinal "SevenRings$Piece" "SevenRings$Piece" "months" "I") ∈ lw_all := lw_g (lw_at lw_m3 49 rfl) rfl
theorem q580 : (Jvm.Cond.soleField "SevenRings$Piece" "months") ∈ lw_all := lw_g (lw_at lw_m3 50 rfl) rfl
theorem q581 : (Jvm.Cond.laysFinal "SevenRings$Piece" "SevenRings$Piece" "high" "Z") ∈ lw_all := lw_g (lw_at lw_m3 51 rfl) rfl
theorem q582 : (Jvm.Cond.soleField "SevenRings$Piece" "high") ∈ lw_all := lw_g (lw_at lw_m3 52 rfl) rfl
theorem q583 : (Jvm.Cond.laysFinal "SevenRings$Piece" "SevenRings$Piece" "age" "I") ∈ lw_all := lw_g (lw_at lw_m3 53 rfl) rfl
theorem q584 : (Jvm.Cond.soleField "SevenRings$Piece" "age") ∈ lw_all := lw_g (lw_at lw_m3 54 rfl) rfl
theorem q585 : (Jvm.Cond.laysFinal "SevenRings$Piece" "SevenRings$Piece" "need" "I") ∈ lw_all := lw_g (lw_at lw_m3 55 rfl) rfl
theorem q586 : (Jvm.Cond.soleField "SevenRings$Piece" "need") ∈ lw_all := lw_g (lw_at lw_m3 56 rfl) rfl
theorem q587 : (Jvm.Cond.superclass "SevenRings$Piece" "java/lang/Object") ∈ lw_all := lw_g (lw_at lw_m3 57 rfl) rfl
theorem q632 : (Jvm.Cond.selects "SevenRings$Piece" ({ cls := "java/lang/Object", name := "getClass", desc := "()Ljava/lang/Class;" } : Jvm.MethodName) ({ cls := "java/lang/Object", name := "getClass", desc := "()Ljava/lang/Class;" } : Jvm.MethodName)) ∈ lw_all := lw_g (lw_at lw_m3 102 rfl) rfl
theorem q691 : (Jvm.Cond.instanceMethod ({ cls := "SevenRings$Piece", name := "fits", desc := "(LSevenRings$Told;I)I" } : Jvm.MethodName)) ∈ lw_all := lw_g (lw_at lw_m3 161 rfl) rfl
theorem q692 : (Jvm.Cond.selects "SevenRings$Piece" ({ cls := "SevenRings$Piece", name := "fits", desc := "(LSevenRings$Told;I)I" } : Jvm.MethodName) ({ cls := "SevenRings$Piece", name := "fits", desc := "(LSevenRings$Told;I)I" } : Jvm.MethodName)) ∈ lw_all := lw_g (lw_at lw_m3 162 rfl) rfl
theorem q693 : (Jvm.Cond.code ({ cls := "SevenRings$Piece", name := "fits", desc := "(LSevenRings$Told;I)I" } : Jvm.MethodName) prog_9_method_2_code (6 : Nat) (Option.some Jvm.ClassFile.FieldType.int)) ∈ lw_all := lw_g (lw_at lw_m3 163 rfl) rfl
theorem q694 : (Jvm.Cond.methodLink "SevenRings$Piece" (34 : Nat) ({ cls := "SevenRings$Told", name := "drift", desc := "(IIZ)I" } : Jvm.MethodName)) ∈ lw_all := lw_g (lw_at lw_m3 164 rfl) rfl
theorem q695 : (Jvm.Cond.methodLinkNest "SevenRings$Piece" (38 : Nat) ({ cls := "SevenRings", name := "areBeside", desc := "(II)Z" } : Jvm.MethodName) "SevenRings") ∈ lw_tbl := lw_at lw_m3 165 rfl
theorem q1422 : (Jvm.Cond.castable "SevenRings$Piece" "java/lang/Object") ∈ lw_tbl := lw_at lw_m6 172 rfl
theorem in_X9 : ∀ w ∈ wsX90, w ∈ lw_all := lw_in wsX90 [577, 579, 581, 583, 585] (by decide +kernel) (by decide +kernel)

theorem q50 : (Jvm.Cond.initialized "SevenRingsLaw") ∈ lw_all := lw_g (lw_at lw_m1 0 rfl) rfl
set_option maxRecDepth 100000
theorem q83 : (Jvm.Cond.classLink "SevenRingsLaw" (7 : Nat) "SevenRings") ∈ lw_all := lw_g (lw_at lw_m1 33 rfl) rfl
theorem q85 : (Jvm.Cond.methodLink "SevenRingsLaw" (9 : Nat) ({ cls := "SevenRings", name := "<init>", desc := "()V" } : Jvm.MethodName)) ∈ lw_all := lw_g (lw_at lw_m1 35 rfl) rfl
theorem q326 : (Jvm.Cond.methodLink "SevenRingsLaw" (13 : Nat) ({ cls := "SevenRings", name := "set", desc := "(II)I" } : Jvm.MethodName)) ∈ lw_all := lw_g (lw_at lw_m2 36 rfl) rfl
theorem q336 : (Jvm.Cond.methodLink "SevenRingsLaw" (18 : Nat) ({ cls := "SevenRings", name := "far", desc := "(I)I" } : Jvm.MethodName)) ∈ lw_all := lw_g (lw_at lw_m2 46 rfl) rfl
theorem q344 : (Jvm.Cond.methodLink "SevenRingsLaw" (23 : Nat) ({ cls := "SevenRings", name := "ring", desc := "(III)I" } : Jvm.MethodName)) ∈ lw_all := lw_g (lw_at lw_m2 54 rfl) rfl
theorem q348 : (Jvm.Cond.methodLink "SevenRingsLaw" (30 : Nat) ({ cls := "SevenRings", name := "type", desc := "(JI)I" } : Jvm.MethodName)) ∈ lw_all := lw_g (lw_at lw_m2 58 rfl) rfl
theorem q353 : (Jvm.Cond.methodLink "SevenRingsLaw" (35 : Nat) ({ cls := "SevenRings", name := "rings", desc := "()I" } : Jvm.MethodName)) ∈ lw_all := lw_g (lw_at lw_m2 63 rfl) rfl
theorem q387 : (Jvm.Cond.methodLink "SevenRingsLaw" (57 : Nat) ({ cls := "SevenRings", name := "sea", desc := "(II)I" } : Jvm.MethodName)) ∈ lw_all := lw_g (lw_at lw_m2 97 rfl) rfl
theorem q395 : (Jvm.Cond.methodLink "SevenRingsLaw" (40 : Nat) ({ cls := "SevenRings", name := "ways", desc := "()I" } : Jvm.MethodName)) ∈ lw_all := lw_g (lw_at lw_m2 105 rfl) rfl
theorem q485 : (Jvm.Cond.methodLink "SevenRingsLaw" (44 : Nat) ({ cls := "SevenRings", name := "weight", desc := "()J" } : Jvm.MethodName)) ∈ lw_all := lw_g (lw_at lw_m2 195 rfl) rfl
theorem q489 : (Jvm.Cond.methodLink "SevenRingsLaw" (49 : Nat) ({ cls := "SevenRings", name := "way", desc := "(II)I" } : Jvm.MethodName)) ∈ lw_all := lw_g (lw_at lw_m2 199 rfl) rfl
theorem q524 : (Jvm.Cond.methodLink "SevenRingsLaw" (53 : Nat) ({ cls := "SevenRings", name := "may", desc := "(II)I" } : Jvm.MethodName)) ∈ lw_all := lw_g (lw_at lw_m2 234 rfl) rfl
theorem q544 : (Jvm.Cond.methodLink "SevenRingsLaw" (61 : Nat) ({ cls := "SevenRings", name := "cell", desc := "(IIII)I" } : Jvm.MethodName)) ∈ lw_all := lw_g (lw_at lw_m3 14 rfl) rfl
theorem q548 : (Jvm.Cond.methodLink "SevenRingsLaw" (66 : Nat) ({ cls := "SevenRings", name := "depth", desc := "(II)I" } : Jvm.MethodName)) ∈ lw_all := lw_g (lw_at lw_m3 18 rfl) rfl
theorem q552 : (Jvm.Cond.methodLink "SevenRingsLaw" (70 : Nat) ({ cls := "SevenRings", name := "piece", desc := "(IIIII)I" } : Jvm.MethodName)) ∈ lw_all := lw_g (lw_at lw_m3 22 rfl) rfl
theorem q654 : (Jvm.Cond.methodLink "SevenRingsLaw" (75 : Nat) ({ cls := "SevenRings", name := "drift", desc := "(III)I" } : Jvm.MethodName)) ∈ lw_all := lw_g (lw_at lw_m3 124 rfl) rfl
theorem q667 : (Jvm.Cond.methodLink "SevenRingsLaw" (79 : Nat) ({ cls := "SevenRings", name := "fits", desc := "(II)I" } : Jvm.MethodName)) ∈ lw_all := lw_g (lw_at lw_m3 137 rfl) rfl
theorem q698 : (Jvm.Cond.methodLink "SevenRingsLaw" (83 : Nat) ({ cls := "SevenRings", name := "drag", desc := "(II)I" } : Jvm.MethodName)) ∈ lw_all := lw_g (lw_at lw_m3 168 rfl) rfl
theorem q716 : (Jvm.Cond.methodLink "SevenRingsLaw" (100 : Nat) ({ cls := "SevenRings", name := "clear", desc := "()I" } : Jvm.MethodName)) ∈ lw_all := lw_g (lw_at lw_m3 186 rfl) rfl
theorem q729 : (Jvm.Cond.methodLink "SevenRingsLaw" (87 : Nat) ({ cls := "SevenRings", name := "odds", desc := "(II)J" } : Jvm.MethodName)) ∈ lw_all := lw_g (lw_at lw_m3 199 rfl) rfl
theorem q757 : (Jvm.Cond.methodLink "SevenRingsLaw" (92 : Nat) ({ cls := "SevenRings", name := "where", desc := "(I)I" } : Jvm.MethodName)) ∈ lw_all := lw_g (lw_at lw_m3 227 rfl) rfl
theorem q761 : (Jvm.Cond.methodLink "SevenRingsLaw" (96 : Nat) ({ cls := "SevenRings", name := "count", desc := "(I)I" } : Jvm.MethodName)) ∈ lw_all := lw_g (lw_at lw_m3 231 rfl) rfl
theorem q765 : (Jvm.Cond.methodLink "SevenRingsLaw" (104 : Nat) ({ cls := "SevenRings", name := "moves", desc := "(I)I" } : Jvm.MethodName)) ∈ lw_all := lw_g (lw_at lw_m3 235 rfl) rfl
theorem q781 : (Jvm.Cond.methodLink "SevenRingsLaw" (108 : Nat) ({ cls := "SevenRings", name := "most", desc := "()I" } : Jvm.MethodName)) ∈ lw_all := lw_g (lw_at lw_m4 11 rfl) rfl
theorem q786 : (Jvm.Cond.methodLink "SevenRingsLaw" (112 : Nat) ({ cls := "SevenRings", name := "next", desc := "()I" } : Jvm.MethodName)) ∈ lw_all := lw_g (lw_at lw_m4 16 rfl) rfl
theorem q794 : (Jvm.Cond.methodLink "SevenRingsLaw" (116 : Nat) ({ cls := "SevenRings", name := "should", desc := "(IIII)J" } : Jvm.MethodName)) ∈ lw_all := lw_g (lw_at lw_m4 24 rfl) rfl
theorem q798 : (Jvm.Cond.methodLink "SevenRingsLaw" (121 : Nat) ({ cls := "SevenRings", name := "held", desc := "(III)I" } : Jvm.MethodName)) ∈ lw_all := lw_g (lw_at lw_m4 28 rfl) rfl
theorem q850 : (Jvm.Cond.methodLink "SevenRingsLaw" (145 : Nat) ({ cls := "SevenRings", name := "film", desc := "(IIII)I" } : Jvm.MethodName)) ∈ lw_all := lw_g (lw_at lw_m4 80 rfl) rfl
theorem q858 : (Jvm.Cond.methodLink "SevenRingsLaw" (125 : Nat) ({ cls := "SevenRings", name := "image", desc := "()I" } : Jvm.MethodName)) ∈ lw_all := lw_g (lw_at lw_m4 88 rfl) rfl
theorem q889 : (Jvm.Cond.methodLink "SevenRingsLaw" (129 : Nat) ({ cls := "SevenRings", name := "restore", desc := "()I" } : Jvm.MethodName)) ∈ lw_all := lw_g (lw_at lw_m4 119 rfl) rfl
theorem q893 : (Jvm.Cond.methodLink "SevenRingsLaw" (133 : Nat) ({ cls := "SevenRings", name := "sheet", desc := "(III)I" } : Jvm.MethodName)) ∈ lw_all := lw_g (lw_at lw_m4 123 rfl) rfl
theorem q927 : (Jvm.Cond.methodLink "SevenRingsLaw" (137 : Nat) ({ cls := "SevenRings", name := "drop", desc := "(I)I" } : Jvm.MethodName)) ∈ lw_all := lw_g (lw_at lw_m4 157 rfl) rfl
theorem q931 : (Jvm.Cond.methodLink "SevenRingsLaw" (141 : Nat) ({ cls := "SevenRings", name := "item", desc := "(IIII)I" } : Jvm.MethodName)) ∈ lw_all := lw_g (lw_at lw_m4 161 rfl) rfl
theorem q996 : (Jvm.Cond.methodLink "SevenRingsLaw" (149 : Nat) ({ cls := "SevenRings", name := "copy", desc := "(IIIII)I" } : Jvm.MethodName)) ∈ lw_all := lw_g (lw_at lw_m4 226 rfl) rfl
theorem q1015 : (Jvm.Cond.classLink "SevenRingsLaw" (10 : Nat) "SevenRingsModel") ∈ lw_all := lw_g (lw_at lw_m5 5 rfl) rfl
theorem q1017 : (Jvm.Cond.methodLink "SevenRingsLaw" (12 : Nat) ({ cls := "SevenRingsModel", name := "<init>", desc := "()V" } : Jvm.MethodName)) ∈ lw_all := lw_g (lw_at lw_m5 7 rfl) rfl
theorem q1148 : (Jvm.Cond.methodLink "SevenRingsLaw" (17 : Nat) ({ cls := "SevenRingsModel", name := "set", desc := "(II)I" } : Jvm.MethodName)) ∈ lw_all := lw_g (lw_at lw_m5 138 rfl) rfl
theorem q1156 : (Jvm.Cond.methodLink "SevenRingsLaw" (22 : Nat) ({ cls := "SevenRingsModel", name := "far", desc := "(I)I" } : Jvm.MethodName)) ∈ lw_all := lw_g (lw_at lw_m5 146 rfl) rfl
theorem q1168 : (Jvm.Cond.methodLink "SevenRingsLaw" (27 : Nat) ({ cls := "SevenRingsModel", name := "ring", desc := "(III)I" } : Jvm.MethodName)) ∈ lw_all := lw_g (lw_at lw_m5 158 rfl) rfl
theorem q1176 : (Jvm.Cond.methodLink "SevenRingsLaw" (34 : Nat) ({ cls := "SevenRingsModel", name := "type", desc := "(JI)I" } : Jvm.MethodName)) ∈ lw_all := lw_g (lw_at lw_m5 166 rfl) rfl
theorem q1184 : (Jvm.Cond.methodLink "SevenRingsLaw" (39 : Nat) ({ cls := "SevenRingsModel", name := "rings", desc := "()I" } : Jvm.MethodName)) ∈ lw_all := lw_g (lw_at lw_m5 174 rfl) rfl
theorem q1202 : (Jvm.Cond.methodLink "SevenRingsLaw" (60 : Nat) ({ cls := "SevenRingsModel", name := "sea", desc := "(II)I" } : Jvm.MethodName)) ∈ lw_all := lw_g (lw_at lw_m5 192 rfl) rfl
theorem q1207 : (Jvm.Cond.methodLink "SevenRingsLaw" (43 : Nat) ({ cls := "SevenRingsModel", name := "ways", desc := "()I" } : Jvm.MethodName)) ∈ lw_all := lw_g (lw_at lw_m5 197 rfl) rfl
theorem q1240 : (Jvm.Cond.methodLink "SevenRingsLaw" (48 : Nat) ({ cls := "SevenRingsModel", name := "weight", desc := "()J" } : Jvm.MethodName)) ∈ lw_all := lw_g (lw_at lw_m5 230 rfl) rfl
theorem q1248 : (Jvm.Cond.methodLink "SevenRingsLaw" (52 : Nat) ({ cls := "SevenRingsModel", name := "way", desc := "(II)I" } : Jvm.MethodName)) ∈ lw_all := lw_g (lw_at lw_m5 238 rfl) rfl
theorem q1257 : (Jvm.Cond.methodLink "SevenRingsLaw" (56 : Nat) ({ cls := "SevenRingsModel", name := "may", desc := "(II)I" } : Jvm.MethodName)) ∈ lw_all := lw_g (lw_at lw_m6 7 rfl) rfl
theorem q1261 : (Jvm.Cond.methodLink "SevenRingsLaw" (65 : Nat) ({ cls := "SevenRingsModel", name := "cell", desc := "(IIII)I" } : Jvm.MethodName)) ∈ lw_all := lw_g (lw_at lw_m6 11 rfl) rfl
theorem q1265 : (Jvm.Cond.methodLink "SevenRingsLaw" (69 : Nat) ({ cls := "SevenRingsModel", name := "depth", desc := "(II)I" } : Jvm.MethodName)) ∈ lw_all := lw_g (lw_at lw_m6 15 rfl) rfl
theorem q1269 : (Jvm.Cond.methodLink "SevenRingsLaw" (74 : Nat) ({ cls := "SevenRingsModel", name := "piece", desc := "(IIIII)I" } : Jvm.MethodName)) ∈ lw_all := lw_g (lw_at lw_m6 19 rfl) rfl
theorem q1274 : (Jvm.Cond.methodLink "SevenRingsLaw" (78 : Nat) ({ cls := "SevenRingsModel", name := "drift", desc := "(III)I" } : Jvm.MethodName)) ∈ lw_all := lw_g (lw_at lw_m6 24 rfl) rfl
theorem q1286 : (Jvm.Cond.methodLink "SevenRingsLaw" (82 : Nat) ({ cls := "SevenRingsModel", name := "fits", desc := "(II)I" } : Jvm.MethodName)) ∈ lw_all := lw_g (lw_at lw_m6 36 rfl) rfl
theorem q1294 : (Jvm.Cond.methodLink "SevenRingsLaw" (86 : Nat) ({ cls := "SevenRingsModel", name := "drag", desc := "(II)I" } : Jvm.MethodName)) ∈ lw_all := lw_g (lw_at lw_m6 44 rfl) rfl
theorem q1298 : (Jvm.Cond.methodLink "SevenRingsLaw" (103 : Nat) ({ cls := "SevenRingsModel", name := "clear", desc := "()I" } : Jvm.MethodName)) ∈ lw_all := lw_g (lw_at lw_m6 48 rfl) rfl
theorem q1302 : (Jvm.Cond.methodLink "SevenRingsLaw" (91 : Nat) ({ cls := "SevenRingsModel", name := "odds", desc := "(II)J" } : Jvm.MethodName)) ∈ lw_all := lw_g (lw_at lw_m6 52 rfl) rfl
theorem q1318 : (Jvm.Cond.methodLink "SevenRingsLaw" (95 : Nat) ({ cls := "SevenRingsModel", name := "where", desc := "(I)I" } : Jvm.MethodName)) ∈ lw_all := lw_g (lw_at lw_m6 68 rfl) rfl
theorem q1322 : (Jvm.Cond.methodLink "SevenRingsLaw" (99 : Nat) ({ cls := "SevenRingsModel", name := "count", desc := "(I)I" } : Jvm.MethodName)) ∈ lw_all := lw_g (lw_at lw_m6 72 rfl) rfl
theorem q1327 : (Jvm.Cond.methodLink "SevenRingsLaw" (107 : Nat) ({ cls := "SevenRingsModel", name := "moves", desc := "(I)I" } : Jvm.MethodName)) ∈ lw_all := lw_g (lw_at lw_m6 77 rfl) rfl
theorem q1345 : (Jvm.Cond.methodLink "SevenRingsLaw" (111 : Nat) ({ cls := "SevenRingsModel", name := "most", desc := "()I" } : Jvm.MethodName)) ∈ lw_all := lw_g (lw_at lw_m6 95 rfl) rfl
theorem q1349 : (Jvm.Cond.methodLink "SevenRingsLaw" (115 : Nat) ({ cls := "SevenRingsModel", name := "next", desc := "()I" } : Jvm.MethodName)) ∈ lw_all := lw_g (lw_at lw_m6 99 rfl) rfl
theorem q1353 : (Jvm.Cond.methodLink "SevenRingsLaw" (120 : Nat) ({ cls := "SevenRingsModel", name := "should", desc := "(IIII)J" } : Jvm.MethodName)) ∈ lw_all := lw_g (lw_at lw_m6 103 rfl) rfl
theorem q1357 : (Jvm.Cond.methodLink "SevenRingsLaw" (124 : Nat) ({ cls := "SevenRingsModel", name := "held", desc := "(III)I" } : Jvm.MethodName)) ∈ lw_all := lw_g (lw_at lw_m6 107 rfl) rfl
theorem q1376 : (Jvm.Cond.methodLink "SevenRingsLaw" (128 : Nat) ({ cls := "SevenRingsModel", name := "image", desc := "()I" } : Jvm.MethodName)) ∈ lw_all := lw_g (lw_at lw_m6 126 rfl) rfl
theorem q1383 : (Jvm.Cond.methodLink "SevenRingsLaw" (132 : Nat) ({ cls := "SevenRingsModel", name := "restore", desc := "()I" } : Jvm.MethodName)) ∈ lw_all := lw_g (lw_at lw_m6 133 rfl) rfl
theorem q1390 : (Jvm.Cond.methodLink "SevenRingsLaw" (136 : Nat) ({ cls := "SevenRingsModel", name := "sheet", desc := "(III)I" } : Jvm.MethodName)) ∈ lw_all := lw_g (lw_at lw_m6 140 rfl) rfl
theorem q1394 : (Jvm.Cond.methodLink "SevenRingsLaw" (140 : Nat) ({ cls := "SevenRingsModel", name := "drop", desc := "(I)I" } : Jvm.MethodName)) ∈ lw_all := lw_g (lw_at lw_m6 144 rfl) rfl
theorem q1398 : (Jvm.Cond.methodLink "SevenRingsLaw" (144 : Nat) ({ cls := "SevenRingsModel", name := "item", desc := "(IIII)I" } : Jvm.MethodName)) ∈ lw_all := lw_g (lw_at lw_m6 148 rfl) rfl
theorem q1402 : (Jvm.Cond.methodLink "SevenRingsLaw" (148 : Nat) ({ cls := "SevenRingsModel", name := "film", desc := "(IIII)I" } : Jvm.MethodName)) ∈ lw_all := lw_g (lw_at lw_m6 152 rfl) rfl
theorem q1406 : (Jvm.Cond.methodLink "SevenRingsLaw" (152 : Nat) ({ cls := "SevenRingsModel", name := "copy", desc := "(IIIII)I" } : Jvm.MethodName)) ∈ lw_all := lw_g (lw_at lw_m6 156 rfl) rfl
theorem q1410 : (Jvm.Cond.constantLong "SevenRingsLaw" (28 : Nat) (4294967295 : Int64)) ∈ lw_all := lw_g (lw_at lw_m6 160 rfl) rfl

theorem q1437 : (Jvm.Cond.castable "[B" "java/lang/Object") ∈ lw_tbl := lw_at lw_m6 187 rfl
set_option maxRecDepth 100000

theorem q1436 : (Jvm.Cond.castable "[I" "java/lang/Object") ∈ lw_tbl := lw_at lw_m6 186 rfl
set_option maxRecDepth 100000

theorem q1439 : (Jvm.Cond.castable "[J" "java/lang/Object") ∈ lw_tbl := lw_at lw_m6 189 rfl
set_option maxRecDepth 100000

theorem q1438 : (Jvm.Cond.castable "[LSevenRings$Sheet;" "java/lang/Object") ∈ lw_tbl := lw_at lw_m6 188 rfl
set_option maxRecDepth 100000

theorem q1433 : (Jvm.Cond.sameMethod "[Ljava/lang/Object;" "java/lang/Object" "getClass" "()Ljava/lang/Class;") ∈ lw_all := lw_g (lw_at lw_m6 183 rfl) rfl
set_option maxRecDepth 100000
theorem q1434 : (Jvm.Cond.selects "[Ljava/lang/Object;" ({ cls := "java/lang/Object", name := "getClass", desc := "()Ljava/lang/Class;" } : Jvm.MethodName) ({ cls := "java/lang/Object", name := "getClass", desc := "()Ljava/lang/Class;" } : Jvm.MethodName)) ∈ lw_all := lw_g (lw_at lw_m6 184 rfl) rfl
theorem q1441 : (Jvm.Cond.castable "[Ljava/lang/Object;" "java/lang/Object") ∈ lw_tbl := lw_at lw_m6 191 rfl

theorem q1442 : (Jvm.Cond.castable "[S" "java/lang/Object") ∈ lw_tbl := lw_at lw_m6 192 rfl
set_option maxRecDepth 100000

theorem q1440 : (Jvm.Cond.castable "[Z" "java/lang/Object") ∈ lw_tbl := lw_at lw_m6 190 rfl
set_option maxRecDepth 100000

theorem q61 : (Jvm.Cond.initialized "java/lang/System") ∈ lw_all := lw_g (lw_at lw_m1 11 rfl) rfl
set_option maxRecDepth 100000
theorem q358 : (Jvm.Cond.static ({ cls := "java/lang/System", name := "arraycopy", desc := "(Ljava/lang/Object;ILjava/lang/Object;II)V" } : Jvm.MethodName)) ∈ lw_all := lw_g (lw_at lw_m2 68 rfl) rfl
theorem q359 : (Jvm.Cond.native ({ cls := "java/lang/System", name := "arraycopy", desc := "(Ljava/lang/Object;ILjava/lang/Object;II)V" } : Jvm.MethodName)) ∈ lw_all := lw_g (lw_at lw_m2 69 rfl) rfl

theorem q880 : (Jvm.Cond.interfaceMethod "java/util/Collection" "java/util/Collection" "toArray" "()[Ljava/lang/Object;") ∈ lw_tbl := lw_at lw_m4 110 rfl
set_option maxRecDepth 100000
theorem q881 : (Jvm.Cond.declares ({ cls := "java/util/Collection", name := "toArray", desc := "()[Ljava/lang/Object;" } : Jvm.MethodName)) ∈ lw_tbl := lw_at lw_m4 111 rfl

theorem q558 : (Jvm.Cond.interfaceMethod "java/util/List" "java/util/List" "size" "()I") ∈ lw_tbl := lw_at lw_m3 28 rfl
set_option maxRecDepth 100000
theorem q559 : (Jvm.Cond.declares ({ cls := "java/util/List", name := "size", desc := "()I" } : Jvm.MethodName)) ∈ lw_tbl := lw_at lw_m3 29 rfl
theorem q590 : (Jvm.Cond.interfaceMethod "java/util/List" "java/util/List" "add" "(Ljava/lang/Object;)Z") ∈ lw_tbl := lw_at lw_m3 60 rfl
theorem q591 : (Jvm.Cond.declares ({ cls := "java/util/List", name := "add", desc := "(Ljava/lang/Object;)Z" } : Jvm.MethodName)) ∈ lw_tbl := lw_at lw_m3 61 rfl
theorem q673 : (Jvm.Cond.interfaceMethod "java/util/List" "java/util/List" "get" "(I)Ljava/lang/Object;") ∈ lw_tbl := lw_at lw_m3 143 rfl
theorem q674 : (Jvm.Cond.declares ({ cls := "java/util/List", name := "get", desc := "(I)Ljava/lang/Object;" } : Jvm.MethodName)) ∈ lw_tbl := lw_at lw_m3 144 rfl
theorem q722 : (Jvm.Cond.interfaceMethod "java/util/List" "java/util/List" "clear" "()V") ∈ lw_tbl := lw_at lw_m3 192 rfl
theorem q723 : (Jvm.Cond.declares ({ cls := "java/util/List", name := "clear", desc := "()V" } : Jvm.MethodName)) ∈ lw_tbl := lw_at lw_m3 193 rfl
theorem q871 : (Jvm.Cond.interfaceMethod "java/util/List" "java/util/List" "addAll" "(Ljava/util/Collection;)Z") ∈ lw_tbl := lw_at lw_m4 101 rfl
theorem q872 : (Jvm.Cond.declares ({ cls := "java/util/List", name := "addAll", desc := "(Ljava/util/Collection;)Z" } : Jvm.MethodName)) ∈ lw_tbl := lw_at lw_m4 102 rfl

theorem q123 : (Jvm.Cond.arrayClass Jvm.ClassFile.FieldType.int) ∈ lw_all := lw_g (lw_at lw_m1 73 rfl) rfl
set_option maxRecDepth 100000
theorem q124 : (Jvm.Cond.arrayClass Jvm.ClassFile.FieldType.byte) ∈ lw_all := lw_g (lw_at lw_m1 74 rfl) rfl
theorem q241 : (Jvm.Cond.arrayOver (Jvm.ClassFile.FieldType.object "SevenRings$Sheet")) ∈ lw_tbl := lw_at lw_m1 191 rfl
theorem q252 : (Jvm.Cond.arrayClass Jvm.ClassFile.FieldType.long) ∈ lw_all := lw_g (lw_at lw_m1 202 rfl) rfl
theorem q543 : (Jvm.Cond.arrayClass Jvm.ClassFile.FieldType.boolean) ∈ lw_all := lw_g (lw_at lw_m3 13 rfl) rfl
theorem q648 : (Jvm.Cond.arrayOver (Jvm.ClassFile.FieldType.object "java/lang/Object")) ∈ lw_tbl := lw_at lw_m3 118 rfl
theorem q926 : (Jvm.Cond.arrayClass Jvm.ClassFile.FieldType.short) ∈ lw_all := lw_g (lw_at lw_m4 156 rfl) rfl
