/-! java/util/AbstractCollection -/
set_option maxRecDepth 100000
def RJ0 : String := "java/util/AbstractCollection"
abbrev cJ0_init : ByteArray := prog_37_method_1_code
def yJ0_init : MethodName := ⟨RJ0, "<init>", "()V"⟩
theorem dJ0_init_0 : decode cJ0_init 0 = .ok (.aload_n 0, 1) := by decide +kernel
theorem dJ0_init_1 : decode cJ0_init 1 = .ok (.invokespecial 1, 3) := by decide +kernel
theorem dJ0_init_4 : decode cJ0_init 4 = .ok (.return_, 1) := by decide +kernel
theorem q70 : (Jvm.Cond.initialized "java/util/AbstractCollection") ∈ lw_all := lw_g (lw_at lw_m1 2 rfl) rfl
theorem q144 : (Jvm.Cond.instanceMethod ({ cls := "java/util/AbstractCollection", name := "<init>", desc := "()V" } : Jvm.MethodName)) ∈ lw_all := lw_g (lw_at lw_m1 76 rfl) rfl
theorem q145 : (Jvm.Cond.code ({ cls := "java/util/AbstractCollection", name := "<init>", desc := "()V" } : Jvm.MethodName) prog_37_method_1_code (1 : Nat) (Option.none : Option Jvm.ClassFile.FieldType)) ∈ lw_all := lw_g (lw_at lw_m1 77 rfl) rfl
theorem q146 : (Jvm.Cond.methodLink "java/util/AbstractCollection" (1 : Nat) ({ cls := "java/lang/Object", name := "<init>", desc := "()V" } : Jvm.MethodName)) ∈ lw_all := lw_g (lw_at lw_m1 78 rfl) rfl

/-! java/util/AbstractList -/
set_option maxRecDepth 100000
def RJ1 : String := "java/util/AbstractList"
abbrev cJ1_init : ByteArray := prog_38_method_1_code
def yJ1_init : MethodName := ⟨RJ1, "<init>", "()V"⟩
def dkwJ1_init_0 : List UInt8 := [42, 183, 0, 1, 42, 3, 181, 0, 7, 177]
abbrev dktJ1_init_0 : List UInt8 := dkwJ1_init_0 ++ []
theorem dksJ1_init_0 : cJ1_init.data.toList.drop 0 = dktJ1_init_0 := by decide +kernel
theorem dJ1_init_0 : decode cJ1_init 0 = .ok (.aload_n 0, 1) := dk_42 (dk_at dksJ1_init_0 0 rfl rfl)
theorem dJ1_init_1 : decode cJ1_init 1 = .ok (.invokespecial 1, 3) := dk_183 0 1 (dk_at dksJ1_init_0 1 rfl rfl)
theorem dJ1_init_4 : decode cJ1_init 4 = .ok (.aload_n 0, 1) := dk_42 (dk_at dksJ1_init_0 4 rfl rfl)
theorem dJ1_init_5 : decode cJ1_init 5 = .ok (.iconst 0, 1) := dk_3 (dk_at dksJ1_init_0 5 rfl rfl)
theorem dJ1_init_6 : decode cJ1_init 6 = .ok (.putfield 7, 3) := dk_181 0 7 (dk_at dksJ1_init_0 6 rfl rfl)
theorem dJ1_init_9 : decode cJ1_init 9 = .ok (.return_, 1) := dk_177 (dk_at dksJ1_init_0 9 rfl rfl)
theorem q71 : (Jvm.Cond.initialized "java/util/AbstractList") ∈ lw_all := lw_g (lw_at lw_m1 3 rfl) rfl
theorem q141 : (Jvm.Cond.instanceMethod ({ cls := "java/util/AbstractList", name := "<init>", desc := "()V" } : Jvm.MethodName)) ∈ lw_all := lw_g (lw_at lw_m1 73 rfl) rfl
theorem q142 : (Jvm.Cond.code ({ cls := "java/util/AbstractList", name := "<init>", desc := "()V" } : Jvm.MethodName) prog_38_method_1_code (1 : Nat) (Option.none : Option Jvm.ClassFile.FieldType)) ∈ lw_all := lw_g (lw_at lw_m1 74 rfl) rfl
theorem q143 : (Jvm.Cond.methodLink "java/util/AbstractList" (1 : Nat) ({ cls := "java/util/AbstractCollection", name := "<init>", desc := "()V" } : Jvm.MethodName)) ∈ lw_all := lw_g (lw_at lw_m1 75 rfl) rfl
theorem q151 : (Jvm.Cond.fieldLink "java/util/AbstractList" (7 : Nat) "java/util/AbstractList" "modCount" "I") ∈ lw_all := lw_g (lw_at lw_m1 83 rfl) rfl
theorem q159 : (Jvm.Cond.soleField "java/util/AbstractList" "modCount") ∈ lw_all := lw_g (lw_at lw_m1 91 rfl) rfl

/-! java/lang/Integer -/
set_option maxRecDepth 100000
def RJ10 : String := "java/lang/Integer"
abbrev cJ10_bitCount : ByteArray := prog_28_method_49_code
def yJ10_bitCount : MethodName := ⟨RJ10, "bitCount", "(I)I"⟩
def dkwJ10_bitCount_2 : List UInt8 := [26, 16, 63, 126, 172]
abbrev dktJ10_bitCount_2 : List UInt8 := dkwJ10_bitCount_2 ++ []
def dkwJ10_bitCount_1 : List UInt8 := [26, 26, 7, 124, 96, 19, 1, 11, 126, 59, 26, 26, 16, 8, 124, 96, 59, 26, 26, 16, 16, 124, 96, 59]
abbrev dktJ10_bitCount_1 : List UInt8 := dkwJ10_bitCount_1 ++ dktJ10_bitCount_2
def dkwJ10_bitCount_0 : List UInt8 := [26, 26, 4, 124, 19, 1, 9, 126, 100, 59, 26, 19, 1, 10, 126, 26, 5, 124, 19, 1, 10, 126, 96, 59]
abbrev dktJ10_bitCount_0 : List UInt8 := dkwJ10_bitCount_0 ++ dktJ10_bitCount_1
theorem dksJ10_bitCount_0 : cJ10_bitCount.data.toList.drop 0 = dktJ10_bitCount_0 := by decide +kernel
theorem dksJ10_bitCount_1 : cJ10_bitCount.data.toList.drop 24 = dktJ10_bitCount_1 := dk_seg dksJ10_bitCount_0 24 rfl rfl
theorem dksJ10_bitCount_2 : cJ10_bitCount.data.toList.drop 48 = dktJ10_bitCount_2 := dk_seg dksJ10_bitCount_1 24 rfl rfl
theorem dJ10_bitCount_0 : decode cJ10_bitCount 0 = .ok (.iload_n 0, 1) := dk_26 (dk_at dksJ10_bitCount_0 0 rfl rfl)
theorem dJ10_bitCount_1 : decode cJ10_bitCount 1 = .ok (.iload_n 0, 1) := dk_26 (dk_at dksJ10_bitCount_0 1 rfl rfl)
theorem dJ10_bitCount_2 : decode cJ10_bitCount 2 = .ok (.iconst 1, 1) := dk_4 (dk_at dksJ10_bitCount_0 2 rfl rfl)
theorem dJ10_bitCount_3 : decode cJ10_bitCount 3 = .ok (.iushr, 1) := dk_124 (dk_at dksJ10_bitCount_0 3 rfl rfl)
theorem dJ10_bitCount_4 : decode cJ10_bitCount 4 = .ok (.ldc_w 265, 3) := dk_19 1 9 (dk_at dksJ10_bitCount_0 4 rfl rfl)
theorem dJ10_bitCount_7 : decode cJ10_bitCount 7 = .ok (.iand, 1) := dk_126 (dk_at dksJ10_bitCount_0 7 rfl rfl)
theorem dJ10_bitCount_8 : decode cJ10_bitCount 8 = .ok (.isub, 1) := dk_100 (dk_at dksJ10_bitCount_0 8 rfl rfl)
theorem dJ10_bitCount_9 : decode cJ10_bitCount 9 = .ok (.istore_n 0, 1) := dk_59 (dk_at dksJ10_bitCount_0 9 rfl rfl)
theorem dJ10_bitCount_10 : decode cJ10_bitCount 10 = .ok (.iload_n 0, 1) := dk_26 (dk_at dksJ10_bitCount_0 10 rfl rfl)
theorem dJ10_bitCount_11 : decode cJ10_bitCount 11 = .ok (.ldc_w 266, 3) := dk_19 1 10 (dk_at dksJ10_bitCount_0 11 rfl rfl)
theorem dJ10_bitCount_14 : decode cJ10_bitCount 14 = .ok (.iand, 1) := dk_126 (dk_at dksJ10_bitCount_0 14 rfl rfl)
theorem dJ10_bitCount_15 : decode cJ10_bitCount 15 = .ok (.iload_n 0, 1) := dk_26 (dk_at dksJ10_bitCount_0 15 rfl rfl)
theorem dJ10_bitCount_16 : decode cJ10_bitCount 16 = .ok (.iconst 2, 1) := dk_5 (dk_at dksJ10_bitCount_0 16 rfl rfl)
theorem dJ10_bitCount_17 : decode cJ10_bitCount 17 = .ok (.iushr, 1) := dk_124 (dk_at dksJ10_bitCount_0 17 rfl rfl)
theorem dJ10_bitCount_18 : decode cJ10_bitCount 18 = .ok (.ldc_w 266, 3) := dk_19 1 10 (dk_at dksJ10_bitCount_0 18 rfl rfl)
theorem dJ10_bitCount_21 : decode cJ10_bitCount 21 = .ok (.iand, 1) := dk_126 (dk_at dksJ10_bitCount_0 21 rfl rfl)
theorem dJ10_bitCount_22 : decode cJ10_bitCount 22 = .ok (.iadd, 1) := dk_96 (dk_at dksJ10_bitCount_0 22 rfl rfl)
theorem dJ10_bitCount_23 : decode cJ10_bitCount 23 = .ok (.istore_n 0, 1) := dk_59 (dk_at dksJ10_bitCount_0 23 rfl rfl)
theorem dJ10_bitCount_24 : decode cJ10_bitCount 24 = .ok (.iload_n 0, 1) := dk_26 (dk_at dksJ10_bitCount_1 0 rfl rfl)
theorem dJ10_bitCount_25 : decode cJ10_bitCount 25 = .ok (.iload_n 0, 1) := dk_26 (dk_at dksJ10_bitCount_1 1 rfl rfl)
theorem dJ10_bitCount_26 : decode cJ10_bitCount 26 = .ok (.iconst 4, 1) := dk_7 (dk_at dksJ10_bitCount_1 2 rfl rfl)
theorem dJ10_bitCount_27 : decode cJ10_bitCount 27 = .ok (.iushr, 1) := dk_124 (dk_at dksJ10_bitCount_1 3 rfl rfl)
theorem dJ10_bitCount_28 : decode cJ10_bitCount 28 = .ok (.iadd, 1) := dk_96 (dk_at dksJ10_bitCount_1 4 rfl rfl)
theorem dJ10_bitCount_29 : decode cJ10_bitCount 29 = .ok (.ldc_w 267, 3) := dk_19 1 11 (dk_at dksJ10_bitCount_1 5 rfl rfl)
theorem dJ10_bitCount_32 : decode cJ10_bitCount 32 = .ok (.iand, 1) := dk_126 (dk_at dksJ10_bitCount_1 8 rfl rfl)
theorem dJ10_bitCount_33 : decode cJ10_bitCount 33 = .ok (.istore_n 0, 1) := dk_59 (dk_at dksJ10_bitCount_1 9 rfl rfl)
theorem dJ10_bitCount_34 : decode cJ10_bitCount 34 = .ok (.iload_n 0, 1) := dk_26 (dk_at dksJ10_bitCount_1 10 rfl rfl)
theorem dJ10_bitCount_35 : decode cJ10_bitCount 35 = .ok (.iload_n 0, 1) := dk_26 (dk_at dksJ10_bitCount_1 11 rfl rfl)
theorem dJ10_bitCount_36 : decode cJ10_bitCount 36 = .ok (.bipush 8, 2) := dk_16 8 (dk_at dksJ10_bitCount_1 12 rfl rfl)
theorem dJ10_bitCount_38 : decode cJ10_bitCount 38 = .ok (.iushr, 1) := dk_124 (dk_at dksJ10_bitCount_1 14 rfl rfl)
theorem dJ10_bitCount_39 : decode cJ10_bitCount 39 = .ok (.iadd, 1) := dk_96 (dk_at dksJ10_bitCount_1 15 rfl rfl)
theorem dJ10_bitCount_40 : decode cJ10_bitCount 40 = .ok (.istore_n 0, 1) := dk_59 (dk_at dksJ10_bitCount_1 16 rfl rfl)
theorem dJ10_bitCount_41 : decode cJ10_bitCount 41 = .ok (.iload_n 0, 1) := dk_26 (dk_at dksJ10_bitCount_1 17 rfl rfl)
theorem dJ10_bitCount_42 : decode cJ10_bitCount 42 = .ok (.iload_n 0, 1) := dk_26 (dk_at dksJ10_bitCount_1 18 rfl rfl)
theorem dJ10_bitCount_43 : decode cJ10_bitCount 43 = .ok (.bipush 16, 2) := dk_16 16 (dk_at dksJ10_bitCount_1 19 rfl rfl)
theorem dJ10_bitCount_45 : decode cJ10_bitCount 45 = .ok (.iushr, 1) := dk_124 (dk_at dksJ10_bitCount_1 21 rfl rfl)
theorem dJ10_bitCount_46 : decode cJ10_bitCount 46 = .ok (.iadd, 1) := dk_96 (dk_at dksJ10_bitCount_1 22 rfl rfl)
theorem dJ10_bitCount_47 : decode cJ10_bitCount 47 = .ok (.istore_n 0, 1) := dk_59 (dk_at dksJ10_bitCount_1 23 rfl rfl)
theorem dJ10_bitCount_48 : decode cJ10_bitCount 48 = .ok (.iload_n 0, 1) := dk_26 (dk_at dksJ10_bitCount_2 0 rfl rfl)
theorem dJ10_bitCount_49 : decode cJ10_bitCount 49 = .ok (.bipush 63, 2) := dk_16 63 (dk_at dksJ10_bitCount_2 1 rfl rfl)
theorem dJ10_bitCount_51 : decode cJ10_bitCount 51 = .ok (.iand, 1) := dk_126 (dk_at dksJ10_bitCount_2 3 rfl rfl)
theorem dJ10_bitCount_52 : decode cJ10_bitCount 52 = .ok (.ireturn, 1) := dk_172 (dk_at dksJ10_bitCount_2 4 rfl rfl)
theorem q96 : (Jvm.Cond.initialized "java/lang/Integer") ∈ lw_all := lw_g (lw_at lw_m1 28 rfl) rfl
theorem q717 : (Jvm.Cond.static ({ cls := "java/lang/Integer", name := "bitCount", desc := "(I)I" } : Jvm.MethodName)) ∈ lw_all := lw_g (lw_at lw_m3 169 rfl) rfl
theorem q718 : (Jvm.Cond.code ({ cls := "java/lang/Integer", name := "bitCount", desc := "(I)I" } : Jvm.MethodName) prog_28_method_49_code (1 : Nat) (Option.some Jvm.ClassFile.FieldType.int)) ∈ lw_all := lw_g (lw_at lw_m3 170 rfl) rfl
theorem q719 : (Jvm.Cond.constant "java/lang/Integer" (265 : Nat) (1431655765 : Int32)) ∈ lw_all := lw_g (lw_at lw_m3 171 rfl) rfl
theorem q720 : (Jvm.Cond.constant "java/lang/Integer" (266 : Nat) (858993459 : Int32)) ∈ lw_all := lw_g (lw_at lw_m3 172 rfl) rfl
theorem q721 : (Jvm.Cond.constant "java/lang/Integer" (267 : Nat) (252645135 : Int32)) ∈ lw_all := lw_g (lw_at lw_m3 173 rfl) rfl

/-! java/lang/RuntimeException -/
set_option maxRecDepth 100000
def RJ11 : String := "java/lang/RuntimeException"
abbrev cJ11_init : ByteArray := prog_33_method_2_code
def yJ11_init : MethodName := ⟨RJ11, "<init>", "(Ljava/lang/String;)V"⟩
def dkwJ11_init_0 : List UInt8 := [42, 43, 183, 0, 7, 177]
abbrev dktJ11_init_0 : List UInt8 := dkwJ11_init_0 ++ []
theorem dksJ11_init_0 : cJ11_init.data.toList.drop 0 = dktJ11_init_0 := by decide +kernel
theorem dJ11_init_0 : decode cJ11_init 0 = .ok (.aload_n 0, 1) := dk_42 (dk_at dksJ11_init_0 0 rfl rfl)
theorem dJ11_init_1 : decode cJ11_init 1 = .ok (.aload_n 1, 1) := dk_43 (dk_at dksJ11_init_0 1 rfl rfl)
theorem dJ11_init_2 : decode cJ11_init 2 = .ok (.invokespecial 7, 3) := dk_183 0 7 (dk_at dksJ11_init_0 2 rfl rfl)
theorem dJ11_init_5 : decode cJ11_init 5 = .ok (.return_, 1) := dk_177 (dk_at dksJ11_init_0 5 rfl rfl)
abbrev cJ11_init_2 : ByteArray := prog_33_method_1_code
def yJ11_init_2 : MethodName := ⟨RJ11, "<init>", "()V"⟩
theorem dJ11_init_2_0 : decode cJ11_init_2 0 = .ok (.aload_n 0, 1) := by decide +kernel
theorem dJ11_init_2_1 : decode cJ11_init_2 1 = .ok (.invokespecial 1, 3) := by decide +kernel
theorem dJ11_init_2_4 : decode cJ11_init_2 4 = .ok (.return_, 1) := by decide +kernel
theorem q99 : (Jvm.Cond.initialized "java/lang/RuntimeException") ∈ lw_all := lw_g (lw_at lw_m1 31 rfl) rfl
theorem q466 : (Jvm.Cond.sameMethod "java/lang/RuntimeException" "java/lang/Throwable" "fillInStackTrace" "()Ljava/lang/Throwable;") ∈ lw_all := lw_g (lw_at lw_m2 158 rfl) rfl
theorem q469 : (Jvm.Cond.superclass "java/lang/RuntimeException" "java/lang/Exception") ∈ lw_all := lw_g (lw_at lw_m2 161 rfl) rfl
theorem q1064 : (Jvm.Cond.instanceMethod ({ cls := "java/lang/RuntimeException", name := "<init>", desc := "(Ljava/lang/String;)V" } : Jvm.MethodName)) ∈ lw_all := lw_g (lw_at lw_m5 36 rfl) rfl
theorem q1065 : (Jvm.Cond.code ({ cls := "java/lang/RuntimeException", name := "<init>", desc := "(Ljava/lang/String;)V" } : Jvm.MethodName) prog_33_method_2_code (2 : Nat) (Option.none : Option Jvm.ClassFile.FieldType)) ∈ lw_all := lw_g (lw_at lw_m5 37 rfl) rfl
theorem q1066 : (Jvm.Cond.methodLink "java/lang/RuntimeException" (7 : Nat) ({ cls := "java/lang/Exception", name := "<init>", desc := "(Ljava/lang/String;)V" } : Jvm.MethodName)) ∈ lw_all := lw_g (lw_at lw_m5 38 rfl) rfl
theorem q1080 : (Jvm.Cond.declares ({ cls := "java/lang/RuntimeException", name := "<init>", desc := "()V" } : Jvm.MethodName)) ∈ lw_tbl := lw_at lw_m5 52 rfl
theorem q1081 : (Jvm.Cond.declares ({ cls := "java/lang/RuntimeException", name := "<init>", desc := "(Ljava/lang/String;)V" } : Jvm.MethodName)) ∈ lw_tbl := lw_at lw_m5 53 rfl
theorem q1101 : (Jvm.Cond.instanceMethod ({ cls := "java/lang/RuntimeException", name := "<init>", desc := "()V" } : Jvm.MethodName)) ∈ lw_all := lw_g (lw_at lw_m5 73 rfl) rfl
theorem q1102 : (Jvm.Cond.code ({ cls := "java/lang/RuntimeException", name := "<init>", desc := "()V" } : Jvm.MethodName) prog_33_method_1_code (1 : Nat) (Option.none : Option Jvm.ClassFile.FieldType)) ∈ lw_all := lw_g (lw_at lw_m5 74 rfl) rfl
theorem q1103 : (Jvm.Cond.methodLink "java/lang/RuntimeException" (1 : Nat) ({ cls := "java/lang/Exception", name := "<init>", desc := "()V" } : Jvm.MethodName)) ∈ lw_all := lw_g (lw_at lw_m5 75 rfl) rfl
theorem q1121 : (Jvm.Cond.castable "java/lang/RuntimeException" "java/lang/Throwable") ∈ lw_tbl := lw_at lw_m5 93 rfl

/-! java/lang/NegativeArraySizeException -/
set_option maxRecDepth 100000
def RJ12 : String := "java/lang/NegativeArraySizeException"
def TJ12 : u_T := fun k => match k with
  | 0 => ("java/lang/Throwable", "backtrace", "Ljava/lang/Object;", false)
  | 1 => ("java/lang/Throwable", "detailMessage", "Ljava/lang/String;", false)
  | 2 => ("java/lang/Throwable", "cause", "Ljava/lang/Throwable;", false)
  | 3 => ("java/lang/Throwable", "stackTrace", "[Ljava/lang/StackTraceElement;", false)
  | 4 => ("java/lang/Throwable", "depth", "I", false)
  | _ => ("java/lang/Throwable", "suppressedExceptions", "Ljava/util/List;", false)
def tyJ12 : Nat → FieldType := fun k => match k with
  | 0 => .object "java/lang/Object"
  | 1 => .object "java/lang/String"
  | 2 => .object "java/lang/Throwable"
  | 3 => .array (.object "java/lang/StackTraceElement")
  | 4 => .int
  | _ => .object "java/util/List"
abbrev wsJ120 : List Cond := u_ws RJ12 TJ12 6
theorem nmJ12 : ∀ a, a < 6 → ∀ b, b < 6 → a ≠ b → (TJ12 a).2.1 ≠ (TJ12 b).2.1 := by decide +kernel
theorem tyJ12_ok : ∀ k, k < 6 → parseFieldDescriptor (TJ12 k).2.2.1 = some (tyJ12 k) := by decide +kernel
abbrev cJ12_init : ByteArray := prog_31_method_2_code
def yJ12_init : MethodName := ⟨RJ12, "<init>", "(Ljava/lang/String;)V"⟩
def dkwJ12_init_0 : List UInt8 := [42, 43, 183, 0, 7, 177]
abbrev dktJ12_init_0 : List UInt8 := dkwJ12_init_0 ++ []
theorem dksJ12_init_0 : cJ12_init.data.toList.drop 0 = dktJ12_init_0 := by decide +kernel
theorem dJ12_init_0 : decode cJ12_init 0 = .ok (.aload_n 0, 1) := dk_42 (dk_at dksJ12_init_0 0 rfl rfl)
theorem dJ12_init_1 : decode cJ12_init 1 = .ok (.aload_n 1, 1) := dk_43 (dk_at dksJ12_init_0 1 rfl rfl)
theorem dJ12_init_2 : decode cJ12_init 2 = .ok (.invokespecial 7, 3) := dk_183 0 7 (dk_at dksJ12_init_0 2 rfl rfl)
theorem dJ12_init_5 : decode cJ12_init 5 = .ok (.return_, 1) := dk_177 (dk_at dksJ12_init_0 5 rfl rfl)
theorem q100 : (Jvm.Cond.initialized "java/lang/NegativeArraySizeException") ∈ lw_all := lw_g (lw_at lw_m1 32 rfl) rfl
theorem q362 : (Jvm.Cond.selects "java/lang/NegativeArraySizeException" ({ cls := "java/lang/Object", name := "getClass", desc := "()Ljava/lang/Class;" } : Jvm.MethodName) ({ cls := "java/lang/Object", name := "getClass", desc := "()Ljava/lang/Class;" } : Jvm.MethodName)) ∈ lw_all := lw_g (lw_at lw_m2 54 rfl) rfl
theorem q456 : (Jvm.Cond.selects "java/lang/NegativeArraySizeException" ({ cls := "java/lang/Throwable", name := "fillInStackTrace", desc := "()Ljava/lang/Throwable;" } : Jvm.MethodName) ({ cls := "java/lang/Throwable", name := "fillInStackTrace", desc := "()Ljava/lang/Throwable;" } : Jvm.MethodName)) ∈ lw_all := lw_g (lw_at lw_m2 148 rfl) rfl
theorem q1060 : (Jvm.Cond.instantiable "java/lang/NegativeArraySizeException" (6 : Nat)) ∈ lw_all := lw_g (lw_at lw_m5 32 rfl) rfl
theorem q1061 : (Jvm.Cond.instanceMethod ({ cls := "java/lang/NegativeArraySizeException", name := "<init>", desc := "(Ljava/lang/String;)V" } : Jvm.MethodName)) ∈ lw_all := lw_g (lw_at lw_m5 33 rfl) rfl
theorem q1062 : (Jvm.Cond.code ({ cls := "java/lang/NegativeArraySizeException", name := "<init>", desc := "(Ljava/lang/String;)V" } : Jvm.MethodName) prog_31_method_2_code (2 : Nat) (Option.none : Option Jvm.ClassFile.FieldType)) ∈ lw_all := lw_g (lw_at lw_m5 34 rfl) rfl
theorem q1063 : (Jvm.Cond.methodLink "java/lang/NegativeArraySizeException" (7 : Nat) ({ cls := "java/lang/RuntimeException", name := "<init>", desc := "(Ljava/lang/String;)V" } : Jvm.MethodName)) ∈ lw_all := lw_g (lw_at lw_m5 35 rfl) rfl
theorem q1072 : (Jvm.Cond.lays "java/lang/NegativeArraySizeException" "java/lang/Throwable" "backtrace" "Ljava/lang/Object;") ∈ lw_all := lw_g (lw_at lw_m5 44 rfl) rfl
theorem q1073 : (Jvm.Cond.lays "java/lang/NegativeArraySizeException" "java/lang/Throwable" "detailMessage" "Ljava/lang/String;") ∈ lw_all := lw_g (lw_at lw_m5 45 rfl) rfl
theorem q1074 : (Jvm.Cond.lays "java/lang/NegativeArraySizeException" "java/lang/Throwable" "cause" "Ljava/lang/Throwable;") ∈ lw_all := lw_g (lw_at lw_m5 46 rfl) rfl
theorem q1075 : (Jvm.Cond.lays "java/lang/NegativeArraySizeException" "java/lang/Throwable" "stackTrace" "[Ljava/lang/StackTraceElement;") ∈ lw_all := lw_g (lw_at lw_m5 47 rfl) rfl
theorem q1076 : (Jvm.Cond.lays "java/lang/NegativeArraySizeException" "java/lang/Throwable" "depth" "I") ∈ lw_all := lw_g (lw_at lw_m5 48 rfl) rfl
theorem q1077 : (Jvm.Cond.lays "java/lang/NegativeArraySizeException" "java/lang/Throwable" "suppressedExceptions" "Ljava/util/List;") ∈ lw_all := lw_g (lw_at lw_m5 49 rfl) rfl
theorem q1078 : (Jvm.Cond.superclass "java/lang/NegativeArraySizeException" "java/lang/RuntimeException") ∈ lw_all := lw_g (lw_at lw_m5 50 rfl) rfl
theorem q1079 : (Jvm.Cond.castable "java/lang/NegativeArraySizeException" "java/lang/NegativeArraySizeException") ∈ lw_tbl := lw_at lw_m5 51 rfl
theorem q1082 : (Jvm.Cond.selects "java/lang/NegativeArraySizeException" ({ cls := "java/lang/Throwable", name := "fillInStackTrace", desc := "(I)Ljava/lang/Throwable;" } : Jvm.MethodName) ({ cls := "java/lang/Throwable", name := "fillInStackTrace", desc := "(I)Ljava/lang/Throwable;" } : Jvm.MethodName)) ∈ lw_all := lw_g (lw_at lw_m5 54 rfl) rfl
theorem q1630 : (Jvm.Cond.castable "java/lang/NegativeArraySizeException" "java/lang/Object") ∈ lw_tbl := lw_at lw_m7 122 rfl
theorem in_J12 : ∀ w ∈ wsJ120, w ∈ lw_all := lw_in wsJ120 [1072, 1073, 1074, 1075, 1076, 1077] (by decide +kernel) (by decide +kernel)

/-! java/lang/String -/
set_option maxRecDepth 100000
def RJ13 : String := "java/lang/String"
def TJ13 : u_T := fun k => match k with
  | 0 => ("java/lang/String", "value", "[B", true)
  | _ => ("java/lang/String", "coder", "B", true)
def tyJ13 : Nat → FieldType := fun k => match k with
  | 0 => .array .byte
  | _ => .byte
abbrev wsJ130 : List Cond := u_ws RJ13 TJ13 2
theorem nmJ13 : ∀ a, a < 2 → ∀ b, b < 2 → a ≠ b → (TJ13 a).2.1 ≠ (TJ13 b).2.1 := by decide +kernel
theorem tyJ13_ok : ∀ k, k < 2 → parseFieldDescriptor (TJ13 k).2.2.1 = some (tyJ13 k) := by decide +kernel
theorem q101 : (Jvm.Cond.initialized "java/lang/String") ∈ lw_all := lw_g (lw_at lw_m1 33 rfl) rfl
theorem q1083 : (Jvm.Cond.instantiable "java/lang/String" (4 : Nat)) ∈ lw_all := lw_g (lw_at lw_m5 55 rfl) rfl
theorem q1084 : (Jvm.Cond.laysFinal "java/lang/String" "java/lang/String" "value" "[B") ∈ lw_all := lw_g (lw_at lw_m5 56 rfl) rfl
theorem q1085 : (Jvm.Cond.soleField "java/lang/String" "value") ∈ lw_all := lw_g (lw_at lw_m5 57 rfl) rfl
theorem q1086 : (Jvm.Cond.laysFinal "java/lang/String" "java/lang/String" "coder" "B") ∈ lw_all := lw_g (lw_at lw_m5 58 rfl) rfl
theorem q1087 : (Jvm.Cond.soleField "java/lang/String" "coder") ∈ lw_all := lw_g (lw_at lw_m5 59 rfl) rfl
theorem q1635 : (Jvm.Cond.castable "java/lang/String" "java/lang/Object") ∈ lw_tbl := lw_at lw_m7 127 rfl
theorem in_J13 : ∀ w ∈ wsJ130, w ∈ lw_all := lw_in wsJ130 [1084, 1086] (by decide +kernel) (by decide +kernel)

/-! java/lang/NullPointerException -/
set_option maxRecDepth 100000
def RJ14 : String := "java/lang/NullPointerException"
def TJ14 : u_T := fun k => match k with
  | 0 => ("java/lang/Throwable", "backtrace", "Ljava/lang/Object;", false)
  | 1 => ("java/lang/Throwable", "detailMessage", "Ljava/lang/String;", false)
  | 2 => ("java/lang/Throwable", "cause", "Ljava/lang/Throwable;", false)
  | 3 => ("java/lang/Throwable", "stackTrace", "[Ljava/lang/StackTraceElement;", false)
  | 4 => ("java/lang/Throwable", "depth", "I", false)
  | 5 => ("java/lang/Throwable", "suppressedExceptions", "Ljava/util/List;", false)
  | 6 => ("java/lang/NullPointerException", "extendedMessageState", "I", false)
  | _ => ("java/lang/NullPointerException", "extendedMessage", "Ljava/lang/String;", false)
def tyJ14 : Nat → FieldType := fun k => match k with
  | 0 => .object "java/lang/Object"
  | 1 => .object "java/lang/String"
  | 2 => .object "java/lang/Throwable"
  | 3 => .array (.object "java/lang/StackTraceElement")
  | 4 => .int
  | 5 => .object "java/util/List"
  | 6 => .int
  | _ => .object "java/lang/String"
abbrev wsJ140 : List Cond := u_ws RJ14 TJ14 8
theorem nmJ14 : ∀ a, a < 8 → ∀ b, b < 8 → a ≠ b → (TJ14 a).2.1 ≠ (TJ14 b).2.1 := by decide +kernel
theorem tyJ14_ok : ∀ k, k < 8 → parseFieldDescriptor (TJ14 k).2.2.1 = some (tyJ14 k) := by decide +kernel
abbrev cJ14_init : ByteArray := prog_32_method_1_code
def yJ14_init : MethodName := ⟨RJ14, "<init>", "()V"⟩
theorem dJ14_init_0 : decode cJ14_init 0 = .ok (.aload_n 0, 1) := by decide +kernel
theorem dJ14_init_1 : decode cJ14_init 1 = .ok (.invokespecial 1, 3) := by decide +kernel
theorem dJ14_init_4 : decode cJ14_init 4 = .ok (.return_, 1) := by decide +kernel
theorem q102 : (Jvm.Cond.initialized "java/lang/NullPointerException") ∈ lw_all := lw_g (lw_at lw_m1 34 rfl) rfl
theorem q363 : (Jvm.Cond.selects "java/lang/NullPointerException" ({ cls := "java/lang/Object", name := "getClass", desc := "()Ljava/lang/Class;" } : Jvm.MethodName) ({ cls := "java/lang/Object", name := "getClass", desc := "()Ljava/lang/Class;" } : Jvm.MethodName)) ∈ lw_all := lw_g (lw_at lw_m2 55 rfl) rfl
theorem q457 : (Jvm.Cond.selects "java/lang/NullPointerException" ({ cls := "java/lang/Throwable", name := "fillInStackTrace", desc := "()Ljava/lang/Throwable;" } : Jvm.MethodName) ({ cls := "java/lang/NullPointerException", name := "fillInStackTrace", desc := "()Ljava/lang/Throwable;" } : Jvm.MethodName)) ∈ lw_all := lw_g (lw_at lw_m2 149 rfl) rfl
theorem q458 : (Jvm.Cond.instanceMethod ({ cls := "java/lang/NullPointerException", name := "fillInStackTrace", desc := "()Ljava/lang/Throwable;" } : Jvm.MethodName)) ∈ lw_all := lw_g (lw_at lw_m2 150 rfl) rfl
theorem q459 : (Jvm.Cond.codeSync ({ cls := "java/lang/NullPointerException", name := "fillInStackTrace", desc := "()Ljava/lang/Throwable;" } : Jvm.MethodName) prog_32_method_3_code (1 : Nat) (Option.some (Jvm.ClassFile.FieldType.object "java/lang/Throwable"))) ∈ lw_all := lw_g (lw_at lw_m2 151 rfl) rfl
theorem q460 : (Jvm.Cond.methodLink "java/lang/NullPointerException" (16 : Nat) ({ cls := "java/lang/NullPointerException", name := "getExtendedNPEMessage", desc := "()Ljava/lang/String;" } : Jvm.MethodName)) ∈ lw_all := lw_g (lw_at lw_m2 152 rfl) rfl
theorem q461 : (Jvm.Cond.privateMethod ({ cls := "java/lang/NullPointerException", name := "getExtendedNPEMessage", desc := "()Ljava/lang/String;" } : Jvm.MethodName)) ∈ lw_tbl := lw_at lw_m2 153 rfl
theorem q462 : (Jvm.Cond.instanceMethod ({ cls := "java/lang/NullPointerException", name := "getExtendedNPEMessage", desc := "()Ljava/lang/String;" } : Jvm.MethodName)) ∈ lw_all := lw_g (lw_at lw_m2 154 rfl) rfl
theorem q463 : (Jvm.Cond.instantiable "java/lang/NullPointerException" (8 : Nat)) ∈ lw_all := lw_g (lw_at lw_m2 155 rfl) rfl
theorem q464 : (Jvm.Cond.native ({ cls := "java/lang/NullPointerException", name := "getExtendedNPEMessage", desc := "()Ljava/lang/String;" } : Jvm.MethodName)) ∈ lw_all := lw_g (lw_at lw_m2 156 rfl) rfl
theorem q465 : (Jvm.Cond.methodLink "java/lang/NullPointerException" (24 : Nat) ({ cls := "java/lang/RuntimeException", name := "fillInStackTrace", desc := "()Ljava/lang/Throwable;" } : Jvm.MethodName)) ∈ lw_all := lw_g (lw_at lw_m2 157 rfl) rfl
theorem q468 : (Jvm.Cond.superclass "java/lang/NullPointerException" "java/lang/RuntimeException") ∈ lw_all := lw_g (lw_at lw_m2 160 rfl) rfl
theorem q1098 : (Jvm.Cond.instanceMethod ({ cls := "java/lang/NullPointerException", name := "<init>", desc := "()V" } : Jvm.MethodName)) ∈ lw_all := lw_g (lw_at lw_m5 70 rfl) rfl
theorem q1099 : (Jvm.Cond.code ({ cls := "java/lang/NullPointerException", name := "<init>", desc := "()V" } : Jvm.MethodName) prog_32_method_1_code (1 : Nat) (Option.none : Option Jvm.ClassFile.FieldType)) ∈ lw_all := lw_g (lw_at lw_m5 71 rfl) rfl
theorem q1100 : (Jvm.Cond.methodLink "java/lang/NullPointerException" (1 : Nat) ({ cls := "java/lang/RuntimeException", name := "<init>", desc := "()V" } : Jvm.MethodName)) ∈ lw_all := lw_g (lw_at lw_m5 72 rfl) rfl
theorem q1107 : (Jvm.Cond.fieldLink "java/lang/NullPointerException" (10 : Nat) "java/lang/NullPointerException" "extendedMessageState" "I") ∈ lw_all := lw_g (lw_at lw_m5 79 rfl) rfl
theorem q1108 : (Jvm.Cond.fieldLink "java/lang/NullPointerException" (20 : Nat) "java/lang/NullPointerException" "extendedMessage" "Ljava/lang/String;") ∈ lw_all := lw_g (lw_at lw_m5 80 rfl) rfl
theorem q1109 : (Jvm.Cond.lays "java/lang/NullPointerException" "java/lang/NullPointerException" "extendedMessageState" "I") ∈ lw_all := lw_g (lw_at lw_m5 81 rfl) rfl
theorem q1110 : (Jvm.Cond.soleField "java/lang/NullPointerException" "extendedMessageState") ∈ lw_all := lw_g (lw_at lw_m5 82 rfl) rfl
theorem q1111 : (Jvm.Cond.lays "java/lang/NullPointerException" "java/lang/NullPointerException" "extendedMessage" "Ljava/lang/String;") ∈ lw_all := lw_g (lw_at lw_m5 83 rfl) rfl
theorem q1112 : (Jvm.Cond.soleField "java/lang/NullPointerException" "extendedMessage") ∈ lw_all := lw_g (lw_at lw_m5 84 rfl) rfl
theorem q1113 : (Jvm.Cond.lays "java/lang/NullPointerException" "java/lang/Throwable" "backtrace" "Ljava/lang/Object;") ∈ lw_all := lw_g (lw_at lw_m5 85 rfl) rfl
theorem q1114 : (Jvm.Cond.lays "java/lang/NullPointerException" "java/lang/Throwable" "detailMessage" "Ljava/lang/String;") ∈ lw_all := lw_g (lw_at lw_m5 86 rfl) rfl
theorem q1115 : (Jvm.Cond.lays "java/lang/NullPointerException" "java/lang/Throwable" "cause" "Ljava/lang/Throwable;") ∈ lw_all := lw_g (lw_at lw_m5 87 rfl) rfl
theorem q1116 : (Jvm.Cond.lays "java/lang/NullPointerException" "java/lang/Throwable" "stackTrace" "[Ljava/lang/StackTraceElement;") ∈ lw_all := lw_g (lw_at lw_m5 88 rfl) rfl
theorem q1117 : (Jvm.Cond.lays "java/lang/NullPointerException" "java/lang/Throwable" "depth" "I") ∈ lw_all := lw_g (lw_at lw_m5 89 rfl) rfl
theorem q1118 : (Jvm.Cond.lays "java/lang/NullPointerException" "java/lang/Throwable" "suppressedExceptions" "Ljava/util/List;") ∈ lw_all := lw_g (lw_at lw_m5 90 rfl) rfl
theorem q1119 : (Jvm.Cond.castable "java/lang/NullPointerException" "java/lang/NullPointerException") ∈ lw_tbl := lw_at lw_m5 91 rfl
theorem q1120 : (Jvm.Cond.selects "java/lang/NullPointerException" ({ cls := "java/lang/Throwable", name := "fillInStackTrace", desc := "(I)Ljava/lang/Throwable;" } : Jvm.MethodName) ({ cls := "java/lang/Throwable", name := "fillInStackTrace", desc := "(I)Ljava/lang/Throwable;" } : Jvm.MethodName)) ∈ lw_all := lw_g (lw_at lw_m5 92 rfl) rfl
theorem q1631 : (Jvm.Cond.castable "java/lang/NullPointerException" "java/lang/Object") ∈ lw_tbl := lw_at lw_m7 123 rfl
theorem in_J14 : ∀ w ∈ wsJ140, w ∈ lw_all := lw_in wsJ140 [1113, 1114, 1115, 1116, 1117, 1118, 1109, 1111] (by decide +kernel) (by decide +kernel)

/-! java/lang/ClassCastException -/
set_option maxRecDepth 100000
def RJ15 : String := "java/lang/ClassCastException"
def TJ15 : u_T := fun k => match k with
  | 0 => ("java/lang/Throwable", "backtrace", "Ljava/lang/Object;", false)
  | 1 => ("java/lang/Throwable", "detailMessage", "Ljava/lang/String;", false)
  | 2 => ("java/lang/Throwable", "cause", "Ljava/lang/Throwable;", false)
  | 3 => ("java/lang/Throwable", "stackTrace", "[Ljava/lang/StackTraceElement;", false)
  | 4 => ("java/lang/Throwable", "depth", "I", false)
  | _ => ("java/lang/Throwable", "suppressedExceptions", "Ljava/util/List;", false)
def tyJ15 : Nat → FieldType := fun k => match k with
  | 0 => .object "java/lang/Object"
  | 1 => .object "java/lang/String"
  | 2 => .object "java/lang/Throwable"
  | 3 => .array (.object "java/lang/StackTraceElement")
  | 4 => .int
  | _ => .object "java/util/List"
abbrev wsJ150 : List Cond := u_ws RJ15 TJ15 6
theorem nmJ15 : ∀ a, a < 6 → ∀ b, b < 6 → a ≠ b → (TJ15 a).2.1 ≠ (TJ15 b).2.1 := by decide +kernel
theorem tyJ15_ok : ∀ k, k < 6 → parseFieldDescriptor (TJ15 k).2.2.1 = some (tyJ15 k) := by decide +kernel
abbrev cJ15_init : ByteArray := prog_24_method_2_code
def yJ15_init : MethodName := ⟨RJ15, "<init>", "(Ljava/lang/String;)V"⟩
def dkwJ15_init_0 : List UInt8 := [42, 43, 183, 0, 7, 177]
abbrev dktJ15_init_0 : List UInt8 := dkwJ15_init_0 ++ []
theorem dksJ15_init_0 : cJ15_init.data.toList.drop 0 = dktJ15_init_0 := by decide +kernel
theorem dJ15_init_0 : decode cJ15_init 0 = .ok (.aload_n 0, 1) := dk_42 (dk_at dksJ15_init_0 0 rfl rfl)
theorem dJ15_init_1 : decode cJ15_init 1 = .ok (.aload_n 1, 1) := dk_43 (dk_at dksJ15_init_0 1 rfl rfl)
theorem dJ15_init_2 : decode cJ15_init 2 = .ok (.invokespecial 7, 3) := dk_183 0 7 (dk_at dksJ15_init_0 2 rfl rfl)
theorem dJ15_init_5 : decode cJ15_init 5 = .ok (.return_, 1) := dk_177 (dk_at dksJ15_init_0 5 rfl rfl)
theorem q103 : (Jvm.Cond.initialized "java/lang/ClassCastException") ∈ lw_all := lw_g (lw_at lw_m1 35 rfl) rfl
theorem q361 : (Jvm.Cond.selects "java/lang/ClassCastException" ({ cls := "java/lang/Object", name := "getClass", desc := "()Ljava/lang/Class;" } : Jvm.MethodName) ({ cls := "java/lang/Object", name := "getClass", desc := "()Ljava/lang/Class;" } : Jvm.MethodName)) ∈ lw_all := lw_g (lw_at lw_m2 53 rfl) rfl
theorem q455 : (Jvm.Cond.selects "java/lang/ClassCastException" ({ cls := "java/lang/Throwable", name := "fillInStackTrace", desc := "()Ljava/lang/Throwable;" } : Jvm.MethodName) ({ cls := "java/lang/Throwable", name := "fillInStackTrace", desc := "()Ljava/lang/Throwable;" } : Jvm.MethodName)) ∈ lw_all := lw_g (lw_at lw_m2 147 rfl) rfl
theorem q1123 : (Jvm.Cond.instantiable "java/lang/ClassCastException" (6 : Nat)) ∈ lw_all := lw_g (lw_at lw_m5 95 rfl) rfl
theorem q1124 : (Jvm.Cond.instanceMethod ({ cls := "java/lang/ClassCastException", name := "<init>", desc := "(Ljava/lang/String;)V" } : Jvm.MethodName)) ∈ lw_all := lw_g (lw_at lw_m5 96 rfl) rfl
theorem q1125 : (Jvm.Cond.code ({ cls := "java/lang/ClassCastException", name := "<init>", desc := "(Ljava/lang/String;)V" } : Jvm.MethodName) prog_24_method_2_code (2 : Nat) (Option.none : Option Jvm.ClassFile.FieldType)) ∈ lw_all := lw_g (lw_at lw_m5 97 rfl) rfl
theorem q1126 : (Jvm.Cond.methodLink "java/lang/ClassCastException" (7 : Nat) ({ cls := "java/lang/RuntimeException", name := "<init>", desc := "(Ljava/lang/String;)V" } : Jvm.MethodName)) ∈ lw_all := lw_g (lw_at lw_m5 98 rfl) rfl
theorem q1127 : (Jvm.Cond.lays "java/lang/ClassCastException" "java/lang/Throwable" "backtrace" "Ljava/lang/Object;") ∈ lw_all := lw_g (lw_at lw_m5 99 rfl) rfl
theorem q1128 : (Jvm.Cond.lays "java/lang/ClassCastException" "java/lang/Throwable" "detailMessage" "Ljava/lang/String;") ∈ lw_all := lw_g (lw_at lw_m5 100 rfl) rfl
theorem q1129 : (Jvm.Cond.lays "java/lang/ClassCastException" "java/lang/Throwable" "cause" "Ljava/lang/Throwable;") ∈ lw_all := lw_g (lw_at lw_m5 101 rfl) rfl
theorem q1130 : (Jvm.Cond.lays "java/lang/ClassCastException" "java/lang/Throwable" "stackTrace" "[Ljava/lang/StackTraceElement;") ∈ lw_all := lw_g (lw_at lw_m5 102 rfl) rfl
theorem q1131 : (Jvm.Cond.lays "java/lang/ClassCastException" "java/lang/Throwable" "depth" "I") ∈ lw_all := lw_g (lw_at lw_m5 103 rfl) rfl
theorem q1132 : (Jvm.Cond.lays "java/lang/ClassCastException" "java/lang/Throwable" "suppressedExceptions" "Ljava/util/List;") ∈ lw_all := lw_g (lw_at lw_m5 104 rfl) rfl
theorem q1133 : (Jvm.Cond.superclass "java/lang/ClassCastException" "java/lang/RuntimeException") ∈ lw_all := lw_g (lw_at lw_m5 105 rfl) rfl
theorem q1134 : (Jvm.Cond.castable "java/lang/ClassCastException" "java/lang/ClassCastException") ∈ lw_tbl := lw_at lw_m5 106 rfl
theorem q1135 : (Jvm.Cond.selects "java/lang/ClassCastException" ({ cls := "java/lang/Throwable", name := "fillInStackTrace", desc := "(I)Ljava/lang/Throwable;" } : Jvm.MethodName) ({ cls := "java/lang/Throwable", name := "fillInStackTrace", desc := "(I)Ljava/lang/Throwable;" } : Jvm.MethodName)) ∈ lw_all := lw_g (lw_at lw_m5 107 rfl) rfl
theorem q1632 : (Jvm.Cond.castable "java/lang/ClassCastException" "java/lang/Object") ∈ lw_tbl := lw_at lw_m7 124 rfl
theorem in_J15 : ∀ w ∈ wsJ150, w ∈ lw_all := lw_in wsJ150 [1127, 1128, 1129, 1130, 1131, 1132] (by decide +kernel) (by decide +kernel)

/-! java/lang/IndexOutOfBoundsException -/
set_option maxRecDepth 100000
def RJ16 : String := "java/lang/IndexOutOfBoundsException"
abbrev cJ16_init : ByteArray := prog_27_method_2_code
def yJ16_init : MethodName := ⟨RJ16, "<init>", "(Ljava/lang/String;)V"⟩
def dkwJ16_init_0 : List UInt8 := [42, 43, 183, 0, 7, 177]
abbrev dktJ16_init_0 : List UInt8 := dkwJ16_init_0 ++ []
theorem dksJ16_init_0 : cJ16_init.data.toList.drop 0 = dktJ16_init_0 := by decide +kernel
theorem dJ16_init_0 : decode cJ16_init 0 = .ok (.aload_n 0, 1) := dk_42 (dk_at dksJ16_init_0 0 rfl rfl)
theorem dJ16_init_1 : decode cJ16_init 1 = .ok (.aload_n 1, 1) := dk_43 (dk_at dksJ16_init_0 1 rfl rfl)
theorem dJ16_init_2 : decode cJ16_init 2 = .ok (.invokespecial 7, 3) := dk_183 0 7 (dk_at dksJ16_init_0 2 rfl rfl)
theorem dJ16_init_5 : decode cJ16_init 5 = .ok (.return_, 1) := dk_177 (dk_at dksJ16_init_0 5 rfl rfl)
theorem q104 : (Jvm.Cond.initialized "java/lang/IndexOutOfBoundsException") ∈ lw_all := lw_g (lw_at lw_m1 36 rfl) rfl
theorem q1141 : (Jvm.Cond.instanceMethod ({ cls := "java/lang/IndexOutOfBoundsException", name := "<init>", desc := "(Ljava/lang/String;)V" } : Jvm.MethodName)) ∈ lw_all := lw_g (lw_at lw_m5 113 rfl) rfl
theorem q1142 : (Jvm.Cond.code ({ cls := "java/lang/IndexOutOfBoundsException", name := "<init>", desc := "(Ljava/lang/String;)V" } : Jvm.MethodName) prog_27_method_2_code (2 : Nat) (Option.none : Option Jvm.ClassFile.FieldType)) ∈ lw_all := lw_g (lw_at lw_m5 114 rfl) rfl
theorem q1143 : (Jvm.Cond.methodLink "java/lang/IndexOutOfBoundsException" (7 : Nat) ({ cls := "java/lang/RuntimeException", name := "<init>", desc := "(Ljava/lang/String;)V" } : Jvm.MethodName)) ∈ lw_all := lw_g (lw_at lw_m5 115 rfl) rfl
theorem q1152 : (Jvm.Cond.declares ({ cls := "java/lang/IndexOutOfBoundsException", name := "<init>", desc := "()V" } : Jvm.MethodName)) ∈ lw_tbl := lw_at lw_m5 124 rfl
theorem q1153 : (Jvm.Cond.declares ({ cls := "java/lang/IndexOutOfBoundsException", name := "<init>", desc := "(Ljava/lang/String;)V" } : Jvm.MethodName)) ∈ lw_tbl := lw_at lw_m5 125 rfl

/-! java/lang/ArrayIndexOutOfBoundsException -/
set_option maxRecDepth 100000
def RJ17 : String := "java/lang/ArrayIndexOutOfBoundsException"
def TJ17 : u_T := fun k => match k with
  | 0 => ("java/lang/Throwable", "backtrace", "Ljava/lang/Object;", false)
  | 1 => ("java/lang/Throwable", "detailMessage", "Ljava/lang/String;", false)
  | 2 => ("java/lang/Throwable", "cause", "Ljava/lang/Throwable;", false)
  | 3 => ("java/lang/Throwable", "stackTrace", "[Ljava/lang/StackTraceElement;", false)
  | 4 => ("java/lang/Throwable", "depth", "I", false)
  | _ => ("java/lang/Throwable", "suppressedExceptions", "Ljava/util/List;", false)
def tyJ17 : Nat → FieldType := fun k => match k with
  | 0 => .object "java/lang/Object"
  | 1 => .object "java/lang/String"
  | 2 => .object "java/lang/Throwable"
  | 3 => .array (.object "java/lang/StackTraceElement")
  | 4 => .int
  | _ => .object "java/util/List"
abbrev wsJ170 : List Cond := u_ws RJ17 TJ17 6
theorem nmJ17 : ∀ a, a < 6 → ∀ b, b < 6 → a ≠ b → (TJ17 a).2.1 ≠ (TJ17 b).2.1 := by decide +kernel
theorem tyJ17_ok : ∀ k, k < 6 → parseFieldDescriptor (TJ17 k).2.2.1 = some (tyJ17 k) := by decide +kernel
abbrev cJ17_init : ByteArray := prog_23_method_2_code
def yJ17_init : MethodName := ⟨RJ17, "<init>", "(Ljava/lang/String;)V"⟩
def dkwJ17_init_0 : List UInt8 := [42, 43, 183, 0, 7, 177]
abbrev dktJ17_init_0 : List UInt8 := dkwJ17_init_0 ++ []
theorem dksJ17_init_0 : cJ17_init.data.toList.drop 0 = dktJ17_init_0 := by decide +kernel
theorem dJ17_init_0 : decode cJ17_init 0 = .ok (.aload_n 0, 1) := dk_42 (dk_at dksJ17_init_0 0 rfl rfl)
theorem dJ17_init_1 : decode cJ17_init 1 = .ok (.aload_n 1, 1) := dk_43 (dk_at dksJ17_init_0 1 rfl rfl)
theorem dJ17_init_2 : decode cJ17_init 2 = .ok (.invokespecial 7, 3) := dk_183 0 7 (dk_at dksJ17_init_0 2 rfl rfl)
theorem dJ17_init_5 : decode cJ17_init 5 = .ok (.return_, 1) := dk_177 (dk_at dksJ17_init_0 5 rfl rfl)
theorem q105 : (Jvm.Cond.initialized "java/lang/ArrayIndexOutOfBoundsException") ∈ lw_all := lw_g (lw_at lw_m1 37 rfl) rfl
theorem q360 : (Jvm.Cond.selects "java/lang/ArrayIndexOutOfBoundsException" ({ cls := "java/lang/Object", name := "getClass", desc := "()Ljava/lang/Class;" } : Jvm.MethodName) ({ cls := "java/lang/Object", name := "getClass", desc := "()Ljava/lang/Class;" } : Jvm.MethodName)) ∈ lw_all := lw_g (lw_at lw_m2 52 rfl) rfl
theorem q454 : (Jvm.Cond.selects "java/lang/ArrayIndexOutOfBoundsException" ({ cls := "java/lang/Throwable", name := "fillInStackTrace", desc := "()Ljava/lang/Throwable;" } : Jvm.MethodName) ({ cls := "java/lang/Throwable", name := "fillInStackTrace", desc := "()Ljava/lang/Throwable;" } : Jvm.MethodName)) ∈ lw_all := lw_g (lw_at lw_m2 146 rfl) rfl
theorem q1137 : (Jvm.Cond.instantiable "java/lang/ArrayIndexOutOfBoundsException" (6 : Nat)) ∈ lw_all := lw_g (lw_at lw_m5 109 rfl) rfl
theorem q1138 : (Jvm.Cond.instanceMethod ({ cls := "java/lang/ArrayIndexOutOfBoundsException", name := "<init>", desc := "(Ljava/lang/String;)V" } : Jvm.MethodName)) ∈ lw_all := lw_g (lw_at lw_m5 110 rfl) rfl
theorem q1139 : (Jvm.Cond.code ({ cls := "java/lang/ArrayIndexOutOfBoundsException", name := "<init>", desc := "(Ljava/lang/String;)V" } : Jvm.MethodName) prog_23_method_2_code (2 : Nat) (Option.none : Option Jvm.ClassFile.FieldType)) ∈ lw_all := lw_g (lw_at lw_m5 111 rfl) rfl
theorem q1140 : (Jvm.Cond.methodLink "java/lang/ArrayIndexOutOfBoundsException" (7 : Nat) ({ cls := "java/lang/IndexOutOfBoundsException", name := "<init>", desc := "(Ljava/lang/String;)V" } : Jvm.MethodName)) ∈ lw_all := lw_g (lw_at lw_m5 112 rfl) rfl
theorem q1144 : (Jvm.Cond.lays "java/lang/ArrayIndexOutOfBoundsException" "java/lang/Throwable" "backtrace" "Ljava/lang/Object;") ∈ lw_all := lw_g (lw_at lw_m5 116 rfl) rfl
theorem q1145 : (Jvm.Cond.lays "java/lang/ArrayIndexOutOfBoundsException" "java/lang/Throwable" "detailMessage" "Ljava/lang/String;") ∈ lw_all := lw_g (lw_at lw_m5 117 rfl) rfl
theorem q1146 : (Jvm.Cond.lays "java/lang/ArrayIndexOutOfBoundsException" "java/lang/Throwable" "cause" "Ljava/lang/Throwable;") ∈ lw_all := lw_g (lw_at lw_m5 118 rfl) rfl
theorem q1147 : (Jvm.Cond.lays "java/lang/ArrayIndexOutOfBoundsException" "java/lang/Throwable" "stackTrace" "[Ljava/lang/StackTraceElement;") ∈ lw_all := lw_g (lw_at lw_m5 119 rfl) rfl
theorem q1148 : (Jvm.Cond.lays "java/lang/ArrayIndexOutOfBoundsException" "java/lang/Throwable" "depth" "I") ∈ lw_all := lw_g (lw_at lw_m5 120 rfl) rfl
theorem q1149 : (Jvm.Cond.lays "java/lang/ArrayIndexOutOfBoundsException" "java/lang/Throwable" "suppressedExceptions" "Ljava/util/List;") ∈ lw_all := lw_g (lw_at lw_m5 121 rfl) rfl
theorem q1150 : (Jvm.Cond.superclass "java/lang/ArrayIndexOutOfBoundsException" "java/lang/IndexOutOfBoundsException") ∈ lw_all := lw_g (lw_at lw_m5 122 rfl) rfl
theorem q1151 : (Jvm.Cond.castable "java/lang/ArrayIndexOutOfBoundsException" "java/lang/ArrayIndexOutOfBoundsException") ∈ lw_tbl := lw_at lw_m5 123 rfl
theorem q1154 : (Jvm.Cond.selects "java/lang/ArrayIndexOutOfBoundsException" ({ cls := "java/lang/Throwable", name := "fillInStackTrace", desc := "(I)Ljava/lang/Throwable;" } : Jvm.MethodName) ({ cls := "java/lang/Throwable", name := "fillInStackTrace", desc := "(I)Ljava/lang/Throwable;" } : Jvm.MethodName)) ∈ lw_all := lw_g (lw_at lw_m5 126 rfl) rfl
theorem q1633 : (Jvm.Cond.castable "java/lang/ArrayIndexOutOfBoundsException" "java/lang/Object") ∈ lw_tbl := lw_at lw_m7 125 rfl
theorem in_J17 : ∀ w ∈ wsJ170, w ∈ lw_all := lw_in wsJ170 [1144, 1145, 1146, 1147, 1148, 1149] (by decide +kernel) (by decide +kernel)

/-! java/lang/Object -/
set_option maxRecDepth 100000
def RJ18 : String := "java/lang/Object"
abbrev cJ18_init : ByteArray := object_method_1_code
def yJ18_init : MethodName := ⟨RJ18, "<init>", "()V"⟩
theorem dJ18_init_0 : decode cJ18_init 0 = .ok (.return_, 1) := by decide +kernel
theorem q133 : (Jvm.Cond.instanceMethod ({ cls := "java/lang/Object", name := "<init>", desc := "()V" } : Jvm.MethodName)) ∈ lw_all := lw_g (lw_at lw_m1 65 rfl) rfl
theorem q134 : (Jvm.Cond.code ({ cls := "java/lang/Object", name := "<init>", desc := "()V" } : Jvm.MethodName) object_method_1_code (1 : Nat) (Option.none : Option Jvm.ClassFile.FieldType)) ∈ lw_all := lw_g (lw_at lw_m1 66 rfl) rfl
theorem q341 : (Jvm.Cond.instanceMethod ({ cls := "java/lang/Object", name := "getClass", desc := "()Ljava/lang/Class;" } : Jvm.MethodName)) ∈ lw_all := lw_g (lw_at lw_m2 33 rfl) rfl
theorem q342 : (Jvm.Cond.sameMethod "java/lang/Object" "java/lang/Object" "getClass" "()Ljava/lang/Class;") ∈ lw_all := lw_g (lw_at lw_m2 34 rfl) rfl
theorem q365 : (Jvm.Cond.native ({ cls := "java/lang/Object", name := "getClass", desc := "()Ljava/lang/Class;" } : Jvm.MethodName)) ∈ lw_all := lw_g (lw_at lw_m2 57 rfl) rfl
theorem q1638 : (Jvm.Cond.declares ({ cls := "java/lang/Object", name := "getClass", desc := "()Ljava/lang/Class;" } : Jvm.MethodName)) ∈ lw_tbl := lw_at lw_m7 130 rfl

/-! java/util/ArrayList -/
set_option maxRecDepth 100000
def RJ2 : String := "java/util/ArrayList"
def TJ2 : u_T := fun k => match k with
  | 0 => ("java/util/AbstractList", "modCount", "I", false)
  | 1 => ("java/util/ArrayList", "elementData", "[Ljava/lang/Object;", false)
  | _ => ("java/util/ArrayList", "size", "I", false)
def tyJ2 : Nat → FieldType := fun k => match k with
  | 0 => .int
  | 1 => .array (.object "java/lang/Object")
  | _ => .int
abbrev wsJ20 : List Cond := u_ws RJ2 TJ2 3
theorem nmJ2 : ∀ a, a < 3 → ∀ b, b < 3 → a ≠ b → (TJ2 a).2.1 ≠ (TJ2 b).2.1 := by decide +kernel
theorem tyJ2_ok : ∀ k, k < 3 → parseFieldDescriptor (TJ2 k).2.2.1 = some (tyJ2 k) := by decide +kernel
abbrev cJ2_init : ByteArray := prog_39_method_2_code
def yJ2_init : MethodName := ⟨RJ2, "<init>", "()V"⟩
def dkwJ2_init_0 : List UInt8 := [42, 183, 0, 1, 42, 178, 0, 39, 181, 0, 9, 177]
abbrev dktJ2_init_0 : List UInt8 := dkwJ2_init_0 ++ []
theorem dksJ2_init_0 : cJ2_init.data.toList.drop 0 = dktJ2_init_0 := by decide +kernel
theorem dJ2_init_0 : decode cJ2_init 0 = .ok (.aload_n 0, 1) := dk_42 (dk_at dksJ2_init_0 0 rfl rfl)
theorem dJ2_init_1 : decode cJ2_init 1 = .ok (.invokespecial 1, 3) := dk_183 0 1 (dk_at dksJ2_init_0 1 rfl rfl)
theorem dJ2_init_4 : decode cJ2_init 4 = .ok (.aload_n 0, 1) := dk_42 (dk_at dksJ2_init_0 4 rfl rfl)
theorem dJ2_init_5 : decode cJ2_init 5 = .ok (.getstatic 39, 3) := dk_178 0 39 (dk_at dksJ2_init_0 5 rfl rfl)
theorem dJ2_init_8 : decode cJ2_init 8 = .ok (.putfield 9, 3) := dk_181 0 9 (dk_at dksJ2_init_0 8 rfl rfl)
theorem dJ2_init_11 : decode cJ2_init 11 = .ok (.return_, 1) := dk_177 (dk_at dksJ2_init_0 11 rfl rfl)
abbrev cJ2_size : ByteArray := prog_39_method_8_code
def yJ2_size : MethodName := ⟨RJ2, "size", "()I"⟩
theorem dJ2_size_0 : decode cJ2_size 0 = .ok (.aload_n 0, 1) := by decide +kernel
theorem dJ2_size_1 : decode cJ2_size 1 = .ok (.getfield 48, 3) := by decide +kernel
theorem dJ2_size_4 : decode cJ2_size 4 = .ok (.ireturn, 1) := by decide +kernel
abbrev cJ2_get : ByteArray := prog_39_method_20_code
def yJ2_get : MethodName := ⟨RJ2, "get", "(I)Ljava/lang/Object;"⟩
def dkwJ2_get_0 : List UInt8 := [27, 42, 180, 0, 48, 184, 0, 118, 87, 42, 27, 182, 0, 123, 176]
abbrev dktJ2_get_0 : List UInt8 := dkwJ2_get_0 ++ []
theorem dksJ2_get_0 : cJ2_get.data.toList.drop 0 = dktJ2_get_0 := by decide +kernel
theorem dJ2_get_0 : decode cJ2_get 0 = .ok (.iload_n 1, 1) := dk_27 (dk_at dksJ2_get_0 0 rfl rfl)
theorem dJ2_get_1 : decode cJ2_get 1 = .ok (.aload_n 0, 1) := dk_42 (dk_at dksJ2_get_0 1 rfl rfl)
theorem dJ2_get_2 : decode cJ2_get 2 = .ok (.getfield 48, 3) := dk_180 0 48 (dk_at dksJ2_get_0 2 rfl rfl)
theorem dJ2_get_5 : decode cJ2_get 5 = .ok (.invokestatic 118, 3) := dk_184 0 118 (dk_at dksJ2_get_0 5 rfl rfl)
theorem dJ2_get_8 : decode cJ2_get 8 = .ok (.pop, 1) := dk_87 (dk_at dksJ2_get_0 8 rfl rfl)
theorem dJ2_get_9 : decode cJ2_get 9 = .ok (.aload_n 0, 1) := dk_42 (dk_at dksJ2_get_0 9 rfl rfl)
theorem dJ2_get_10 : decode cJ2_get 10 = .ok (.iload_n 1, 1) := dk_27 (dk_at dksJ2_get_0 10 rfl rfl)
theorem dJ2_get_11 : decode cJ2_get 11 = .ok (.invokevirtual 123, 3) := dk_182 0 123 (dk_at dksJ2_get_0 11 rfl rfl)
theorem dJ2_get_14 : decode cJ2_get 14 = .ok (.areturn, 1) := dk_176 (dk_at dksJ2_get_0 14 rfl rfl)
abbrev cJ2_elementData : ByteArray := prog_39_method_18_code
def yJ2_elementData : MethodName := ⟨RJ2, "elementData", "(I)Ljava/lang/Object;"⟩
def dkwJ2_elementData_0 : List UInt8 := [42, 180, 0, 9, 27, 50, 176]
abbrev dktJ2_elementData_0 : List UInt8 := dkwJ2_elementData_0 ++ []
theorem dksJ2_elementData_0 : cJ2_elementData.data.toList.drop 0 = dktJ2_elementData_0 := by decide +kernel
theorem dJ2_elementData_0 : decode cJ2_elementData 0 = .ok (.aload_n 0, 1) := dk_42 (dk_at dksJ2_elementData_0 0 rfl rfl)
theorem dJ2_elementData_1 : decode cJ2_elementData 1 = .ok (.getfield 9, 3) := dk_180 0 9 (dk_at dksJ2_elementData_0 1 rfl rfl)
theorem dJ2_elementData_4 : decode cJ2_elementData 4 = .ok (.iload_n 1, 1) := dk_27 (dk_at dksJ2_elementData_0 4 rfl rfl)
theorem dJ2_elementData_5 : decode cJ2_elementData 5 = .ok (.aaload, 1) := dk_50 (dk_at dksJ2_elementData_0 5 rfl rfl)
theorem dJ2_elementData_6 : decode cJ2_elementData 6 = .ok (.areturn, 1) := dk_176 (dk_at dksJ2_elementData_0 6 rfl rfl)
abbrev cJ2_add : ByteArray := prog_39_method_25_code
def yJ2_add : MethodName := ⟨RJ2, "add", "(Ljava/lang/Object;)Z"⟩
def dkwJ2_add_1 : List UInt8 := [172]
abbrev dktJ2_add_1 : List UInt8 := dkwJ2_add_1 ++ []
def dkwJ2_add_0 : List UInt8 := [42, 89, 180, 0, 63, 4, 96, 181, 0, 63, 42, 43, 42, 180, 0, 9, 42, 180, 0, 48, 182, 0, 131, 4]
abbrev dktJ2_add_0 : List UInt8 := dkwJ2_add_0 ++ dktJ2_add_1
theorem dksJ2_add_0 : cJ2_add.data.toList.drop 0 = dktJ2_add_0 := by decide +kernel
theorem dksJ2_add_1 : cJ2_add.data.toList.drop 24 = dktJ2_add_1 := dk_seg dksJ2_add_0 24 rfl rfl
theorem dJ2_add_0 : decode cJ2_add 0 = .ok (.aload_n 0, 1) := dk_42 (dk_at dksJ2_add_0 0 rfl rfl)
theorem dJ2_add_1 : decode cJ2_add 1 = .ok (.dup, 1) := dk_89 (dk_at dksJ2_add_0 1 rfl rfl)
theorem dJ2_add_2 : decode cJ2_add 2 = .ok (.getfield 63, 3) := dk_180 0 63 (dk_at dksJ2_add_0 2 rfl rfl)
theorem dJ2_add_5 : decode cJ2_add 5 = .ok (.iconst 1, 1) := dk_4 (dk_at dksJ2_add_0 5 rfl rfl)
theorem dJ2_add_6 : decode cJ2_add 6 = .ok (.iadd, 1) := dk_96 (dk_at dksJ2_add_0 6 rfl rfl)
theorem dJ2_add_7 : decode cJ2_add 7 = .ok (.putfield 63, 3) := dk_181 0 63 (dk_at dksJ2_add_0 7 rfl rfl)
theorem dJ2_add_10 : decode cJ2_add 10 = .ok (.aload_n 0, 1) := dk_42 (dk_at dksJ2_add_0 10 rfl rfl)
theorem dJ2_add_11 : decode cJ2_add 11 = .ok (.aload_n 1, 1) := dk_43 (dk_at dksJ2_add_0 11 rfl rfl)
theorem dJ2_add_12 : decode cJ2_add 12 = .ok (.aload_n 0, 1) := dk_42 (dk_at dksJ2_add_0 12 rfl rfl)
theorem dJ2_add_13 : decode cJ2_add 13 = .ok (.getfield 9, 3) := dk_180 0 9 (dk_at dksJ2_add_0 13 rfl rfl)
theorem dJ2_add_16 : decode cJ2_add 16 = .ok (.aload_n 0, 1) := dk_42 (dk_at dksJ2_add_0 16 rfl rfl)
theorem dJ2_add_17 : decode cJ2_add 17 = .ok (.getfield 48, 3) := dk_180 0 48 (dk_at dksJ2_add_0 17 rfl rfl)
theorem dJ2_add_20 : decode cJ2_add 20 = .ok (.invokevirtual 131, 3) := dk_182 0 131 (dk_at dksJ2_add_0 20 rfl rfl)
theorem dJ2_add_23 : decode cJ2_add 23 = .ok (.iconst 1, 1) := dk_4 (dk_at dksJ2_add_0 23 rfl rfl)
theorem dJ2_add_24 : decode cJ2_add 24 = .ok (.ireturn, 1) := dk_172 (dk_at dksJ2_add_1 0 rfl rfl)
abbrev cJ2_add_2 : ByteArray := prog_39_method_24_code
def yJ2_add_2 : MethodName := ⟨RJ2, "add", "(Ljava/lang/Object;[Ljava/lang/Object;I)V"⟩
def dkwJ2_add_2_0 : List UInt8 := [29, 44, 190, 160, 0, 8, 42, 182, 0, 129, 77, 44, 29, 43, 83, 42, 29, 4, 96, 181, 0, 48, 177]
abbrev dktJ2_add_2_0 : List UInt8 := dkwJ2_add_2_0 ++ []
theorem dksJ2_add_2_0 : cJ2_add_2.data.toList.drop 0 = dktJ2_add_2_0 := by decide +kernel
theorem dJ2_add_2_0 : decode cJ2_add_2 0 = .ok (.iload_n 3, 1) := dk_29 (dk_at dksJ2_add_2_0 0 rfl rfl)
theorem dJ2_add_2_1 : decode cJ2_add_2 1 = .ok (.aload_n 2, 1) := dk_44 (dk_at dksJ2_add_2_0 1 rfl rfl)
theorem dJ2_add_2_2 : decode cJ2_add_2 2 = .ok (.arraylength, 1) := dk_190 (dk_at dksJ2_add_2_0 2 rfl rfl)
theorem dJ2_add_2_3 : decode cJ2_add_2 3 = .ok (.if_icmp .ne 8, 3) := dk_160 0 8 (dk_at dksJ2_add_2_0 3 rfl rfl)
theorem dJ2_add_2_6 : decode cJ2_add_2 6 = .ok (.aload_n 0, 1) := dk_42 (dk_at dksJ2_add_2_0 6 rfl rfl)
theorem dJ2_add_2_7 : decode cJ2_add_2 7 = .ok (.invokevirtual 129, 3) := dk_182 0 129 (dk_at dksJ2_add_2_0 7 rfl rfl)
theorem dJ2_add_2_10 : decode cJ2_add_2 10 = .ok (.astore_n 2, 1) := dk_77 (dk_at dksJ2_add_2_0 10 rfl rfl)
theorem dJ2_add_2_11 : decode cJ2_add_2 11 = .ok (.aload_n 2, 1) := dk_44 (dk_at dksJ2_add_2_0 11 rfl rfl)
theorem dJ2_add_2_12 : decode cJ2_add_2 12 = .ok (.iload_n 3, 1) := dk_29 (dk_at dksJ2_add_2_0 12 rfl rfl)
theorem dJ2_add_2_13 : decode cJ2_add_2 13 = .ok (.aload_n 1, 1) := dk_43 (dk_at dksJ2_add_2_0 13 rfl rfl)
theorem dJ2_add_2_14 : decode cJ2_add_2 14 = .ok (.aastore, 1) := dk_83 (dk_at dksJ2_add_2_0 14 rfl rfl)
theorem dJ2_add_2_15 : decode cJ2_add_2 15 = .ok (.aload_n 0, 1) := dk_42 (dk_at dksJ2_add_2_0 15 rfl rfl)
theorem dJ2_add_2_16 : decode cJ2_add_2 16 = .ok (.iload_n 3, 1) := dk_29 (dk_at dksJ2_add_2_0 16 rfl rfl)
theorem dJ2_add_2_17 : decode cJ2_add_2 17 = .ok (.iconst 1, 1) := dk_4 (dk_at dksJ2_add_2_0 17 rfl rfl)
theorem dJ2_add_2_18 : decode cJ2_add_2 18 = .ok (.iadd, 1) := dk_96 (dk_at dksJ2_add_2_0 18 rfl rfl)
theorem dJ2_add_2_19 : decode cJ2_add_2 19 = .ok (.putfield 48, 3) := dk_181 0 48 (dk_at dksJ2_add_2_0 19 rfl rfl)
theorem dJ2_add_2_22 : decode cJ2_add_2 22 = .ok (.return_, 1) := dk_177 (dk_at dksJ2_add_2_0 22 rfl rfl)
abbrev cJ2_grow : ByteArray := prog_39_method_7_code
def yJ2_grow : MethodName := ⟨RJ2, "grow", "()[Ljava/lang/Object;"⟩
def dkwJ2_grow_0 : List UInt8 := [42, 42, 180, 0, 48, 4, 96, 182, 0, 69, 176]
abbrev dktJ2_grow_0 : List UInt8 := dkwJ2_grow_0 ++ []
theorem dksJ2_grow_0 : cJ2_grow.data.toList.drop 0 = dktJ2_grow_0 := by decide +kernel
theorem dJ2_grow_0 : decode cJ2_grow 0 = .ok (.aload_n 0, 1) := dk_42 (dk_at dksJ2_grow_0 0 rfl rfl)
theorem dJ2_grow_1 : decode cJ2_grow 1 = .ok (.aload_n 0, 1) := dk_42 (dk_at dksJ2_grow_0 1 rfl rfl)
theorem dJ2_grow_2 : decode cJ2_grow 2 = .ok (.getfield 48, 3) := dk_180 0 48 (dk_at dksJ2_grow_0 2 rfl rfl)
theorem dJ2_grow_5 : decode cJ2_grow 5 = .ok (.iconst 1, 1) := dk_4 (dk_at dksJ2_grow_0 5 rfl rfl)
theorem dJ2_grow_6 : decode cJ2_grow 6 = .ok (.iadd, 1) := dk_96 (dk_at dksJ2_grow_0 6 rfl rfl)
theorem dJ2_grow_7 : decode cJ2_grow 7 = .ok (.invokevirtual 69, 3) := dk_182 0 69 (dk_at dksJ2_grow_0 7 rfl rfl)
theorem dJ2_grow_10 : decode cJ2_grow 10 = .ok (.areturn, 1) := dk_176 (dk_at dksJ2_grow_0 10 rfl rfl)
abbrev cJ2_grow_2 : ByteArray := prog_39_method_6_code
def yJ2_grow_2 : MethodName := ⟨RJ2, "grow", "(I)[Ljava/lang/Object;"⟩
def dkwJ2_grow_2_2 : List UInt8 := [27, 184, 0, 79, 189, 0, 7, 90, 181, 0, 9, 176]
abbrev dktJ2_grow_2_2 : List UInt8 := dkwJ2_grow_2_2 ++ []
def dkwJ2_grow_2_1 : List UInt8 := [28, 4, 122, 184, 0, 73, 62, 42, 42, 180, 0, 9, 29, 184, 0, 66, 90, 181, 0, 9, 176, 42, 16, 10]
abbrev dktJ2_grow_2_1 : List UInt8 := dkwJ2_grow_2_1 ++ dktJ2_grow_2_2
def dkwJ2_grow_2_0 : List UInt8 := [42, 180, 0, 9, 190, 61, 28, 157, 0, 13, 42, 180, 0, 9, 178, 0, 39, 165, 0, 28, 28, 27, 28, 100]
abbrev dktJ2_grow_2_0 : List UInt8 := dkwJ2_grow_2_0 ++ dktJ2_grow_2_1
theorem dksJ2_grow_2_0 : cJ2_grow_2.data.toList.drop 0 = dktJ2_grow_2_0 := by decide +kernel
theorem dksJ2_grow_2_1 : cJ2_grow_2.data.toList.drop 24 = dktJ2_grow_2_1 := dk_seg dksJ2_grow_2_0 24 rfl rfl
theorem dksJ2_grow_2_2 : cJ2_grow_2.data.toList.drop 48 = dktJ2_grow_2_2 := dk_seg dksJ2_grow_2_1 24 rfl rfl
theorem dJ2_grow_2_0 : decode cJ2_grow_2 0 = .ok (.aload_n 0, 1) := dk_42 (dk_at dksJ2_grow_2_0 0 rfl rfl)
theorem dJ2_grow_2_1 : decode cJ2_grow_2 1 = .ok (.getfield 9, 3) := dk_180 0 9 (dk_at dksJ2_grow_2_0 1 rfl rfl)
theorem dJ2_grow_2_4 : decode cJ2_grow_2 4 = .ok (.arraylength, 1) := dk_190 (dk_at dksJ2_grow_2_0 4 rfl rfl)
theorem dJ2_grow_2_5 : decode cJ2_grow_2 5 = .ok (.istore_n 2, 1) := dk_61 (dk_at dksJ2_grow_2_0 5 rfl rfl)
theorem dJ2_grow_2_6 : decode cJ2_grow_2 6 = .ok (.iload_n 2, 1) := dk_28 (dk_at dksJ2_grow_2_0 6 rfl rfl)
theorem dJ2_grow_2_7 : decode cJ2_grow_2 7 = .ok (.ifCond .gt 13, 3) := dk_157 0 13 (dk_at dksJ2_grow_2_0 7 rfl rfl)
theorem dJ2_grow_2_10 : decode cJ2_grow_2 10 = .ok (.aload_n 0, 1) := dk_42 (dk_at dksJ2_grow_2_0 10 rfl rfl)
theorem dJ2_grow_2_11 : decode cJ2_grow_2 11 = .ok (.getfield 9, 3) := dk_180 0 9 (dk_at dksJ2_grow_2_0 11 rfl rfl)
theorem dJ2_grow_2_14 : decode cJ2_grow_2 14 = .ok (.getstatic 39, 3) := dk_178 0 39 (dk_at dksJ2_grow_2_0 14 rfl rfl)
theorem dJ2_grow_2_17 : decode cJ2_grow_2 17 = .ok (.if_acmp .eq 28, 3) := dk_165 0 28 (dk_at dksJ2_grow_2_0 17 rfl rfl)
theorem dJ2_grow_2_20 : decode cJ2_grow_2 20 = .ok (.iload_n 2, 1) := dk_28 (dk_at dksJ2_grow_2_0 20 rfl rfl)
theorem dJ2_grow_2_21 : decode cJ2_grow_2 21 = .ok (.iload_n 1, 1) := dk_27 (dk_at dksJ2_grow_2_0 21 rfl rfl)
theorem dJ2_grow_2_22 : decode cJ2_grow_2 22 = .ok (.iload_n 2, 1) := dk_28 (dk_at dksJ2_grow_2_0 22 rfl rfl)
theorem dJ2_grow_2_23 : decode cJ2_grow_2 23 = .ok (.isub, 1) := dk_100 (dk_at dksJ2_grow_2_0 23 rfl rfl)
theorem dJ2_grow_2_24 : decode cJ2_grow_2 24 = .ok (.iload_n 2, 1) := dk_28 (dk_at dksJ2_grow_2_1 0 rfl rfl)
theorem dJ2_grow_2_25 : decode cJ2_grow_2 25 = .ok (.iconst 1, 1) := dk_4 (dk_at dksJ2_grow_2_1 1 rfl rfl)
theorem dJ2_grow_2_26 : decode cJ2_grow_2 26 = .ok (.ishr, 1) := dk_122 (dk_at dksJ2_grow_2_1 2 rfl rfl)
theorem dJ2_grow_2_27 : decode cJ2_grow_2 27 = .ok (.invokestatic 73, 3) := dk_184 0 73 (dk_at dksJ2_grow_2_1 3 rfl rfl)
theorem dJ2_grow_2_30 : decode cJ2_grow_2 30 = .ok (.istore_n 3, 1) := dk_62 (dk_at dksJ2_grow_2_1 6 rfl rfl)
theorem dJ2_grow_2_31 : decode cJ2_grow_2 31 = .ok (.aload_n 0, 1) := dk_42 (dk_at dksJ2_grow_2_1 7 rfl rfl)
theorem dJ2_grow_2_32 : decode cJ2_grow_2 32 = .ok (.aload_n 0, 1) := dk_42 (dk_at dksJ2_grow_2_1 8 rfl rfl)
theorem dJ2_grow_2_33 : decode cJ2_grow_2 33 = .ok (.getfield 9, 3) := dk_180 0 9 (dk_at dksJ2_grow_2_1 9 rfl rfl)
theorem dJ2_grow_2_36 : decode cJ2_grow_2 36 = .ok (.iload_n 3, 1) := dk_29 (dk_at dksJ2_grow_2_1 12 rfl rfl)
theorem dJ2_grow_2_37 : decode cJ2_grow_2 37 = .ok (.invokestatic 66, 3) := dk_184 0 66 (dk_at dksJ2_grow_2_1 13 rfl rfl)
theorem dJ2_grow_2_40 : decode cJ2_grow_2 40 = .ok (.dup_x1, 1) := dk_90 (dk_at dksJ2_grow_2_1 16 rfl rfl)
theorem dJ2_grow_2_41 : decode cJ2_grow_2 41 = .ok (.putfield 9, 3) := dk_181 0 9 (dk_at dksJ2_grow_2_1 17 rfl rfl)
theorem dJ2_grow_2_44 : decode cJ2_grow_2 44 = .ok (.areturn, 1) := dk_176 (dk_at dksJ2_grow_2_1 20 rfl rfl)
theorem dJ2_grow_2_45 : decode cJ2_grow_2 45 = .ok (.aload_n 0, 1) := dk_42 (dk_at dksJ2_grow_2_1 21 rfl rfl)
theorem dJ2_grow_2_46 : decode cJ2_grow_2 46 = .ok (.bipush 10, 2) := dk_16 10 (dk_at dksJ2_grow_2_1 22 rfl rfl)
theorem dJ2_grow_2_48 : decode cJ2_grow_2 48 = .ok (.iload_n 1, 1) := dk_27 (dk_at dksJ2_grow_2_2 0 rfl rfl)
theorem dJ2_grow_2_49 : decode cJ2_grow_2 49 = .ok (.invokestatic 79, 3) := dk_184 0 79 (dk_at dksJ2_grow_2_2 1 rfl rfl)
theorem dJ2_grow_2_52 : decode cJ2_grow_2 52 = .ok (.anewarray 7, 3) := dk_189 0 7 (dk_at dksJ2_grow_2_2 4 rfl rfl)
theorem dJ2_grow_2_55 : decode cJ2_grow_2 55 = .ok (.dup_x1, 1) := dk_90 (dk_at dksJ2_grow_2_2 7 rfl rfl)
theorem dJ2_grow_2_56 : decode cJ2_grow_2 56 = .ok (.putfield 9, 3) := dk_181 0 9 (dk_at dksJ2_grow_2_2 8 rfl rfl)
theorem dJ2_grow_2_59 : decode cJ2_grow_2 59 = .ok (.areturn, 1) := dk_176 (dk_at dksJ2_grow_2_2 11 rfl rfl)
abbrev cJ2_isEmpty : ByteArray := prog_39_method_9_code
def yJ2_isEmpty : MethodName := ⟨RJ2, "isEmpty", "()Z"⟩
def dkwJ2_isEmpty_0 : List UInt8 := [42, 180, 0, 48, 154, 0, 7, 4, 167, 0, 4, 3, 172]
abbrev dktJ2_isEmpty_0 : List UInt8 := dkwJ2_isEmpty_0 ++ []
theorem dksJ2_isEmpty_0 : cJ2_isEmpty.data.toList.drop 0 = dktJ2_isEmpty_0 := by decide +kernel
theorem dJ2_isEmpty_0 : decode cJ2_isEmpty 0 = .ok (.aload_n 0, 1) := dk_42 (dk_at dksJ2_isEmpty_0 0 rfl rfl)
theorem dJ2_isEmpty_1 : decode cJ2_isEmpty 1 = .ok (.getfield 48, 3) := dk_180 0 48 (dk_at dksJ2_isEmpty_0 1 rfl rfl)
theorem dJ2_isEmpty_4 : decode cJ2_isEmpty 4 = .ok (.ifCond .ne 7, 3) := dk_154 0 7 (dk_at dksJ2_isEmpty_0 4 rfl rfl)
theorem dJ2_isEmpty_7 : decode cJ2_isEmpty 7 = .ok (.iconst 1, 1) := dk_4 (dk_at dksJ2_isEmpty_0 7 rfl rfl)
theorem dJ2_isEmpty_8 : decode cJ2_isEmpty 8 = .ok (.goto 4, 3) := dk_167 0 4 (dk_at dksJ2_isEmpty_0 8 rfl rfl)
theorem dJ2_isEmpty_11 : decode cJ2_isEmpty 11 = .ok (.iconst 0, 1) := dk_3 (dk_at dksJ2_isEmpty_0 11 rfl rfl)
theorem dJ2_isEmpty_12 : decode cJ2_isEmpty 12 = .ok (.ireturn, 1) := dk_172 (dk_at dksJ2_isEmpty_0 12 rfl rfl)
abbrev cJ2_remove : ByteArray := prog_39_method_29_code
def yJ2_remove : MethodName := ⟨RJ2, "remove", "(I)Ljava/lang/Object;"⟩
def dkwJ2_remove_1 : List UInt8 := [45, 176]
abbrev dktJ2_remove_1 : List UInt8 := dkwJ2_remove_1 ++ []
def dkwJ2_remove_0 : List UInt8 := [27, 42, 180, 0, 48, 184, 0, 118, 87, 42, 180, 0, 9, 77, 44, 27, 50, 78, 42, 44, 27, 182, 0, 144]
abbrev dktJ2_remove_0 : List UInt8 := dkwJ2_remove_0 ++ dktJ2_remove_1
theorem dksJ2_remove_0 : cJ2_remove.data.toList.drop 0 = dktJ2_remove_0 := by decide +kernel
theorem dksJ2_remove_1 : cJ2_remove.data.toList.drop 24 = dktJ2_remove_1 := dk_seg dksJ2_remove_0 24 rfl rfl
theorem dJ2_remove_0 : decode cJ2_remove 0 = .ok (.iload_n 1, 1) := dk_27 (dk_at dksJ2_remove_0 0 rfl rfl)
theorem dJ2_remove_1 : decode cJ2_remove 1 = .ok (.aload_n 0, 1) := dk_42 (dk_at dksJ2_remove_0 1 rfl rfl)
theorem dJ2_remove_2 : decode cJ2_remove 2 = .ok (.getfield 48, 3) := dk_180 0 48 (dk_at dksJ2_remove_0 2 rfl rfl)
theorem dJ2_remove_5 : decode cJ2_remove 5 = .ok (.invokestatic 118, 3) := dk_184 0 118 (dk_at dksJ2_remove_0 5 rfl rfl)
theorem dJ2_remove_8 : decode cJ2_remove 8 = .ok (.pop, 1) := dk_87 (dk_at dksJ2_remove_0 8 rfl rfl)
theorem dJ2_remove_9 : decode cJ2_remove 9 = .ok (.aload_n 0, 1) := dk_42 (dk_at dksJ2_remove_0 9 rfl rfl)
theorem dJ2_remove_10 : decode cJ2_remove 10 = .ok (.getfield 9, 3) := dk_180 0 9 (dk_at dksJ2_remove_0 10 rfl rfl)
theorem dJ2_remove_13 : decode cJ2_remove 13 = .ok (.astore_n 2, 1) := dk_77 (dk_at dksJ2_remove_0 13 rfl rfl)
theorem dJ2_remove_14 : decode cJ2_remove 14 = .ok (.aload_n 2, 1) := dk_44 (dk_at dksJ2_remove_0 14 rfl rfl)
theorem dJ2_remove_15 : decode cJ2_remove 15 = .ok (.iload_n 1, 1) := dk_27 (dk_at dksJ2_remove_0 15 rfl rfl)
theorem dJ2_remove_16 : decode cJ2_remove 16 = .ok (.aaload, 1) := dk_50 (dk_at dksJ2_remove_0 16 rfl rfl)
theorem dJ2_remove_17 : decode cJ2_remove 17 = .ok (.astore_n 3, 1) := dk_78 (dk_at dksJ2_remove_0 17 rfl rfl)
theorem dJ2_remove_18 : decode cJ2_remove 18 = .ok (.aload_n 0, 1) := dk_42 (dk_at dksJ2_remove_0 18 rfl rfl)
theorem dJ2_remove_19 : decode cJ2_remove 19 = .ok (.aload_n 2, 1) := dk_44 (dk_at dksJ2_remove_0 19 rfl rfl)
theorem dJ2_remove_20 : decode cJ2_remove 20 = .ok (.iload_n 1, 1) := dk_27 (dk_at dksJ2_remove_0 20 rfl rfl)
theorem dJ2_remove_21 : decode cJ2_remove 21 = .ok (.invokevirtual 144, 3) := dk_182 0 144 (dk_at dksJ2_remove_0 21 rfl rfl)
theorem dJ2_remove_24 : decode cJ2_remove 24 = .ok (.aload_n 3, 1) := dk_45 (dk_at dksJ2_remove_1 0 rfl rfl)
theorem dJ2_remove_25 : decode cJ2_remove 25 = .ok (.areturn, 1) := dk_176 (dk_at dksJ2_remove_1 1 rfl rfl)
abbrev cJ2_fastRemove : ByteArray := prog_39_method_39_code
def yJ2_fastRemove : MethodName := ⟨RJ2, "fastRemove", "([Ljava/lang/Object;I)V"⟩
def dkwJ2_fastRemove_1 : List UInt8 := [4, 96, 43, 28, 29, 28, 100, 184, 0, 112, 43, 42, 29, 90, 181, 0, 48, 1, 83, 177]
abbrev dktJ2_fastRemove_1 : List UInt8 := dkwJ2_fastRemove_1 ++ []
def dkwJ2_fastRemove_0 : List UInt8 := [42, 89, 180, 0, 63, 4, 96, 181, 0, 63, 42, 180, 0, 48, 4, 100, 89, 62, 28, 164, 0, 15, 43, 28]
abbrev dktJ2_fastRemove_0 : List UInt8 := dkwJ2_fastRemove_0 ++ dktJ2_fastRemove_1
theorem dksJ2_fastRemove_0 : cJ2_fastRemove.data.toList.drop 0 = dktJ2_fastRemove_0 := by decide +kernel
theorem dksJ2_fastRemove_1 : cJ2_fastRemove.data.toList.drop 24 = dktJ2_fastRemove_1 := dk_seg dksJ2_fastRemove_0 24 rfl rfl
theorem dJ2_fastRemove_0 : decode cJ2_fastRemove 0 = .ok (.aload_n 0, 1) := dk_42 (dk_at dksJ2_fastRemove_0 0 rfl rfl)
theorem dJ2_fastRemove_1 : decode cJ2_fastRemove 1 = .ok (.dup, 1) := dk_89 (dk_at dksJ2_fastRemove_0 1 rfl rfl)
theorem dJ2_fastRemove_2 : decode cJ2_fastRemove 2 = .ok (.getfield 63, 3) := dk_180 0 63 (dk_at dksJ2_fastRemove_0 2 rfl rfl)
theorem dJ2_fastRemove_5 : decode cJ2_fastRemove 5 = .ok (.iconst 1, 1) := dk_4 (dk_at dksJ2_fastRemove_0 5 rfl rfl)
theorem dJ2_fastRemove_6 : decode cJ2_fastRemove 6 = .ok (.iadd, 1) := dk_96 (dk_at dksJ2_fastRemove_0 6 rfl rfl)
theorem dJ2_fastRemove_7 : decode cJ2_fastRemove 7 = .ok (.putfield 63, 3) := dk_181 0 63 (dk_at dksJ2_fastRemove_0 7 rfl rfl)
theorem dJ2_fastRemove_10 : decode cJ2_fastRemove 10 = .ok (.aload_n 0, 1) := dk_42 (dk_at dksJ2_fastRemove_0 10 rfl rfl)
theorem dJ2_fastRemove_11 : decode cJ2_fastRemove 11 = .ok (.getfield 48, 3) := dk_180 0 48 (dk_at dksJ2_fastRemove_0 11 rfl rfl)
theorem dJ2_fastRemove_14 : decode cJ2_fastRemove 14 = .ok (.iconst 1, 1) := dk_4 (dk_at dksJ2_fastRemove_0 14 rfl rfl)
theorem dJ2_fastRemove_15 : decode cJ2_fastRemove 15 = .ok (.isub, 1) := dk_100 (dk_at dksJ2_fastRemove_0 15 rfl rfl)
theorem dJ2_fastRemove_16 : decode cJ2_fastRemove 16 = .ok (.dup, 1) := dk_89 (dk_at dksJ2_fastRemove_0 16 rfl rfl)
theorem dJ2_fastRemove_17 : decode cJ2_fastRemove 17 = .ok (.istore_n 3, 1) := dk_62 (dk_at dksJ2_fastRemove_0 17 rfl rfl)
theorem dJ2_fastRemove_18 : decode cJ2_fastRemove 18 = .ok (.iload_n 2, 1) := dk_28 (dk_at dksJ2_fastRemove_0 18 rfl rfl)
theorem dJ2_fastRemove_19 : decode cJ2_fastRemove 19 = .ok (.if_icmp .le 15, 3) := dk_164 0 15 (dk_at dksJ2_fastRemove_0 19 rfl rfl)
theorem dJ2_fastRemove_22 : decode cJ2_fastRemove 22 = .ok (.aload_n 1, 1) := dk_43 (dk_at dksJ2_fastRemove_0 22 rfl rfl)
theorem dJ2_fastRemove_23 : decode cJ2_fastRemove 23 = .ok (.iload_n 2, 1) := dk_28 (dk_at dksJ2_fastRemove_0 23 rfl rfl)
theorem dJ2_fastRemove_24 : decode cJ2_fastRemove 24 = .ok (.iconst 1, 1) := dk_4 (dk_at dksJ2_fastRemove_1 0 rfl rfl)
theorem dJ2_fastRemove_25 : decode cJ2_fastRemove 25 = .ok (.iadd, 1) := dk_96 (dk_at dksJ2_fastRemove_1 1 rfl rfl)
theorem dJ2_fastRemove_26 : decode cJ2_fastRemove 26 = .ok (.aload_n 1, 1) := dk_43 (dk_at dksJ2_fastRemove_1 2 rfl rfl)
theorem dJ2_fastRemove_27 : decode cJ2_fastRemove 27 = .ok (.iload_n 2, 1) := dk_28 (dk_at dksJ2_fastRemove_1 3 rfl rfl)
theorem dJ2_fastRemove_28 : decode cJ2_fastRemove 28 = .ok (.iload_n 3, 1) := dk_29 (dk_at dksJ2_fastRemove_1 4 rfl rfl)
theorem dJ2_fastRemove_29 : decode cJ2_fastRemove 29 = .ok (.iload_n 2, 1) := dk_28 (dk_at dksJ2_fastRemove_1 5 rfl rfl)
theorem dJ2_fastRemove_30 : decode cJ2_fastRemove 30 = .ok (.isub, 1) := dk_100 (dk_at dksJ2_fastRemove_1 6 rfl rfl)
theorem dJ2_fastRemove_31 : decode cJ2_fastRemove 31 = .ok (.invokestatic 112, 3) := dk_184 0 112 (dk_at dksJ2_fastRemove_1 7 rfl rfl)
theorem dJ2_fastRemove_34 : decode cJ2_fastRemove 34 = .ok (.aload_n 1, 1) := dk_43 (dk_at dksJ2_fastRemove_1 10 rfl rfl)
theorem dJ2_fastRemove_35 : decode cJ2_fastRemove 35 = .ok (.aload_n 0, 1) := dk_42 (dk_at dksJ2_fastRemove_1 11 rfl rfl)
theorem dJ2_fastRemove_36 : decode cJ2_fastRemove 36 = .ok (.iload_n 3, 1) := dk_29 (dk_at dksJ2_fastRemove_1 12 rfl rfl)
theorem dJ2_fastRemove_37 : decode cJ2_fastRemove 37 = .ok (.dup_x1, 1) := dk_90 (dk_at dksJ2_fastRemove_1 13 rfl rfl)
theorem dJ2_fastRemove_38 : decode cJ2_fastRemove 38 = .ok (.putfield 48, 3) := dk_181 0 48 (dk_at dksJ2_fastRemove_1 14 rfl rfl)
theorem dJ2_fastRemove_41 : decode cJ2_fastRemove 41 = .ok (.aconst_null, 1) := dk_1 (dk_at dksJ2_fastRemove_1 17 rfl rfl)
theorem dJ2_fastRemove_42 : decode cJ2_fastRemove 42 = .ok (.aastore, 1) := dk_83 (dk_at dksJ2_fastRemove_1 18 rfl rfl)
theorem dJ2_fastRemove_43 : decode cJ2_fastRemove 43 = .ok (.return_, 1) := dk_177 (dk_at dksJ2_fastRemove_1 19 rfl rfl)
abbrev cJ2_clear : ByteArray := prog_39_method_40_code
def yJ2_clear : MethodName := ⟨RJ2, "clear", "()V"⟩
def dkwJ2_clear_1 : List UInt8 := [181, 0, 48, 62, 29, 28, 162, 0, 13, 43, 29, 1, 83, 132, 3, 1, 167, 255, 244, 177]
abbrev dktJ2_clear_1 : List UInt8 := dkwJ2_clear_1 ++ []
def dkwJ2_clear_0 : List UInt8 := [42, 89, 180, 0, 63, 4, 96, 181, 0, 63, 42, 180, 0, 9, 76, 42, 180, 0, 48, 61, 42, 3, 90]
abbrev dktJ2_clear_0 : List UInt8 := dkwJ2_clear_0 ++ dktJ2_clear_1
theorem dksJ2_clear_0 : cJ2_clear.data.toList.drop 0 = dktJ2_clear_0 := by decide +kernel
theorem dksJ2_clear_1 : cJ2_clear.data.toList.drop 23 = dktJ2_clear_1 := dk_seg dksJ2_clear_0 23 rfl rfl
theorem dJ2_clear_0 : decode cJ2_clear 0 = .ok (.aload_n 0, 1) := dk_42 (dk_at dksJ2_clear_0 0 rfl rfl)
theorem dJ2_clear_1 : decode cJ2_clear 1 = .ok (.dup, 1) := dk_89 (dk_at dksJ2_clear_0 1 rfl rfl)
theorem dJ2_clear_2 : decode cJ2_clear 2 = .ok (.getfield 63, 3) := dk_180 0 63 (dk_at dksJ2_clear_0 2 rfl rfl)
theorem dJ2_clear_5 : decode cJ2_clear 5 = .ok (.iconst 1, 1) := dk_4 (dk_at dksJ2_clear_0 5 rfl rfl)
theorem dJ2_clear_6 : decode cJ2_clear 6 = .ok (.iadd, 1) := dk_96 (dk_at dksJ2_clear_0 6 rfl rfl)
theorem dJ2_clear_7 : decode cJ2_clear 7 = .ok (.putfield 63, 3) := dk_181 0 63 (dk_at dksJ2_clear_0 7 rfl rfl)
theorem dJ2_clear_10 : decode cJ2_clear 10 = .ok (.aload_n 0, 1) := dk_42 (dk_at dksJ2_clear_0 10 rfl rfl)
theorem dJ2_clear_11 : decode cJ2_clear 11 = .ok (.getfield 9, 3) := dk_180 0 9 (dk_at dksJ2_clear_0 11 rfl rfl)
theorem dJ2_clear_14 : decode cJ2_clear 14 = .ok (.astore_n 1, 1) := dk_76 (dk_at dksJ2_clear_0 14 rfl rfl)
theorem dJ2_clear_15 : decode cJ2_clear 15 = .ok (.aload_n 0, 1) := dk_42 (dk_at dksJ2_clear_0 15 rfl rfl)
theorem dJ2_clear_16 : decode cJ2_clear 16 = .ok (.getfield 48, 3) := dk_180 0 48 (dk_at dksJ2_clear_0 16 rfl rfl)
theorem dJ2_clear_19 : decode cJ2_clear 19 = .ok (.istore_n 2, 1) := dk_61 (dk_at dksJ2_clear_0 19 rfl rfl)
theorem dJ2_clear_20 : decode cJ2_clear 20 = .ok (.aload_n 0, 1) := dk_42 (dk_at dksJ2_clear_0 20 rfl rfl)
theorem dJ2_clear_21 : decode cJ2_clear 21 = .ok (.iconst 0, 1) := dk_3 (dk_at dksJ2_clear_0 21 rfl rfl)
theorem dJ2_clear_22 : decode cJ2_clear 22 = .ok (.dup_x1, 1) := dk_90 (dk_at dksJ2_clear_0 22 rfl rfl)
theorem dJ2_clear_23 : decode cJ2_clear 23 = .ok (.putfield 48, 3) := dk_181 0 48 (dk_at dksJ2_clear_1 0 rfl rfl)
theorem dJ2_clear_26 : decode cJ2_clear 26 = .ok (.istore_n 3, 1) := dk_62 (dk_at dksJ2_clear_1 3 rfl rfl)
theorem dJ2_clear_27 : decode cJ2_clear 27 = .ok (.iload_n 3, 1) := dk_29 (dk_at dksJ2_clear_1 4 rfl rfl)
theorem dJ2_clear_28 : decode cJ2_clear 28 = .ok (.iload_n 2, 1) := dk_28 (dk_at dksJ2_clear_1 5 rfl rfl)
theorem dJ2_clear_29 : decode cJ2_clear 29 = .ok (.if_icmp .ge 13, 3) := dk_162 0 13 (dk_at dksJ2_clear_1 6 rfl rfl)
theorem dJ2_clear_32 : decode cJ2_clear 32 = .ok (.aload_n 1, 1) := dk_43 (dk_at dksJ2_clear_1 9 rfl rfl)
theorem dJ2_clear_33 : decode cJ2_clear 33 = .ok (.iload_n 3, 1) := dk_29 (dk_at dksJ2_clear_1 10 rfl rfl)
theorem dJ2_clear_34 : decode cJ2_clear 34 = .ok (.aconst_null, 1) := dk_1 (dk_at dksJ2_clear_1 11 rfl rfl)
theorem dJ2_clear_35 : decode cJ2_clear 35 = .ok (.aastore, 1) := dk_83 (dk_at dksJ2_clear_1 12 rfl rfl)
theorem dJ2_clear_36 : decode cJ2_clear 36 = .ok (.iinc 3 1, 3) := dk_132 3 1 (dk_at dksJ2_clear_1 13 rfl rfl)
theorem dJ2_clear_39 : decode cJ2_clear 39 = .ok (.goto (-12), 3) := dk_167 255 244 (dk_at dksJ2_clear_1 16 rfl rfl)
theorem dJ2_clear_42 : decode cJ2_clear 42 = .ok (.return_, 1) := dk_177 (dk_at dksJ2_clear_1 19 rfl rfl)
theorem q72 : (Jvm.Cond.initialized "java/util/ArrayList") ∈ lw_all := lw_g (lw_at lw_m1 4 rfl) rfl
theorem q136 : (Jvm.Cond.instantiable "java/util/ArrayList" (3 : Nat)) ∈ lw_all := lw_g (lw_at lw_m1 68 rfl) rfl
theorem q138 : (Jvm.Cond.instanceMethod ({ cls := "java/util/ArrayList", name := "<init>", desc := "()V" } : Jvm.MethodName)) ∈ lw_all := lw_g (lw_at lw_m1 70 rfl) rfl
theorem q139 : (Jvm.Cond.code ({ cls := "java/util/ArrayList", name := "<init>", desc := "()V" } : Jvm.MethodName) prog_39_method_2_code (1 : Nat) (Option.none : Option Jvm.ClassFile.FieldType)) ∈ lw_all := lw_g (lw_at lw_m1 71 rfl) rfl
theorem q140 : (Jvm.Cond.methodLink "java/util/ArrayList" (1 : Nat) ({ cls := "java/util/AbstractList", name := "<init>", desc := "()V" } : Jvm.MethodName)) ∈ lw_all := lw_g (lw_at lw_m1 72 rfl) rfl
theorem q147 : (Jvm.Cond.fieldLink "java/util/ArrayList" (39 : Nat) "java/util/ArrayList" "DEFAULTCAPACITY_EMPTY_ELEMENTDATA" "[Ljava/lang/Object;") ∈ lw_all := lw_g (lw_at lw_m1 79 rfl) rfl
theorem q148 : (Jvm.Cond.laysStatic "java/util/ArrayList" "DEFAULTCAPACITY_EMPTY_ELEMENTDATA" "[Ljava/lang/Object;") ∈ lw_tbl := lw_at lw_m1 80 rfl
theorem q149 : (Jvm.Cond.fieldLink "java/util/ArrayList" (9 : Nat) "java/util/ArrayList" "elementData" "[Ljava/lang/Object;") ∈ lw_all := lw_g (lw_at lw_m1 81 rfl) rfl
theorem q150 : (Jvm.Cond.fieldLink "java/util/ArrayList" (48 : Nat) "java/util/ArrayList" "size" "I") ∈ lw_all := lw_g (lw_at lw_m1 82 rfl) rfl
theorem q152 : (Jvm.Cond.fieldLink "java/util/ArrayList" (63 : Nat) "java/util/ArrayList" "modCount" "I") ∈ lw_all := lw_g (lw_at lw_m1 84 rfl) rfl
theorem q153 : (Jvm.Cond.sameField "java/util/ArrayList" "java/util/AbstractList" "modCount" "I") ∈ lw_all := lw_g (lw_at lw_m1 85 rfl) rfl
theorem q154 : (Jvm.Cond.lays "java/util/ArrayList" "java/util/ArrayList" "elementData" "[Ljava/lang/Object;") ∈ lw_all := lw_g (lw_at lw_m1 86 rfl) rfl
theorem q155 : (Jvm.Cond.soleField "java/util/ArrayList" "elementData") ∈ lw_all := lw_g (lw_at lw_m1 87 rfl) rfl
theorem q156 : (Jvm.Cond.lays "java/util/ArrayList" "java/util/ArrayList" "size" "I") ∈ lw_all := lw_g (lw_at lw_m1 88 rfl) rfl
theorem q157 : (Jvm.Cond.soleField "java/util/ArrayList" "size") ∈ lw_all := lw_g (lw_at lw_m1 89 rfl) rfl
theorem q158 : (Jvm.Cond.lays "java/util/ArrayList" "java/util/AbstractList" "modCount" "I") ∈ lw_all := lw_g (lw_at lw_m1 90 rfl) rfl
theorem q160 : (Jvm.Cond.superclass "java/util/ArrayList" "java/util/AbstractList") ∈ lw_all := lw_g (lw_at lw_m1 92 rfl) rfl
theorem q276 : (Jvm.Cond.castable "java/util/ArrayList" "java/util/List") ∈ lw_tbl := lw_at lw_m1 208 rfl
theorem q277 : (Jvm.Cond.selects "java/util/ArrayList" ({ cls := "java/util/List", name := "size", desc := "()I" } : Jvm.MethodName) ({ cls := "java/util/ArrayList", name := "size", desc := "()I" } : Jvm.MethodName)) ∈ lw_all := lw_g (lw_at lw_m1 209 rfl) rfl
theorem q278 : (Jvm.Cond.unhidden "java/util/ArrayList" "size" "()I") ∈ lw_tbl := lw_at lw_m1 210 rfl
theorem q279 : (Jvm.Cond.instanceMethod ({ cls := "java/util/ArrayList", name := "size", desc := "()I" } : Jvm.MethodName)) ∈ lw_all := lw_g (lw_at lw_m1 211 rfl) rfl
theorem q280 : (Jvm.Cond.publicMethod ({ cls := "java/util/ArrayList", name := "size", desc := "()I" } : Jvm.MethodName)) ∈ lw_tbl := lw_at lw_m1 212 rfl
theorem q281 : (Jvm.Cond.code ({ cls := "java/util/ArrayList", name := "size", desc := "()I" } : Jvm.MethodName) prog_39_method_8_code (1 : Nat) (Option.some Jvm.ClassFile.FieldType.int)) ∈ lw_all := lw_g (lw_at lw_m1 213 rfl) rfl
theorem q286 : (Jvm.Cond.selects "java/util/ArrayList" ({ cls := "java/util/List", name := "get", desc := "(I)Ljava/lang/Object;" } : Jvm.MethodName) ({ cls := "java/util/ArrayList", name := "get", desc := "(I)Ljava/lang/Object;" } : Jvm.MethodName)) ∈ lw_all := lw_g (lw_at lw_m1 218 rfl) rfl
theorem q287 : (Jvm.Cond.unhidden "java/util/ArrayList" "get" "(I)Ljava/lang/Object;") ∈ lw_tbl := lw_at lw_m1 219 rfl
theorem q288 : (Jvm.Cond.instanceMethod ({ cls := "java/util/ArrayList", name := "get", desc := "(I)Ljava/lang/Object;" } : Jvm.MethodName)) ∈ lw_all := lw_g (lw_at lw_m1 220 rfl) rfl
theorem q289 : (Jvm.Cond.publicMethod ({ cls := "java/util/ArrayList", name := "get", desc := "(I)Ljava/lang/Object;" } : Jvm.MethodName)) ∈ lw_tbl := lw_at lw_m1 221 rfl
theorem q290 : (Jvm.Cond.code ({ cls := "java/util/ArrayList", name := "get", desc := "(I)Ljava/lang/Object;" } : Jvm.MethodName) prog_39_method_20_code (2 : Nat) (Option.some (Jvm.ClassFile.FieldType.object "java/lang/Object"))) ∈ lw_all := lw_g (lw_at lw_m1 222 rfl) rfl
theorem q291 : (Jvm.Cond.methodLink "java/util/ArrayList" (118 : Nat) ({ cls := "java/util/Objects", name := "checkIndex", desc := "(II)I" } : Jvm.MethodName)) ∈ lw_all := lw_g (lw_at lw_m1 223 rfl) rfl
theorem q297 : (Jvm.Cond.methodLink "java/util/ArrayList" (123 : Nat) ({ cls := "java/util/ArrayList", name := "elementData", desc := "(I)Ljava/lang/Object;" } : Jvm.MethodName)) ∈ lw_all := lw_g (lw_at lw_m1 229 rfl) rfl
theorem q298 : (Jvm.Cond.instanceMethod ({ cls := "java/util/ArrayList", name := "elementData", desc := "(I)Ljava/lang/Object;" } : Jvm.MethodName)) ∈ lw_all := lw_g (lw_at lw_m1 230 rfl) rfl
theorem q299 : (Jvm.Cond.selects "java/util/ArrayList" ({ cls := "java/util/ArrayList", name := "elementData", desc := "(I)Ljava/lang/Object;" } : Jvm.MethodName) ({ cls := "java/util/ArrayList", name := "elementData", desc := "(I)Ljava/lang/Object;" } : Jvm.MethodName)) ∈ lw_all := lw_g (lw_at lw_m1 231 rfl) rfl
theorem q300 : (Jvm.Cond.code ({ cls := "java/util/ArrayList", name := "elementData", desc := "(I)Ljava/lang/Object;" } : Jvm.MethodName) prog_39_method_18_code (2 : Nat) (Option.some (Jvm.ClassFile.FieldType.object "java/lang/Object"))) ∈ lw_all := lw_g (lw_at lw_m1 232 rfl) rfl
theorem q310 : (Jvm.Cond.selects "java/util/ArrayList" ({ cls := "java/util/List", name := "add", desc := "(Ljava/lang/Object;)Z" } : Jvm.MethodName) ({ cls := "java/util/ArrayList", name := "add", desc := "(Ljava/lang/Object;)Z" } : Jvm.MethodName)) ∈ lw_all := lw_g (lw_at lw_m2 2 rfl) rfl
theorem q311 : (Jvm.Cond.unhidden "java/util/ArrayList" "add" "(Ljava/lang/Object;)Z") ∈ lw_tbl := lw_at lw_m2 3 rfl
theorem q312 : (Jvm.Cond.instanceMethod ({ cls := "java/util/ArrayList", name := "add", desc := "(Ljava/lang/Object;)Z" } : Jvm.MethodName)) ∈ lw_all := lw_g (lw_at lw_m2 4 rfl) rfl
theorem q313 : (Jvm.Cond.publicMethod ({ cls := "java/util/ArrayList", name := "add", desc := "(Ljava/lang/Object;)Z" } : Jvm.MethodName)) ∈ lw_tbl := lw_at lw_m2 5 rfl
theorem q314 : (Jvm.Cond.code ({ cls := "java/util/ArrayList", name := "add", desc := "(Ljava/lang/Object;)Z" } : Jvm.MethodName) prog_39_method_25_code (2 : Nat) (Option.some Jvm.ClassFile.FieldType.boolean)) ∈ lw_all := lw_g (lw_at lw_m2 6 rfl) rfl
theorem q315 : (Jvm.Cond.methodLink "java/util/ArrayList" (131 : Nat) ({ cls := "java/util/ArrayList", name := "add", desc := "(Ljava/lang/Object;[Ljava/lang/Object;I)V" } : Jvm.MethodName)) ∈ lw_all := lw_g (lw_at lw_m2 7 rfl) rfl
theorem q316 : (Jvm.Cond.privateMethod ({ cls := "java/util/ArrayList", name := "add", desc := "(Ljava/lang/Object;[Ljava/lang/Object;I)V" } : Jvm.MethodName)) ∈ lw_tbl := lw_at lw_m2 8 rfl
theorem q317 : (Jvm.Cond.instanceMethod ({ cls := "java/util/ArrayList", name := "add", desc := "(Ljava/lang/Object;[Ljava/lang/Object;I)V" } : Jvm.MethodName)) ∈ lw_all := lw_g (lw_at lw_m2 9 rfl) rfl
theorem q318 : (Jvm.Cond.code ({ cls := "java/util/ArrayList", name := "add", desc := "(Ljava/lang/Object;[Ljava/lang/Object;I)V" } : Jvm.MethodName) prog_39_method_24_code (4 : Nat) (Option.none : Option Jvm.ClassFile.FieldType)) ∈ lw_all := lw_g (lw_at lw_m2 10 rfl) rfl
theorem q319 : (Jvm.Cond.methodLink "java/util/ArrayList" (129 : Nat) ({ cls := "java/util/ArrayList", name := "grow", desc := "()[Ljava/lang/Object;" } : Jvm.MethodName)) ∈ lw_all := lw_g (lw_at lw_m2 11 rfl) rfl
theorem q320 : (Jvm.Cond.privateMethod ({ cls := "java/util/ArrayList", name := "grow", desc := "()[Ljava/lang/Object;" } : Jvm.MethodName)) ∈ lw_tbl := lw_at lw_m2 12 rfl
theorem q321 : (Jvm.Cond.instanceMethod ({ cls := "java/util/ArrayList", name := "grow", desc := "()[Ljava/lang/Object;" } : Jvm.MethodName)) ∈ lw_all := lw_g (lw_at lw_m2 13 rfl) rfl
theorem q322 : (Jvm.Cond.code ({ cls := "java/util/ArrayList", name := "grow", desc := "()[Ljava/lang/Object;" } : Jvm.MethodName) prog_39_method_7_code (1 : Nat) (Option.some (Jvm.ClassFile.FieldType.array (Jvm.ClassFile.FieldType.object "java/lang/Object")))) ∈ lw_all := lw_g (lw_at lw_m2 14 rfl) rfl
theorem q323 : (Jvm.Cond.methodLink "java/util/ArrayList" (69 : Nat) ({ cls := "java/util/ArrayList", name := "grow", desc := "(I)[Ljava/lang/Object;" } : Jvm.MethodName)) ∈ lw_all := lw_g (lw_at lw_m2 15 rfl) rfl
theorem q324 : (Jvm.Cond.privateMethod ({ cls := "java/util/ArrayList", name := "grow", desc := "(I)[Ljava/lang/Object;" } : Jvm.MethodName)) ∈ lw_tbl := lw_at lw_m2 16 rfl
theorem q325 : (Jvm.Cond.instanceMethod ({ cls := "java/util/ArrayList", name := "grow", desc := "(I)[Ljava/lang/Object;" } : Jvm.MethodName)) ∈ lw_all := lw_g (lw_at lw_m2 17 rfl) rfl
theorem q326 : (Jvm.Cond.code ({ cls := "java/util/ArrayList", name := "grow", desc := "(I)[Ljava/lang/Object;" } : Jvm.MethodName) prog_39_method_6_code (4 : Nat) (Option.some (Jvm.ClassFile.FieldType.array (Jvm.ClassFile.FieldType.object "java/lang/Object")))) ∈ lw_all := lw_g (lw_at lw_m2 18 rfl) rfl
theorem q327 : (Jvm.Cond.methodLink "java/util/ArrayList" (73 : Nat) ({ cls := "jdk/internal/util/ArraysSupport", name := "newLength", desc := "(III)I" } : Jvm.MethodName)) ∈ lw_all := lw_g (lw_at lw_m2 19 rfl) rfl
theorem q337 : (Jvm.Cond.methodLink "java/util/ArrayList" (66 : Nat) ({ cls := "java/util/Arrays", name := "copyOf", desc := "([Ljava/lang/Object;I)[Ljava/lang/Object;" } : Jvm.MethodName)) ∈ lw_all := lw_g (lw_at lw_m2 29 rfl) rfl
theorem q364 : (Jvm.Cond.selects "java/util/ArrayList" ({ cls := "java/lang/Object", name := "getClass", desc := "()Ljava/lang/Class;" } : Jvm.MethodName) ({ cls := "java/lang/Object", name := "getClass", desc := "()Ljava/lang/Class;" } : Jvm.MethodName)) ∈ lw_all := lw_g (lw_at lw_m2 56 rfl) rfl
theorem q378 : (Jvm.Cond.methodLink "java/util/ArrayList" (79 : Nat) ({ cls := "java/lang/Math", name := "max", desc := "(II)I" } : Jvm.MethodName)) ∈ lw_all := lw_g (lw_at lw_m2 70 rfl) rfl
theorem q379 : (Jvm.Cond.classLink "java/util/ArrayList" (7 : Nat) "java/lang/Object") ∈ lw_all := lw_g (lw_at lw_m2 71 rfl) rfl
theorem q730 : (Jvm.Cond.selects "java/util/ArrayList" ({ cls := "java/util/List", name := "isEmpty", desc := "()Z" } : Jvm.MethodName) ({ cls := "java/util/ArrayList", name := "isEmpty", desc := "()Z" } : Jvm.MethodName)) ∈ lw_all := lw_g (lw_at lw_m3 182 rfl) rfl
theorem q731 : (Jvm.Cond.unhidden "java/util/ArrayList" "isEmpty" "()Z") ∈ lw_tbl := lw_at lw_m3 183 rfl
theorem q732 : (Jvm.Cond.instanceMethod ({ cls := "java/util/ArrayList", name := "isEmpty", desc := "()Z" } : Jvm.MethodName)) ∈ lw_all := lw_g (lw_at lw_m3 184 rfl) rfl
theorem q733 : (Jvm.Cond.publicMethod ({ cls := "java/util/ArrayList", name := "isEmpty", desc := "()Z" } : Jvm.MethodName)) ∈ lw_tbl := lw_at lw_m3 185 rfl
theorem q734 : (Jvm.Cond.code ({ cls := "java/util/ArrayList", name := "isEmpty", desc := "()Z" } : Jvm.MethodName) prog_39_method_9_code (1 : Nat) (Option.some Jvm.ClassFile.FieldType.boolean)) ∈ lw_all := lw_g (lw_at lw_m3 186 rfl) rfl
theorem q958 : (Jvm.Cond.selects "java/util/ArrayList" ({ cls := "java/util/List", name := "remove", desc := "(I)Ljava/lang/Object;" } : Jvm.MethodName) ({ cls := "java/util/ArrayList", name := "remove", desc := "(I)Ljava/lang/Object;" } : Jvm.MethodName)) ∈ lw_all := lw_g (lw_at lw_m4 170 rfl) rfl
theorem q959 : (Jvm.Cond.unhidden "java/util/ArrayList" "remove" "(I)Ljava/lang/Object;") ∈ lw_tbl := lw_at lw_m4 171 rfl
theorem q960 : (Jvm.Cond.instanceMethod ({ cls := "java/util/ArrayList", name := "remove", desc := "(I)Ljava/lang/Object;" } : Jvm.MethodName)) ∈ lw_all := lw_g (lw_at lw_m4 172 rfl) rfl
theorem q961 : (Jvm.Cond.publicMethod ({ cls := "java/util/ArrayList", name := "remove", desc := "(I)Ljava/lang/Object;" } : Jvm.MethodName)) ∈ lw_tbl := lw_at lw_m4 173 rfl
theorem q962 : (Jvm.Cond.code ({ cls := "java/util/ArrayList", name := "remove", desc := "(I)Ljava/lang/Object;" } : Jvm.MethodName) prog_39_method_29_code (4 : Nat) (Option.some (Jvm.ClassFile.FieldType.object "java/lang/Object"))) ∈ lw_all := lw_g (lw_at lw_m4 174 rfl) rfl
theorem q963 : (Jvm.Cond.methodLink "java/util/ArrayList" (144 : Nat) ({ cls := "java/util/ArrayList", name := "fastRemove", desc := "([Ljava/lang/Object;I)V" } : Jvm.MethodName)) ∈ lw_all := lw_g (lw_at lw_m4 175 rfl) rfl
theorem q964 : (Jvm.Cond.privateMethod ({ cls := "java/util/ArrayList", name := "fastRemove", desc := "([Ljava/lang/Object;I)V" } : Jvm.MethodName)) ∈ lw_tbl := lw_at lw_m4 176 rfl
theorem q965 : (Jvm.Cond.instanceMethod ({ cls := "java/util/ArrayList", name := "fastRemove", desc := "([Ljava/lang/Object;I)V" } : Jvm.MethodName)) ∈ lw_all := lw_g (lw_at lw_m4 177 rfl) rfl
theorem q966 : (Jvm.Cond.code ({ cls := "java/util/ArrayList", name := "fastRemove", desc := "([Ljava/lang/Object;I)V" } : Jvm.MethodName) prog_39_method_39_code (4 : Nat) (Option.none : Option Jvm.ClassFile.FieldType)) ∈ lw_all := lw_g (lw_at lw_m4 178 rfl) rfl
theorem q967 : (Jvm.Cond.methodLink "java/util/ArrayList" (112 : Nat) ({ cls := "java/lang/System", name := "arraycopy", desc := "(Ljava/lang/Object;ILjava/lang/Object;II)V" } : Jvm.MethodName)) ∈ lw_all := lw_g (lw_at lw_m4 179 rfl) rfl
theorem q976 : (Jvm.Cond.selects "java/util/ArrayList" ({ cls := "java/util/List", name := "clear", desc := "()V" } : Jvm.MethodName) ({ cls := "java/util/ArrayList", name := "clear", desc := "()V" } : Jvm.MethodName)) ∈ lw_all := lw_g (lw_at lw_m4 188 rfl) rfl
theorem q977 : (Jvm.Cond.unhidden "java/util/ArrayList" "clear" "()V") ∈ lw_tbl := lw_at lw_m4 189 rfl
theorem q978 : (Jvm.Cond.instanceMethod ({ cls := "java/util/ArrayList", name := "clear", desc := "()V" } : Jvm.MethodName)) ∈ lw_all := lw_g (lw_at lw_m4 190 rfl) rfl
theorem q979 : (Jvm.Cond.publicMethod ({ cls := "java/util/ArrayList", name := "clear", desc := "()V" } : Jvm.MethodName)) ∈ lw_tbl := lw_at lw_m4 191 rfl
theorem q980 : (Jvm.Cond.code ({ cls := "java/util/ArrayList", name := "clear", desc := "()V" } : Jvm.MethodName) prog_39_method_40_code (4 : Nat) (Option.none : Option Jvm.ClassFile.FieldType)) ∈ lw_all := lw_g (lw_at lw_m4 192 rfl) rfl
theorem q1617 : (Jvm.Cond.castable "java/util/ArrayList" "java/lang/Object") ∈ lw_tbl := lw_at lw_m7 109 rfl
theorem in_J2 : ∀ w ∈ wsJ20, w ∈ lw_all := lw_in wsJ20 [158, 154, 156] (by decide +kernel) (by decide +kernel)

/-! java/lang/Throwable -/
set_option maxRecDepth 100000
def RJ3 : String := "java/lang/Throwable"
def TJ3 : u_T := fun k => match k with
  | 0 => ("java/lang/Throwable", "cause", "Ljava/lang/Throwable;", false)
  | 1 => ("java/lang/Throwable", "stackTrace", "[Ljava/lang/StackTraceElement;", false)
  | 2 => ("java/lang/Throwable", "suppressedExceptions", "Ljava/util/List;", false)
  | 3 => ("java/lang/Throwable", "detailMessage", "Ljava/lang/String;", false)
  | _ => ("java/lang/Throwable", "backtrace", "Ljava/lang/Object;", false)
def tyJ3 : Nat → FieldType := fun k => match k with
  | 0 => .object "java/lang/Throwable"
  | 1 => .array (.object "java/lang/StackTraceElement")
  | 2 => .object "java/util/List"
  | 3 => .object "java/lang/String"
  | _ => .object "java/lang/Object"
abbrev wsJ30 : List Cond := u_ws RJ3 TJ3 5
theorem nmJ3 : ∀ a, a < 5 → ∀ b, b < 5 → a ≠ b → (TJ3 a).2.1 ≠ (TJ3 b).2.1 := by decide +kernel
theorem tyJ3_ok : ∀ k, k < 5 → parseFieldDescriptor (TJ3 k).2.2.1 = some (tyJ3 k) := by decide +kernel
abbrev cJ3_init : ByteArray := prog_36_method_1_code
def yJ3_init : MethodName := ⟨RJ3, "<init>", "()V"⟩
def dkwJ3_init_1 : List UInt8 := [182, 0, 27, 87, 177]
abbrev dktJ3_init_1 : List UInt8 := dkwJ3_init_1 ++ []
def dkwJ3_init_0 : List UInt8 := [42, 183, 0, 1, 42, 42, 181, 0, 7, 42, 178, 0, 13, 181, 0, 17, 42, 178, 0, 20, 181, 0, 24, 42]
abbrev dktJ3_init_0 : List UInt8 := dkwJ3_init_0 ++ dktJ3_init_1
theorem dksJ3_init_0 : cJ3_init.data.toList.drop 0 = dktJ3_init_0 := by decide +kernel
theorem dksJ3_init_1 : cJ3_init.data.toList.drop 24 = dktJ3_init_1 := dk_seg dksJ3_init_0 24 rfl rfl
theorem dJ3_init_0 : decode cJ3_init 0 = .ok (.aload_n 0, 1) := dk_42 (dk_at dksJ3_init_0 0 rfl rfl)
theorem dJ3_init_1 : decode cJ3_init 1 = .ok (.invokespecial 1, 3) := dk_183 0 1 (dk_at dksJ3_init_0 1 rfl rfl)
theorem dJ3_init_4 : decode cJ3_init 4 = .ok (.aload_n 0, 1) := dk_42 (dk_at dksJ3_init_0 4 rfl rfl)
theorem dJ3_init_5 : decode cJ3_init 5 = .ok (.aload_n 0, 1) := dk_42 (dk_at dksJ3_init_0 5 rfl rfl)
theorem dJ3_init_6 : decode cJ3_init 6 = .ok (.putfield 7, 3) := dk_181 0 7 (dk_at dksJ3_init_0 6 rfl rfl)
theorem dJ3_init_9 : decode cJ3_init 9 = .ok (.aload_n 0, 1) := dk_42 (dk_at dksJ3_init_0 9 rfl rfl)
theorem dJ3_init_10 : decode cJ3_init 10 = .ok (.getstatic 13, 3) := dk_178 0 13 (dk_at dksJ3_init_0 10 rfl rfl)
theorem dJ3_init_13 : decode cJ3_init 13 = .ok (.putfield 17, 3) := dk_181 0 17 (dk_at dksJ3_init_0 13 rfl rfl)
theorem dJ3_init_16 : decode cJ3_init 16 = .ok (.aload_n 0, 1) := dk_42 (dk_at dksJ3_init_0 16 rfl rfl)
theorem dJ3_init_17 : decode cJ3_init 17 = .ok (.getstatic 20, 3) := dk_178 0 20 (dk_at dksJ3_init_0 17 rfl rfl)
theorem dJ3_init_20 : decode cJ3_init 20 = .ok (.putfield 24, 3) := dk_181 0 24 (dk_at dksJ3_init_0 20 rfl rfl)
theorem dJ3_init_23 : decode cJ3_init 23 = .ok (.aload_n 0, 1) := dk_42 (dk_at dksJ3_init_0 23 rfl rfl)
theorem dJ3_init_24 : decode cJ3_init 24 = .ok (.invokevirtual 27, 3) := dk_182 0 27 (dk_at dksJ3_init_1 0 rfl rfl)
theorem dJ3_init_27 : decode cJ3_init 27 = .ok (.pop, 1) := dk_87 (dk_at dksJ3_init_1 3 rfl rfl)
theorem dJ3_init_28 : decode cJ3_init 28 = .ok (.return_, 1) := dk_177 (dk_at dksJ3_init_1 4 rfl rfl)
abbrev cJ3_init_2 : ByteArray := prog_36_method_5_code
def yJ3_init_2 : MethodName := ⟨RJ3, "<init>", "(Ljava/lang/String;Ljava/lang/Throwable;ZZ)V"⟩
def dkwJ3_init_2_2 : List UInt8 := [44, 181, 0, 7, 29, 154, 0, 8, 42, 1, 181, 0, 24, 177]
abbrev dktJ3_init_2_2 : List UInt8 := dkwJ3_init_2_2 ++ []
def dkwJ3_init_2_1 : List UInt8 := [21, 4, 153, 0, 11, 42, 182, 0, 27, 87, 167, 0, 8, 42, 1, 181, 0, 17, 42, 43, 181, 0, 31, 42]
abbrev dktJ3_init_2_1 : List UInt8 := dkwJ3_init_2_1 ++ dktJ3_init_2_2
def dkwJ3_init_2_0 : List UInt8 := [42, 183, 0, 1, 42, 42, 181, 0, 7, 42, 178, 0, 13, 181, 0, 17, 42, 178, 0, 20, 181, 0, 24]
abbrev dktJ3_init_2_0 : List UInt8 := dkwJ3_init_2_0 ++ dktJ3_init_2_1
theorem dksJ3_init_2_0 : cJ3_init_2.data.toList.drop 0 = dktJ3_init_2_0 := by decide +kernel
theorem dksJ3_init_2_1 : cJ3_init_2.data.toList.drop 23 = dktJ3_init_2_1 := dk_seg dksJ3_init_2_0 23 rfl rfl
theorem dksJ3_init_2_2 : cJ3_init_2.data.toList.drop 47 = dktJ3_init_2_2 := dk_seg dksJ3_init_2_1 24 rfl rfl
theorem dJ3_init_2_0 : decode cJ3_init_2 0 = .ok (.aload_n 0, 1) := dk_42 (dk_at dksJ3_init_2_0 0 rfl rfl)
theorem dJ3_init_2_1 : decode cJ3_init_2 1 = .ok (.invokespecial 1, 3) := dk_183 0 1 (dk_at dksJ3_init_2_0 1 rfl rfl)
theorem dJ3_init_2_4 : decode cJ3_init_2 4 = .ok (.aload_n 0, 1) := dk_42 (dk_at dksJ3_init_2_0 4 rfl rfl)
theorem dJ3_init_2_5 : decode cJ3_init_2 5 = .ok (.aload_n 0, 1) := dk_42 (dk_at dksJ3_init_2_0 5 rfl rfl)
theorem dJ3_init_2_6 : decode cJ3_init_2 6 = .ok (.putfield 7, 3) := dk_181 0 7 (dk_at dksJ3_init_2_0 6 rfl rfl)
theorem dJ3_init_2_9 : decode cJ3_init_2 9 = .ok (.aload_n 0, 1) := dk_42 (dk_at dksJ3_init_2_0 9 rfl rfl)
theorem dJ3_init_2_10 : decode cJ3_init_2 10 = .ok (.getstatic 13, 3) := dk_178 0 13 (dk_at dksJ3_init_2_0 10 rfl rfl)
theorem dJ3_init_2_13 : decode cJ3_init_2 13 = .ok (.putfield 17, 3) := dk_181 0 17 (dk_at dksJ3_init_2_0 13 rfl rfl)
theorem dJ3_init_2_16 : decode cJ3_init_2 16 = .ok (.aload_n 0, 1) := dk_42 (dk_at dksJ3_init_2_0 16 rfl rfl)
theorem dJ3_init_2_17 : decode cJ3_init_2 17 = .ok (.getstatic 20, 3) := dk_178 0 20 (dk_at dksJ3_init_2_0 17 rfl rfl)
theorem dJ3_init_2_20 : decode cJ3_init_2 20 = .ok (.putfield 24, 3) := dk_181 0 24 (dk_at dksJ3_init_2_0 20 rfl rfl)
theorem dJ3_init_2_23 : decode cJ3_init_2 23 = .ok (.iload 4, 2) := dk_21 4 (dk_at dksJ3_init_2_1 0 rfl rfl)
theorem dJ3_init_2_25 : decode cJ3_init_2 25 = .ok (.ifCond .eq 11, 3) := dk_153 0 11 (dk_at dksJ3_init_2_1 2 rfl rfl)
theorem dJ3_init_2_28 : decode cJ3_init_2 28 = .ok (.aload_n 0, 1) := dk_42 (dk_at dksJ3_init_2_1 5 rfl rfl)
theorem dJ3_init_2_29 : decode cJ3_init_2 29 = .ok (.invokevirtual 27, 3) := dk_182 0 27 (dk_at dksJ3_init_2_1 6 rfl rfl)
theorem dJ3_init_2_32 : decode cJ3_init_2 32 = .ok (.pop, 1) := dk_87 (dk_at dksJ3_init_2_1 9 rfl rfl)
theorem dJ3_init_2_33 : decode cJ3_init_2 33 = .ok (.goto 8, 3) := dk_167 0 8 (dk_at dksJ3_init_2_1 10 rfl rfl)
theorem dJ3_init_2_36 : decode cJ3_init_2 36 = .ok (.aload_n 0, 1) := dk_42 (dk_at dksJ3_init_2_1 13 rfl rfl)
theorem dJ3_init_2_37 : decode cJ3_init_2 37 = .ok (.aconst_null, 1) := dk_1 (dk_at dksJ3_init_2_1 14 rfl rfl)
theorem dJ3_init_2_38 : decode cJ3_init_2 38 = .ok (.putfield 17, 3) := dk_181 0 17 (dk_at dksJ3_init_2_1 15 rfl rfl)
theorem dJ3_init_2_41 : decode cJ3_init_2 41 = .ok (.aload_n 0, 1) := dk_42 (dk_at dksJ3_init_2_1 18 rfl rfl)
theorem dJ3_init_2_42 : decode cJ3_init_2 42 = .ok (.aload_n 1, 1) := dk_43 (dk_at dksJ3_init_2_1 19 rfl rfl)
theorem dJ3_init_2_43 : decode cJ3_init_2 43 = .ok (.putfield 31, 3) := dk_181 0 31 (dk_at dksJ3_init_2_1 20 rfl rfl)
theorem dJ3_init_2_46 : decode cJ3_init_2 46 = .ok (.aload_n 0, 1) := dk_42 (dk_at dksJ3_init_2_1 23 rfl rfl)
theorem dJ3_init_2_47 : decode cJ3_init_2 47 = .ok (.aload_n 2, 1) := dk_44 (dk_at dksJ3_init_2_2 0 rfl rfl)
theorem dJ3_init_2_48 : decode cJ3_init_2 48 = .ok (.putfield 7, 3) := dk_181 0 7 (dk_at dksJ3_init_2_2 1 rfl rfl)
theorem dJ3_init_2_51 : decode cJ3_init_2 51 = .ok (.iload_n 3, 1) := dk_29 (dk_at dksJ3_init_2_2 4 rfl rfl)
theorem dJ3_init_2_52 : decode cJ3_init_2 52 = .ok (.ifCond .ne 8, 3) := dk_154 0 8 (dk_at dksJ3_init_2_2 5 rfl rfl)
theorem dJ3_init_2_55 : decode cJ3_init_2 55 = .ok (.aload_n 0, 1) := dk_42 (dk_at dksJ3_init_2_2 8 rfl rfl)
theorem dJ3_init_2_56 : decode cJ3_init_2 56 = .ok (.aconst_null, 1) := dk_1 (dk_at dksJ3_init_2_2 9 rfl rfl)
theorem dJ3_init_2_57 : decode cJ3_init_2 57 = .ok (.putfield 24, 3) := dk_181 0 24 (dk_at dksJ3_init_2_2 10 rfl rfl)
theorem dJ3_init_2_60 : decode cJ3_init_2 60 = .ok (.return_, 1) := dk_177 (dk_at dksJ3_init_2_2 13 rfl rfl)
abbrev cJ3_init_3 : ByteArray := prog_36_method_2_code
def yJ3_init_3 : MethodName := ⟨RJ3, "<init>", "(Ljava/lang/String;)V"⟩
def dkwJ3_init_3_1 : List UInt8 := [182, 0, 27, 87, 42, 43, 181, 0, 31, 177]
abbrev dktJ3_init_3_1 : List UInt8 := dkwJ3_init_3_1 ++ []
def dkwJ3_init_3_0 : List UInt8 := [42, 183, 0, 1, 42, 42, 181, 0, 7, 42, 178, 0, 13, 181, 0, 17, 42, 178, 0, 20, 181, 0, 24, 42]
abbrev dktJ3_init_3_0 : List UInt8 := dkwJ3_init_3_0 ++ dktJ3_init_3_1
theorem dksJ3_init_3_0 : cJ3_init_3.data.toList.drop 0 = dktJ3_init_3_0 := by decide +kernel
theorem dksJ3_init_3_1 : cJ3_init_3.data.toList.drop 24 = dktJ3_init_3_1 := dk_seg dksJ3_init_3_0 24 rfl rfl
theorem dJ3_init_3_0 : decode cJ3_init_3 0 = .ok (.aload_n 0, 1) := dk_42 (dk_at dksJ3_init_3_0 0 rfl rfl)
theorem dJ3_init_3_1 : decode cJ3_init_3 1 = .ok (.invokespecial 1, 3) := dk_183 0 1 (dk_at dksJ3_init_3_0 1 rfl rfl)
theorem dJ3_init_3_4 : decode cJ3_init_3 4 = .ok (.aload_n 0, 1) := dk_42 (dk_at dksJ3_init_3_0 4 rfl rfl)
theorem dJ3_init_3_5 : decode cJ3_init_3 5 = .ok (.aload_n 0, 1) := dk_42 (dk_at dksJ3_init_3_0 5 rfl rfl)
theorem dJ3_init_3_6 : decode cJ3_init_3 6 = .ok (.putfield 7, 3) := dk_181 0 7 (dk_at dksJ3_init_3_0 6 rfl rfl)
theorem dJ3_init_3_9 : decode cJ3_init_3 9 = .ok (.aload_n 0, 1) := dk_42 (dk_at dksJ3_init_3_0 9 rfl rfl)
theorem dJ3_init_3_10 : decode cJ3_init_3 10 = .ok (.getstatic 13, 3) := dk_178 0 13 (dk_at dksJ3_init_3_0 10 rfl rfl)
theorem dJ3_init_3_13 : decode cJ3_init_3 13 = .ok (.putfield 17, 3) := dk_181 0 17 (dk_at dksJ3_init_3_0 13 rfl rfl)
theorem dJ3_init_3_16 : decode cJ3_init_3 16 = .ok (.aload_n 0, 1) := dk_42 (dk_at dksJ3_init_3_0 16 rfl rfl)
theorem dJ3_init_3_17 : decode cJ3_init_3 17 = .ok (.getstatic 20, 3) := dk_178 0 20 (dk_at dksJ3_init_3_0 17 rfl rfl)
theorem dJ3_init_3_20 : decode cJ3_init_3 20 = .ok (.putfield 24, 3) := dk_181 0 24 (dk_at dksJ3_init_3_0 20 rfl rfl)
theorem dJ3_init_3_23 : decode cJ3_init_3 23 = .ok (.aload_n 0, 1) := dk_42 (dk_at dksJ3_init_3_0 23 rfl rfl)
theorem dJ3_init_3_24 : decode cJ3_init_3 24 = .ok (.invokevirtual 27, 3) := dk_182 0 27 (dk_at dksJ3_init_3_1 0 rfl rfl)
theorem dJ3_init_3_27 : decode cJ3_init_3 27 = .ok (.pop, 1) := dk_87 (dk_at dksJ3_init_3_1 3 rfl rfl)
theorem dJ3_init_3_28 : decode cJ3_init_3 28 = .ok (.aload_n 0, 1) := dk_42 (dk_at dksJ3_init_3_1 4 rfl rfl)
theorem dJ3_init_3_29 : decode cJ3_init_3 29 = .ok (.aload_n 1, 1) := dk_43 (dk_at dksJ3_init_3_1 5 rfl rfl)
theorem dJ3_init_3_30 : decode cJ3_init_3 30 = .ok (.putfield 31, 3) := dk_181 0 31 (dk_at dksJ3_init_3_1 6 rfl rfl)
theorem dJ3_init_3_33 : decode cJ3_init_3 33 = .ok (.return_, 1) := dk_177 (dk_at dksJ3_init_3_1 9 rfl rfl)
theorem q73 : (Jvm.Cond.initialized "java/lang/Throwable") ∈ lw_all := lw_g (lw_at lw_m1 5 rfl) rfl
theorem q428 : (Jvm.Cond.declares ({ cls := "java/lang/Throwable", name := "<init>", desc := "()V" } : Jvm.MethodName)) ∈ lw_tbl := lw_at lw_m2 120 rfl
theorem q429 : (Jvm.Cond.declares ({ cls := "java/lang/Throwable", name := "<init>", desc := "(Ljava/lang/String;)V" } : Jvm.MethodName)) ∈ lw_tbl := lw_at lw_m2 121 rfl
theorem q433 : (Jvm.Cond.lays "java/lang/Throwable" "java/lang/Throwable" "cause" "Ljava/lang/Throwable;") ∈ lw_all := lw_g (lw_at lw_m2 125 rfl) rfl
theorem q435 : (Jvm.Cond.lays "java/lang/Throwable" "java/lang/Throwable" "stackTrace" "[Ljava/lang/StackTraceElement;") ∈ lw_all := lw_g (lw_at lw_m2 127 rfl) rfl
theorem q437 : (Jvm.Cond.lays "java/lang/Throwable" "java/lang/Throwable" "suppressedExceptions" "Ljava/util/List;") ∈ lw_all := lw_g (lw_at lw_m2 129 rfl) rfl
theorem q439 : (Jvm.Cond.lays "java/lang/Throwable" "java/lang/Throwable" "detailMessage" "Ljava/lang/String;") ∈ lw_all := lw_g (lw_at lw_m2 131 rfl) rfl
theorem q441 : (Jvm.Cond.lays "java/lang/Throwable" "java/lang/Throwable" "backtrace" "Ljava/lang/Object;") ∈ lw_all := lw_g (lw_at lw_m2 133 rfl) rfl
theorem q442 : (Jvm.Cond.fieldLink "java/lang/Throwable" (198 : Nat) "java/lang/Throwable" "backtrace" "Ljava/lang/Object;") ∈ lw_all := lw_g (lw_at lw_m2 134 rfl) rfl
theorem q443 : (Jvm.Cond.superclass "java/lang/Throwable" "java/lang/Object") ∈ lw_all := lw_g (lw_at lw_m2 135 rfl) rfl
theorem q444 : (Jvm.Cond.instanceMethod ({ cls := "java/lang/Throwable", name := "<init>", desc := "()V" } : Jvm.MethodName)) ∈ lw_all := lw_g (lw_at lw_m2 136 rfl) rfl
theorem q445 : (Jvm.Cond.code ({ cls := "java/lang/Throwable", name := "<init>", desc := "()V" } : Jvm.MethodName) prog_36_method_1_code (1 : Nat) (Option.none : Option Jvm.ClassFile.FieldType)) ∈ lw_all := lw_g (lw_at lw_m2 137 rfl) rfl
theorem q446 : (Jvm.Cond.methodLink "java/lang/Throwable" (1 : Nat) ({ cls := "java/lang/Object", name := "<init>", desc := "()V" } : Jvm.MethodName)) ∈ lw_all := lw_g (lw_at lw_m2 138 rfl) rfl
theorem q447 : (Jvm.Cond.fieldLink "java/lang/Throwable" (13 : Nat) "java/lang/Throwable" "UNASSIGNED_STACK" "[Ljava/lang/StackTraceElement;") ∈ lw_all := lw_g (lw_at lw_m2 139 rfl) rfl
theorem q448 : (Jvm.Cond.laysStatic "java/lang/Throwable" "UNASSIGNED_STACK" "[Ljava/lang/StackTraceElement;") ∈ lw_tbl := lw_at lw_m2 140 rfl
theorem q449 : (Jvm.Cond.fieldLink "java/lang/Throwable" (20 : Nat) "java/lang/Throwable" "SUPPRESSED_SENTINEL" "Ljava/util/List;") ∈ lw_all := lw_g (lw_at lw_m2 141 rfl) rfl
theorem q450 : (Jvm.Cond.laysStatic "java/lang/Throwable" "SUPPRESSED_SENTINEL" "Ljava/util/List;") ∈ lw_tbl := lw_at lw_m2 142 rfl
theorem q451 : (Jvm.Cond.methodLink "java/lang/Throwable" (27 : Nat) ({ cls := "java/lang/Throwable", name := "fillInStackTrace", desc := "()Ljava/lang/Throwable;" } : Jvm.MethodName)) ∈ lw_all := lw_g (lw_at lw_m2 143 rfl) rfl
theorem q452 : (Jvm.Cond.instanceMethod ({ cls := "java/lang/Throwable", name := "fillInStackTrace", desc := "()Ljava/lang/Throwable;" } : Jvm.MethodName)) ∈ lw_all := lw_g (lw_at lw_m2 144 rfl) rfl
theorem q453 : (Jvm.Cond.sameMethod "java/lang/Throwable" "java/lang/Throwable" "fillInStackTrace" "()Ljava/lang/Throwable;") ∈ lw_all := lw_g (lw_at lw_m2 145 rfl) rfl
theorem q467 : (Jvm.Cond.declares ({ cls := "java/lang/Throwable", name := "fillInStackTrace", desc := "()Ljava/lang/Throwable;" } : Jvm.MethodName)) ∈ lw_tbl := lw_at lw_m2 159 rfl
theorem q471 : (Jvm.Cond.codeSync ({ cls := "java/lang/Throwable", name := "fillInStackTrace", desc := "()Ljava/lang/Throwable;" } : Jvm.MethodName) prog_36_method_18_code (1 : Nat) (Option.some (Jvm.ClassFile.FieldType.object "java/lang/Throwable"))) ∈ lw_all := lw_g (lw_at lw_m2 163 rfl) rfl
theorem q472 : (Jvm.Cond.methodLink "java/lang/Throwable" (202 : Nat) ({ cls := "java/lang/Throwable", name := "fillInStackTrace", desc := "(I)Ljava/lang/Throwable;" } : Jvm.MethodName)) ∈ lw_all := lw_g (lw_at lw_m2 164 rfl) rfl
theorem q473 : (Jvm.Cond.privateMethod ({ cls := "java/lang/Throwable", name := "fillInStackTrace", desc := "(I)Ljava/lang/Throwable;" } : Jvm.MethodName)) ∈ lw_tbl := lw_at lw_m2 165 rfl
theorem q474 : (Jvm.Cond.instanceMethod ({ cls := "java/lang/Throwable", name := "fillInStackTrace", desc := "(I)Ljava/lang/Throwable;" } : Jvm.MethodName)) ∈ lw_all := lw_g (lw_at lw_m2 166 rfl) rfl
theorem q475 : (Jvm.Cond.instantiable "java/lang/Throwable" (6 : Nat)) ∈ lw_all := lw_g (lw_at lw_m2 167 rfl) rfl
theorem q476 : (Jvm.Cond.native ({ cls := "java/lang/Throwable", name := "fillInStackTrace", desc := "(I)Ljava/lang/Throwable;" } : Jvm.MethodName)) ∈ lw_all := lw_g (lw_at lw_m2 168 rfl) rfl
theorem q484 : (Jvm.Cond.instanceMethod ({ cls := "java/lang/Throwable", name := "<init>", desc := "(Ljava/lang/String;Ljava/lang/Throwable;ZZ)V" } : Jvm.MethodName)) ∈ lw_all := lw_g (lw_at lw_m2 176 rfl) rfl
theorem q485 : (Jvm.Cond.code ({ cls := "java/lang/Throwable", name := "<init>", desc := "(Ljava/lang/String;Ljava/lang/Throwable;ZZ)V" } : Jvm.MethodName) prog_36_method_5_code (5 : Nat) (Option.none : Option Jvm.ClassFile.FieldType)) ∈ lw_all := lw_g (lw_at lw_m2 177 rfl) rfl
theorem q487 : (Jvm.Cond.fieldLink "java/lang/Throwable" (198 : Nat) "java/lang/Throwable" "backtrace" "Ljava/lang/Object;") ∈ lw_all := lw_g (lw_at lw_m2 179 rfl) rfl
theorem q488 : (Jvm.Cond.fieldLink "java/lang/Throwable" (31 : Nat) "java/lang/Throwable" "detailMessage" "Ljava/lang/String;") ∈ lw_all := lw_g (lw_at lw_m2 180 rfl) rfl
theorem q489 : (Jvm.Cond.fieldLink "java/lang/Throwable" (7 : Nat) "java/lang/Throwable" "cause" "Ljava/lang/Throwable;") ∈ lw_all := lw_g (lw_at lw_m2 181 rfl) rfl
theorem q490 : (Jvm.Cond.fieldLink "java/lang/Throwable" (17 : Nat) "java/lang/Throwable" "stackTrace" "[Ljava/lang/StackTraceElement;") ∈ lw_all := lw_g (lw_at lw_m2 182 rfl) rfl
theorem q491 : (Jvm.Cond.fieldLink "java/lang/Throwable" (24 : Nat) "java/lang/Throwable" "suppressedExceptions" "Ljava/util/List;") ∈ lw_all := lw_g (lw_at lw_m2 183 rfl) rfl
theorem q494 : (Jvm.Cond.soleField "java/lang/Throwable" "backtrace") ∈ lw_all := lw_g (lw_at lw_m2 186 rfl) rfl
theorem q495 : (Jvm.Cond.soleField "java/lang/Throwable" "detailMessage") ∈ lw_all := lw_g (lw_at lw_m2 187 rfl) rfl
theorem q496 : (Jvm.Cond.soleField "java/lang/Throwable" "cause") ∈ lw_all := lw_g (lw_at lw_m2 188 rfl) rfl
theorem q497 : (Jvm.Cond.soleField "java/lang/Throwable" "stackTrace") ∈ lw_all := lw_g (lw_at lw_m2 189 rfl) rfl
theorem q499 : (Jvm.Cond.soleField "java/lang/Throwable" "depth") ∈ lw_all := lw_g (lw_at lw_m2 191 rfl) rfl
theorem q500 : (Jvm.Cond.soleField "java/lang/Throwable" "suppressedExceptions") ∈ lw_all := lw_g (lw_at lw_m2 192 rfl) rfl
theorem q1070 : (Jvm.Cond.instanceMethod ({ cls := "java/lang/Throwable", name := "<init>", desc := "(Ljava/lang/String;)V" } : Jvm.MethodName)) ∈ lw_all := lw_g (lw_at lw_m5 42 rfl) rfl
theorem q1071 : (Jvm.Cond.code ({ cls := "java/lang/Throwable", name := "<init>", desc := "(Ljava/lang/String;)V" } : Jvm.MethodName) prog_36_method_2_code (2 : Nat) (Option.none : Option Jvm.ClassFile.FieldType)) ∈ lw_all := lw_g (lw_at lw_m5 43 rfl) rfl
theorem q1610 : (Jvm.Cond.sameMethod "java/lang/Throwable" "java/lang/Throwable" "fillInStackTrace" "(I)Ljava/lang/Throwable;") ∈ lw_all := lw_g (lw_at lw_m7 102 rfl) rfl
theorem q1634 : (Jvm.Cond.castable "java/lang/Throwable" "java/lang/Object") ∈ lw_tbl := lw_at lw_m7 126 rfl
theorem in_J3 : ∀ w ∈ wsJ30, w ∈ lw_all := lw_in wsJ30 [433, 435, 437, 439, 441] (by decide +kernel) (by decide +kernel)

/-! java/lang/Exception -/
set_option maxRecDepth 100000
def RJ4 : String := "java/lang/Exception"
abbrev cJ4_init : ByteArray := prog_26_method_5_code
def yJ4_init : MethodName := ⟨RJ4, "<init>", "(Ljava/lang/String;Ljava/lang/Throwable;ZZ)V"⟩
def dkwJ4_init_0 : List UInt8 := [42, 43, 44, 29, 21, 4, 183, 0, 16, 177]
abbrev dktJ4_init_0 : List UInt8 := dkwJ4_init_0 ++ []
theorem dksJ4_init_0 : cJ4_init.data.toList.drop 0 = dktJ4_init_0 := by decide +kernel
theorem dJ4_init_0 : decode cJ4_init 0 = .ok (.aload_n 0, 1) := dk_42 (dk_at dksJ4_init_0 0 rfl rfl)
theorem dJ4_init_1 : decode cJ4_init 1 = .ok (.aload_n 1, 1) := dk_43 (dk_at dksJ4_init_0 1 rfl rfl)
theorem dJ4_init_2 : decode cJ4_init 2 = .ok (.aload_n 2, 1) := dk_44 (dk_at dksJ4_init_0 2 rfl rfl)
theorem dJ4_init_3 : decode cJ4_init 3 = .ok (.iload_n 3, 1) := dk_29 (dk_at dksJ4_init_0 3 rfl rfl)
theorem dJ4_init_4 : decode cJ4_init 4 = .ok (.iload 4, 2) := dk_21 4 (dk_at dksJ4_init_0 4 rfl rfl)
theorem dJ4_init_6 : decode cJ4_init 6 = .ok (.invokespecial 16, 3) := dk_183 0 16 (dk_at dksJ4_init_0 6 rfl rfl)
theorem dJ4_init_9 : decode cJ4_init 9 = .ok (.return_, 1) := dk_177 (dk_at dksJ4_init_0 9 rfl rfl)
abbrev cJ4_init_2 : ByteArray := prog_26_method_2_code
def yJ4_init_2 : MethodName := ⟨RJ4, "<init>", "(Ljava/lang/String;)V"⟩
def dkwJ4_init_2_0 : List UInt8 := [42, 43, 183, 0, 7, 177]
abbrev dktJ4_init_2_0 : List UInt8 := dkwJ4_init_2_0 ++ []
theorem dksJ4_init_2_0 : cJ4_init_2.data.toList.drop 0 = dktJ4_init_2_0 := by decide +kernel
theorem dJ4_init_2_0 : decode cJ4_init_2 0 = .ok (.aload_n 0, 1) := dk_42 (dk_at dksJ4_init_2_0 0 rfl rfl)
theorem dJ4_init_2_1 : decode cJ4_init_2 1 = .ok (.aload_n 1, 1) := dk_43 (dk_at dksJ4_init_2_0 1 rfl rfl)
theorem dJ4_init_2_2 : decode cJ4_init_2 2 = .ok (.invokespecial 7, 3) := dk_183 0 7 (dk_at dksJ4_init_2_0 2 rfl rfl)
theorem dJ4_init_2_5 : decode cJ4_init_2 5 = .ok (.return_, 1) := dk_177 (dk_at dksJ4_init_2_0 5 rfl rfl)
abbrev cJ4_init_3 : ByteArray := prog_26_method_1_code
def yJ4_init_3 : MethodName := ⟨RJ4, "<init>", "()V"⟩
theorem dJ4_init_3_0 : decode cJ4_init_3 0 = .ok (.aload_n 0, 1) := by decide +kernel
theorem dJ4_init_3_1 : decode cJ4_init_3 1 = .ok (.invokespecial 1, 3) := by decide +kernel
theorem dJ4_init_3_4 : decode cJ4_init_3 4 = .ok (.return_, 1) := by decide +kernel
theorem q74 : (Jvm.Cond.initialized "java/lang/Exception") ∈ lw_all := lw_g (lw_at lw_m1 6 rfl) rfl
theorem q426 : (Jvm.Cond.declares ({ cls := "java/lang/Exception", name := "<init>", desc := "()V" } : Jvm.MethodName)) ∈ lw_tbl := lw_at lw_m2 118 rfl
theorem q427 : (Jvm.Cond.declares ({ cls := "java/lang/Exception", name := "<init>", desc := "(Ljava/lang/String;)V" } : Jvm.MethodName)) ∈ lw_tbl := lw_at lw_m2 119 rfl
theorem q470 : (Jvm.Cond.superclass "java/lang/Exception" "java/lang/Throwable") ∈ lw_all := lw_g (lw_at lw_m2 162 rfl) rfl
theorem q481 : (Jvm.Cond.instanceMethod ({ cls := "java/lang/Exception", name := "<init>", desc := "(Ljava/lang/String;Ljava/lang/Throwable;ZZ)V" } : Jvm.MethodName)) ∈ lw_all := lw_g (lw_at lw_m2 173 rfl) rfl
theorem q482 : (Jvm.Cond.code ({ cls := "java/lang/Exception", name := "<init>", desc := "(Ljava/lang/String;Ljava/lang/Throwable;ZZ)V" } : Jvm.MethodName) prog_26_method_5_code (5 : Nat) (Option.none : Option Jvm.ClassFile.FieldType)) ∈ lw_all := lw_g (lw_at lw_m2 174 rfl) rfl
theorem q483 : (Jvm.Cond.methodLink "java/lang/Exception" (16 : Nat) ({ cls := "java/lang/Throwable", name := "<init>", desc := "(Ljava/lang/String;Ljava/lang/Throwable;ZZ)V" } : Jvm.MethodName)) ∈ lw_all := lw_g (lw_at lw_m2 175 rfl) rfl
theorem q1067 : (Jvm.Cond.instanceMethod ({ cls := "java/lang/Exception", name := "<init>", desc := "(Ljava/lang/String;)V" } : Jvm.MethodName)) ∈ lw_all := lw_g (lw_at lw_m5 39 rfl) rfl
theorem q1068 : (Jvm.Cond.code ({ cls := "java/lang/Exception", name := "<init>", desc := "(Ljava/lang/String;)V" } : Jvm.MethodName) prog_26_method_2_code (2 : Nat) (Option.none : Option Jvm.ClassFile.FieldType)) ∈ lw_all := lw_g (lw_at lw_m5 40 rfl) rfl
theorem q1069 : (Jvm.Cond.methodLink "java/lang/Exception" (7 : Nat) ({ cls := "java/lang/Throwable", name := "<init>", desc := "(Ljava/lang/String;)V" } : Jvm.MethodName)) ∈ lw_all := lw_g (lw_at lw_m5 41 rfl) rfl
theorem q1104 : (Jvm.Cond.instanceMethod ({ cls := "java/lang/Exception", name := "<init>", desc := "()V" } : Jvm.MethodName)) ∈ lw_all := lw_g (lw_at lw_m5 76 rfl) rfl
theorem q1105 : (Jvm.Cond.code ({ cls := "java/lang/Exception", name := "<init>", desc := "()V" } : Jvm.MethodName) prog_26_method_1_code (1 : Nat) (Option.none : Option Jvm.ClassFile.FieldType)) ∈ lw_all := lw_g (lw_at lw_m5 77 rfl) rfl
theorem q1106 : (Jvm.Cond.methodLink "java/lang/Exception" (1 : Nat) ({ cls := "java/lang/Throwable", name := "<init>", desc := "()V" } : Jvm.MethodName)) ∈ lw_all := lw_g (lw_at lw_m5 78 rfl) rfl

/-! java/util/Objects -/
set_option maxRecDepth 100000
def RJ5 : String := "java/util/Objects"
abbrev cJ5_checkIndex : ByteArray := prog_43_method_17_code
def yJ5_checkIndex : MethodName := ⟨RJ5, "checkIndex", "(II)I"⟩
def dkwJ5_checkIndex_0 : List UInt8 := [26, 27, 1, 184, 0, 105, 172]
abbrev dktJ5_checkIndex_0 : List UInt8 := dkwJ5_checkIndex_0 ++ []
theorem dksJ5_checkIndex_0 : cJ5_checkIndex.data.toList.drop 0 = dktJ5_checkIndex_0 := by decide +kernel
theorem dJ5_checkIndex_0 : decode cJ5_checkIndex 0 = .ok (.iload_n 0, 1) := dk_26 (dk_at dksJ5_checkIndex_0 0 rfl rfl)
theorem dJ5_checkIndex_1 : decode cJ5_checkIndex 1 = .ok (.iload_n 1, 1) := dk_27 (dk_at dksJ5_checkIndex_0 1 rfl rfl)
theorem dJ5_checkIndex_2 : decode cJ5_checkIndex 2 = .ok (.aconst_null, 1) := dk_1 (dk_at dksJ5_checkIndex_0 2 rfl rfl)
theorem dJ5_checkIndex_3 : decode cJ5_checkIndex 3 = .ok (.invokestatic 105, 3) := dk_184 0 105 (dk_at dksJ5_checkIndex_0 3 rfl rfl)
theorem dJ5_checkIndex_6 : decode cJ5_checkIndex 6 = .ok (.ireturn, 1) := dk_172 (dk_at dksJ5_checkIndex_0 6 rfl rfl)
theorem q87 : (Jvm.Cond.initialized "java/util/Objects") ∈ lw_all := lw_g (lw_at lw_m1 19 rfl) rfl
theorem q292 : (Jvm.Cond.static ({ cls := "java/util/Objects", name := "checkIndex", desc := "(II)I" } : Jvm.MethodName)) ∈ lw_all := lw_g (lw_at lw_m1 224 rfl) rfl
theorem q293 : (Jvm.Cond.code ({ cls := "java/util/Objects", name := "checkIndex", desc := "(II)I" } : Jvm.MethodName) prog_43_method_17_code (2 : Nat) (Option.some Jvm.ClassFile.FieldType.int)) ∈ lw_all := lw_g (lw_at lw_m1 225 rfl) rfl
theorem q294 : (Jvm.Cond.methodLink "java/util/Objects" (105 : Nat) ({ cls := "jdk/internal/util/Preconditions", name := "checkIndex", desc := "(IILjava/util/function/BiFunction;)I" } : Jvm.MethodName)) ∈ lw_all := lw_g (lw_at lw_m1 226 rfl) rfl

/-! jdk/internal/util/Preconditions -/
set_option maxRecDepth 100000
def RJ6 : String := "jdk/internal/util/Preconditions"
abbrev cJ6_checkIndex : ByteArray := prog_47_method_11_code
def yJ6_checkIndex : MethodName := ⟨RJ6, "checkIndex", "(IILjava/util/function/BiFunction;)I"⟩
def dkwJ6_checkIndex_0 : List UInt8 := [26, 155, 0, 8, 26, 27, 161, 0, 10, 44, 26, 27, 184, 0, 95, 191, 26, 172]
abbrev dktJ6_checkIndex_0 : List UInt8 := dkwJ6_checkIndex_0 ++ []
theorem dksJ6_checkIndex_0 : cJ6_checkIndex.data.toList.drop 0 = dktJ6_checkIndex_0 := by decide +kernel
theorem dJ6_checkIndex_0 : decode cJ6_checkIndex 0 = .ok (.iload_n 0, 1) := dk_26 (dk_at dksJ6_checkIndex_0 0 rfl rfl)
theorem dJ6_checkIndex_1 : decode cJ6_checkIndex 1 = .ok (.ifCond .lt 8, 3) := dk_155 0 8 (dk_at dksJ6_checkIndex_0 1 rfl rfl)
theorem dJ6_checkIndex_4 : decode cJ6_checkIndex 4 = .ok (.iload_n 0, 1) := dk_26 (dk_at dksJ6_checkIndex_0 4 rfl rfl)
theorem dJ6_checkIndex_5 : decode cJ6_checkIndex 5 = .ok (.iload_n 1, 1) := dk_27 (dk_at dksJ6_checkIndex_0 5 rfl rfl)
theorem dJ6_checkIndex_6 : decode cJ6_checkIndex 6 = .ok (.if_icmp .lt 10, 3) := dk_161 0 10 (dk_at dksJ6_checkIndex_0 6 rfl rfl)
theorem dJ6_checkIndex_9 : decode cJ6_checkIndex 9 = .ok (.aload_n 2, 1) := dk_44 (dk_at dksJ6_checkIndex_0 9 rfl rfl)
theorem dJ6_checkIndex_10 : decode cJ6_checkIndex 10 = .ok (.iload_n 0, 1) := dk_26 (dk_at dksJ6_checkIndex_0 10 rfl rfl)
theorem dJ6_checkIndex_11 : decode cJ6_checkIndex 11 = .ok (.iload_n 1, 1) := dk_27 (dk_at dksJ6_checkIndex_0 11 rfl rfl)
theorem dJ6_checkIndex_12 : decode cJ6_checkIndex 12 = .ok (.invokestatic 95, 3) := dk_184 0 95 (dk_at dksJ6_checkIndex_0 12 rfl rfl)
theorem dJ6_checkIndex_15 : decode cJ6_checkIndex 15 = .ok (.athrow, 1) := dk_191 (dk_at dksJ6_checkIndex_0 15 rfl rfl)
theorem dJ6_checkIndex_16 : decode cJ6_checkIndex 16 = .ok (.iload_n 0, 1) := dk_26 (dk_at dksJ6_checkIndex_0 16 rfl rfl)
theorem dJ6_checkIndex_17 : decode cJ6_checkIndex 17 = .ok (.ireturn, 1) := dk_172 (dk_at dksJ6_checkIndex_0 17 rfl rfl)
theorem q88 : (Jvm.Cond.initialized "jdk/internal/util/Preconditions") ∈ lw_all := lw_g (lw_at lw_m1 20 rfl) rfl
theorem q295 : (Jvm.Cond.static ({ cls := "jdk/internal/util/Preconditions", name := "checkIndex", desc := "(IILjava/util/function/BiFunction;)I" } : Jvm.MethodName)) ∈ lw_all := lw_g (lw_at lw_m1 227 rfl) rfl
theorem q296 : (Jvm.Cond.code ({ cls := "jdk/internal/util/Preconditions", name := "checkIndex", desc := "(IILjava/util/function/BiFunction;)I" } : Jvm.MethodName) prog_47_method_11_code (3 : Nat) (Option.some Jvm.ClassFile.FieldType.int)) ∈ lw_all := lw_g (lw_at lw_m1 228 rfl) rfl

/-! jdk/internal/util/ArraysSupport -/
set_option maxRecDepth 100000
def RJ7 : String := "jdk/internal/util/ArraysSupport"
abbrev cJ7_newLength : ByteArray := prog_46_method_27_code
def yJ7_newLength : MethodName := ⟨RJ7, "newLength", "(III)I"⟩
def dkwJ7_newLength_1 : List UInt8 := [184, 0, 201, 172]
abbrev dktJ7_newLength_1 : List UInt8 := dkwJ7_newLength_1 ++ []
def dkwJ7_newLength_0 : List UInt8 := [26, 27, 28, 184, 0, 194, 96, 62, 3, 29, 162, 0, 11, 29, 18, 200, 163, 0, 5, 29, 172, 26, 27]
abbrev dktJ7_newLength_0 : List UInt8 := dkwJ7_newLength_0 ++ dktJ7_newLength_1
theorem dksJ7_newLength_0 : cJ7_newLength.data.toList.drop 0 = dktJ7_newLength_0 := by decide +kernel
theorem dksJ7_newLength_1 : cJ7_newLength.data.toList.drop 23 = dktJ7_newLength_1 := dk_seg dksJ7_newLength_0 23 rfl rfl
theorem dJ7_newLength_0 : decode cJ7_newLength 0 = .ok (.iload_n 0, 1) := dk_26 (dk_at dksJ7_newLength_0 0 rfl rfl)
theorem dJ7_newLength_1 : decode cJ7_newLength 1 = .ok (.iload_n 1, 1) := dk_27 (dk_at dksJ7_newLength_0 1 rfl rfl)
theorem dJ7_newLength_2 : decode cJ7_newLength 2 = .ok (.iload_n 2, 1) := dk_28 (dk_at dksJ7_newLength_0 2 rfl rfl)
theorem dJ7_newLength_3 : decode cJ7_newLength 3 = .ok (.invokestatic 194, 3) := dk_184 0 194 (dk_at dksJ7_newLength_0 3 rfl rfl)
theorem dJ7_newLength_6 : decode cJ7_newLength 6 = .ok (.iadd, 1) := dk_96 (dk_at dksJ7_newLength_0 6 rfl rfl)
theorem dJ7_newLength_7 : decode cJ7_newLength 7 = .ok (.istore_n 3, 1) := dk_62 (dk_at dksJ7_newLength_0 7 rfl rfl)
theorem dJ7_newLength_8 : decode cJ7_newLength 8 = .ok (.iconst 0, 1) := dk_3 (dk_at dksJ7_newLength_0 8 rfl rfl)
theorem dJ7_newLength_9 : decode cJ7_newLength 9 = .ok (.iload_n 3, 1) := dk_29 (dk_at dksJ7_newLength_0 9 rfl rfl)
theorem dJ7_newLength_10 : decode cJ7_newLength 10 = .ok (.if_icmp .ge 11, 3) := dk_162 0 11 (dk_at dksJ7_newLength_0 10 rfl rfl)
theorem dJ7_newLength_13 : decode cJ7_newLength 13 = .ok (.iload_n 3, 1) := dk_29 (dk_at dksJ7_newLength_0 13 rfl rfl)
theorem dJ7_newLength_14 : decode cJ7_newLength 14 = .ok (.ldc 200, 2) := dk_18 200 (dk_at dksJ7_newLength_0 14 rfl rfl)
theorem dJ7_newLength_16 : decode cJ7_newLength 16 = .ok (.if_icmp .gt 5, 3) := dk_163 0 5 (dk_at dksJ7_newLength_0 16 rfl rfl)
theorem dJ7_newLength_19 : decode cJ7_newLength 19 = .ok (.iload_n 3, 1) := dk_29 (dk_at dksJ7_newLength_0 19 rfl rfl)
theorem dJ7_newLength_20 : decode cJ7_newLength 20 = .ok (.ireturn, 1) := dk_172 (dk_at dksJ7_newLength_0 20 rfl rfl)
theorem dJ7_newLength_21 : decode cJ7_newLength 21 = .ok (.iload_n 0, 1) := dk_26 (dk_at dksJ7_newLength_0 21 rfl rfl)
theorem dJ7_newLength_22 : decode cJ7_newLength 22 = .ok (.iload_n 1, 1) := dk_27 (dk_at dksJ7_newLength_0 22 rfl rfl)
theorem dJ7_newLength_23 : decode cJ7_newLength 23 = .ok (.invokestatic 201, 3) := dk_184 0 201 (dk_at dksJ7_newLength_1 0 rfl rfl)
theorem dJ7_newLength_26 : decode cJ7_newLength 26 = .ok (.ireturn, 1) := dk_172 (dk_at dksJ7_newLength_1 3 rfl rfl)
abbrev cJ7_hugeLength : ByteArray := prog_46_method_28_code
def yJ7_hugeLength : MethodName := ⟨RJ7, "hugeLength", "(II)I"⟩
def dkwJ7_hugeLength_2 : List UInt8 := [191, 28, 18, 200, 163, 0, 6, 18, 200, 172, 28, 172]
abbrev dktJ7_hugeLength_2 : List UInt8 := dkwJ7_hugeLength_2 ++ []
def dkwJ7_hugeLength_1 : List UInt8 := [26, 182, 0, 98, 18, 208, 182, 0, 94, 27, 182, 0, 98, 18, 210, 182, 0, 94, 182, 0, 101, 183, 0, 212]
abbrev dktJ7_hugeLength_1 : List UInt8 := dkwJ7_hugeLength_1 ++ dktJ7_hugeLength_2
def dkwJ7_hugeLength_0 : List UInt8 := [26, 27, 96, 61, 28, 156, 0, 44, 187, 0, 204, 89, 187, 0, 89, 89, 183, 0, 91, 18, 206, 182, 0, 94]
abbrev dktJ7_hugeLength_0 : List UInt8 := dkwJ7_hugeLength_0 ++ dktJ7_hugeLength_1
theorem dksJ7_hugeLength_0 : cJ7_hugeLength.data.toList.drop 0 = dktJ7_hugeLength_0 := by decide +kernel
theorem dksJ7_hugeLength_1 : cJ7_hugeLength.data.toList.drop 24 = dktJ7_hugeLength_1 := dk_seg dksJ7_hugeLength_0 24 rfl rfl
theorem dksJ7_hugeLength_2 : cJ7_hugeLength.data.toList.drop 48 = dktJ7_hugeLength_2 := dk_seg dksJ7_hugeLength_1 24 rfl rfl
theorem dJ7_hugeLength_0 : decode cJ7_hugeLength 0 = .ok (.iload_n 0, 1) := dk_26 (dk_at dksJ7_hugeLength_0 0 rfl rfl)
theorem dJ7_hugeLength_1 : decode cJ7_hugeLength 1 = .ok (.iload_n 1, 1) := dk_27 (dk_at dksJ7_hugeLength_0 1 rfl rfl)
theorem dJ7_hugeLength_2 : decode cJ7_hugeLength 2 = .ok (.iadd, 1) := dk_96 (dk_at dksJ7_hugeLength_0 2 rfl rfl)
theorem dJ7_hugeLength_3 : decode cJ7_hugeLength 3 = .ok (.istore_n 2, 1) := dk_61 (dk_at dksJ7_hugeLength_0 3 rfl rfl)
theorem dJ7_hugeLength_4 : decode cJ7_hugeLength 4 = .ok (.iload_n 2, 1) := dk_28 (dk_at dksJ7_hugeLength_0 4 rfl rfl)
theorem dJ7_hugeLength_5 : decode cJ7_hugeLength 5 = .ok (.ifCond .ge 44, 3) := dk_156 0 44 (dk_at dksJ7_hugeLength_0 5 rfl rfl)
theorem dJ7_hugeLength_8 : decode cJ7_hugeLength 8 = .ok (.new 204, 3) := dk_187 0 204 (dk_at dksJ7_hugeLength_0 8 rfl rfl)
theorem dJ7_hugeLength_11 : decode cJ7_hugeLength 11 = .ok (.dup, 1) := dk_89 (dk_at dksJ7_hugeLength_0 11 rfl rfl)
theorem dJ7_hugeLength_12 : decode cJ7_hugeLength 12 = .ok (.new 89, 3) := dk_187 0 89 (dk_at dksJ7_hugeLength_0 12 rfl rfl)
theorem dJ7_hugeLength_15 : decode cJ7_hugeLength 15 = .ok (.dup, 1) := dk_89 (dk_at dksJ7_hugeLength_0 15 rfl rfl)
theorem dJ7_hugeLength_16 : decode cJ7_hugeLength 16 = .ok (.invokespecial 91, 3) := dk_183 0 91 (dk_at dksJ7_hugeLength_0 16 rfl rfl)
theorem dJ7_hugeLength_19 : decode cJ7_hugeLength 19 = .ok (.ldc 206, 2) := dk_18 206 (dk_at dksJ7_hugeLength_0 19 rfl rfl)
theorem dJ7_hugeLength_21 : decode cJ7_hugeLength 21 = .ok (.invokevirtual 94, 3) := dk_182 0 94 (dk_at dksJ7_hugeLength_0 21 rfl rfl)
theorem dJ7_hugeLength_24 : decode cJ7_hugeLength 24 = .ok (.iload_n 0, 1) := dk_26 (dk_at dksJ7_hugeLength_1 0 rfl rfl)
theorem dJ7_hugeLength_25 : decode cJ7_hugeLength 25 = .ok (.invokevirtual 98, 3) := dk_182 0 98 (dk_at dksJ7_hugeLength_1 1 rfl rfl)
theorem dJ7_hugeLength_28 : decode cJ7_hugeLength 28 = .ok (.ldc 208, 2) := dk_18 208 (dk_at dksJ7_hugeLength_1 4 rfl rfl)
theorem dJ7_hugeLength_30 : decode cJ7_hugeLength 30 = .ok (.invokevirtual 94, 3) := dk_182 0 94 (dk_at dksJ7_hugeLength_1 6 rfl rfl)
theorem dJ7_hugeLength_33 : decode cJ7_hugeLength 33 = .ok (.iload_n 1, 1) := dk_27 (dk_at dksJ7_hugeLength_1 9 rfl rfl)
theorem dJ7_hugeLength_34 : decode cJ7_hugeLength 34 = .ok (.invokevirtual 98, 3) := dk_182 0 98 (dk_at dksJ7_hugeLength_1 10 rfl rfl)
theorem dJ7_hugeLength_37 : decode cJ7_hugeLength 37 = .ok (.ldc 210, 2) := dk_18 210 (dk_at dksJ7_hugeLength_1 13 rfl rfl)
theorem dJ7_hugeLength_39 : decode cJ7_hugeLength 39 = .ok (.invokevirtual 94, 3) := dk_182 0 94 (dk_at dksJ7_hugeLength_1 15 rfl rfl)
theorem dJ7_hugeLength_42 : decode cJ7_hugeLength 42 = .ok (.invokevirtual 101, 3) := dk_182 0 101 (dk_at dksJ7_hugeLength_1 18 rfl rfl)
theorem dJ7_hugeLength_45 : decode cJ7_hugeLength 45 = .ok (.invokespecial 212, 3) := dk_183 0 212 (dk_at dksJ7_hugeLength_1 21 rfl rfl)
theorem dJ7_hugeLength_48 : decode cJ7_hugeLength 48 = .ok (.athrow, 1) := dk_191 (dk_at dksJ7_hugeLength_2 0 rfl rfl)
theorem dJ7_hugeLength_49 : decode cJ7_hugeLength 49 = .ok (.iload_n 2, 1) := dk_28 (dk_at dksJ7_hugeLength_2 1 rfl rfl)
theorem dJ7_hugeLength_50 : decode cJ7_hugeLength 50 = .ok (.ldc 200, 2) := dk_18 200 (dk_at dksJ7_hugeLength_2 2 rfl rfl)
theorem dJ7_hugeLength_52 : decode cJ7_hugeLength 52 = .ok (.if_icmp .gt 6, 3) := dk_163 0 6 (dk_at dksJ7_hugeLength_2 4 rfl rfl)
theorem dJ7_hugeLength_55 : decode cJ7_hugeLength 55 = .ok (.ldc 200, 2) := dk_18 200 (dk_at dksJ7_hugeLength_2 7 rfl rfl)
theorem dJ7_hugeLength_57 : decode cJ7_hugeLength 57 = .ok (.ireturn, 1) := dk_172 (dk_at dksJ7_hugeLength_2 9 rfl rfl)
theorem dJ7_hugeLength_58 : decode cJ7_hugeLength 58 = .ok (.iload_n 2, 1) := dk_28 (dk_at dksJ7_hugeLength_2 10 rfl rfl)
theorem dJ7_hugeLength_59 : decode cJ7_hugeLength 59 = .ok (.ireturn, 1) := dk_172 (dk_at dksJ7_hugeLength_2 11 rfl rfl)
theorem q89 : (Jvm.Cond.initialized "jdk/internal/util/ArraysSupport") ∈ lw_all := lw_g (lw_at lw_m1 21 rfl) rfl
theorem q328 : (Jvm.Cond.static ({ cls := "jdk/internal/util/ArraysSupport", name := "newLength", desc := "(III)I" } : Jvm.MethodName)) ∈ lw_all := lw_g (lw_at lw_m2 20 rfl) rfl
theorem q329 : (Jvm.Cond.code ({ cls := "jdk/internal/util/ArraysSupport", name := "newLength", desc := "(III)I" } : Jvm.MethodName) prog_46_method_27_code (4 : Nat) (Option.some Jvm.ClassFile.FieldType.int)) ∈ lw_all := lw_g (lw_at lw_m2 21 rfl) rfl
theorem q330 : (Jvm.Cond.methodLink "jdk/internal/util/ArraysSupport" (194 : Nat) ({ cls := "java/lang/Math", name := "max", desc := "(II)I" } : Jvm.MethodName)) ∈ lw_all := lw_g (lw_at lw_m2 22 rfl) rfl
theorem q333 : (Jvm.Cond.constant "jdk/internal/util/ArraysSupport" (200 : Nat) (2147483639 : Int32)) ∈ lw_all := lw_g (lw_at lw_m2 25 rfl) rfl
theorem q334 : (Jvm.Cond.methodLink "jdk/internal/util/ArraysSupport" (201 : Nat) ({ cls := "jdk/internal/util/ArraysSupport", name := "hugeLength", desc := "(II)I" } : Jvm.MethodName)) ∈ lw_all := lw_g (lw_at lw_m2 26 rfl) rfl
theorem q335 : (Jvm.Cond.static ({ cls := "jdk/internal/util/ArraysSupport", name := "hugeLength", desc := "(II)I" } : Jvm.MethodName)) ∈ lw_all := lw_g (lw_at lw_m2 27 rfl) rfl
theorem q336 : (Jvm.Cond.code ({ cls := "jdk/internal/util/ArraysSupport", name := "hugeLength", desc := "(II)I" } : Jvm.MethodName) prog_46_method_28_code (3 : Nat) (Option.some Jvm.ClassFile.FieldType.int)) ∈ lw_all := lw_g (lw_at lw_m2 28 rfl) rfl

/-! java/lang/Math -/
set_option maxRecDepth 100000
def RJ8 : String := "java/lang/Math"
abbrev cJ8_max : ByteArray := prog_30_method_65_code
def yJ8_max : MethodName := ⟨RJ8, "max", "(II)I"⟩
def dkwJ8_max_0 : List UInt8 := [26, 27, 161, 0, 7, 26, 167, 0, 4, 27, 172]
abbrev dktJ8_max_0 : List UInt8 := dkwJ8_max_0 ++ []
theorem dksJ8_max_0 : cJ8_max.data.toList.drop 0 = dktJ8_max_0 := by decide +kernel
theorem dJ8_max_0 : decode cJ8_max 0 = .ok (.iload_n 0, 1) := dk_26 (dk_at dksJ8_max_0 0 rfl rfl)
theorem dJ8_max_1 : decode cJ8_max 1 = .ok (.iload_n 1, 1) := dk_27 (dk_at dksJ8_max_0 1 rfl rfl)
theorem dJ8_max_2 : decode cJ8_max 2 = .ok (.if_icmp .lt 7, 3) := dk_161 0 7 (dk_at dksJ8_max_0 2 rfl rfl)
theorem dJ8_max_5 : decode cJ8_max 5 = .ok (.iload_n 0, 1) := dk_26 (dk_at dksJ8_max_0 5 rfl rfl)
theorem dJ8_max_6 : decode cJ8_max 6 = .ok (.goto 4, 3) := dk_167 0 4 (dk_at dksJ8_max_0 6 rfl rfl)
theorem dJ8_max_9 : decode cJ8_max 9 = .ok (.iload_n 1, 1) := dk_27 (dk_at dksJ8_max_0 9 rfl rfl)
theorem dJ8_max_10 : decode cJ8_max 10 = .ok (.ireturn, 1) := dk_172 (dk_at dksJ8_max_0 10 rfl rfl)
abbrev cJ8_min : ByteArray := prog_30_method_69_code
def yJ8_min : MethodName := ⟨RJ8, "min", "(II)I"⟩
def dkwJ8_min_0 : List UInt8 := [26, 27, 163, 0, 7, 26, 167, 0, 4, 27, 172]
abbrev dktJ8_min_0 : List UInt8 := dkwJ8_min_0 ++ []
theorem dksJ8_min_0 : cJ8_min.data.toList.drop 0 = dktJ8_min_0 := by decide +kernel
theorem dJ8_min_0 : decode cJ8_min 0 = .ok (.iload_n 0, 1) := dk_26 (dk_at dksJ8_min_0 0 rfl rfl)
theorem dJ8_min_1 : decode cJ8_min 1 = .ok (.iload_n 1, 1) := dk_27 (dk_at dksJ8_min_0 1 rfl rfl)
theorem dJ8_min_2 : decode cJ8_min 2 = .ok (.if_icmp .gt 7, 3) := dk_163 0 7 (dk_at dksJ8_min_0 2 rfl rfl)
theorem dJ8_min_5 : decode cJ8_min 5 = .ok (.iload_n 0, 1) := dk_26 (dk_at dksJ8_min_0 5 rfl rfl)
theorem dJ8_min_6 : decode cJ8_min 6 = .ok (.goto 4, 3) := dk_167 0 4 (dk_at dksJ8_min_0 6 rfl rfl)
theorem dJ8_min_9 : decode cJ8_min 9 = .ok (.iload_n 1, 1) := dk_27 (dk_at dksJ8_min_0 9 rfl rfl)
theorem dJ8_min_10 : decode cJ8_min 10 = .ok (.ireturn, 1) := dk_172 (dk_at dksJ8_min_0 10 rfl rfl)
theorem q90 : (Jvm.Cond.initialized "java/lang/Math") ∈ lw_all := lw_g (lw_at lw_m1 22 rfl) rfl
theorem q331 : (Jvm.Cond.static ({ cls := "java/lang/Math", name := "max", desc := "(II)I" } : Jvm.MethodName)) ∈ lw_all := lw_g (lw_at lw_m2 23 rfl) rfl
theorem q332 : (Jvm.Cond.code ({ cls := "java/lang/Math", name := "max", desc := "(II)I" } : Jvm.MethodName) prog_30_method_65_code (2 : Nat) (Option.some Jvm.ClassFile.FieldType.int)) ∈ lw_all := lw_g (lw_at lw_m2 24 rfl) rfl
theorem q373 : (Jvm.Cond.static ({ cls := "java/lang/Math", name := "min", desc := "(II)I" } : Jvm.MethodName)) ∈ lw_all := lw_g (lw_at lw_m2 65 rfl) rfl
theorem q374 : (Jvm.Cond.code ({ cls := "java/lang/Math", name := "min", desc := "(II)I" } : Jvm.MethodName) prog_30_method_69_code (2 : Nat) (Option.some Jvm.ClassFile.FieldType.int)) ∈ lw_all := lw_g (lw_at lw_m2 66 rfl) rfl

/-! java/util/Arrays -/
set_option maxRecDepth 100000
def RJ9 : String := "java/util/Arrays"
abbrev cJ9_copyOf : ByteArray := prog_40_method_119_code
def yJ9_copyOf : MethodName := ⟨RJ9, "copyOf", "([Ljava/lang/Object;I)[Ljava/lang/Object;"⟩
def dkwJ9_copyOf_0 : List UInt8 := [42, 27, 42, 182, 0, 86, 184, 1, 44, 176]
abbrev dktJ9_copyOf_0 : List UInt8 := dkwJ9_copyOf_0 ++ []
theorem dksJ9_copyOf_0 : cJ9_copyOf.data.toList.drop 0 = dktJ9_copyOf_0 := by decide +kernel
theorem dJ9_copyOf_0 : decode cJ9_copyOf 0 = .ok (.aload_n 0, 1) := dk_42 (dk_at dksJ9_copyOf_0 0 rfl rfl)
theorem dJ9_copyOf_1 : decode cJ9_copyOf 1 = .ok (.iload_n 1, 1) := dk_27 (dk_at dksJ9_copyOf_0 1 rfl rfl)
theorem dJ9_copyOf_2 : decode cJ9_copyOf 2 = .ok (.aload_n 0, 1) := dk_42 (dk_at dksJ9_copyOf_0 2 rfl rfl)
theorem dJ9_copyOf_3 : decode cJ9_copyOf 3 = .ok (.invokevirtual 86, 3) := dk_182 0 86 (dk_at dksJ9_copyOf_0 3 rfl rfl)
theorem dJ9_copyOf_6 : decode cJ9_copyOf 6 = .ok (.invokestatic 300, 3) := dk_184 1 44 (dk_at dksJ9_copyOf_0 6 rfl rfl)
theorem dJ9_copyOf_9 : decode cJ9_copyOf 9 = .ok (.areturn, 1) := dk_176 (dk_at dksJ9_copyOf_0 9 rfl rfl)
abbrev cJ9_copyOf_2 : ByteArray := prog_40_method_120_code
def yJ9_copyOf_2 : MethodName := ⟨RJ9, "copyOf", "([Ljava/lang/Object;ILjava/lang/Class;)[Ljava/lang/Object;"⟩
def dkwJ9_copyOf_2_1 : List UInt8 := [78, 42, 3, 45, 3, 42, 190, 27, 184, 1, 48, 184, 0, 150, 45, 176]
abbrev dktJ9_copyOf_2_1 : List UInt8 := dkwJ9_copyOf_2_1 ++ []
def dkwJ9_copyOf_2_0 : List UInt8 := [44, 18, 110, 166, 0, 10, 27, 189, 0, 2, 167, 0, 14, 44, 182, 0, 90, 27, 184, 0, 95, 192, 0, 110]
abbrev dktJ9_copyOf_2_0 : List UInt8 := dkwJ9_copyOf_2_0 ++ dktJ9_copyOf_2_1
theorem dksJ9_copyOf_2_0 : cJ9_copyOf_2.data.toList.drop 0 = dktJ9_copyOf_2_0 := by decide +kernel
theorem dksJ9_copyOf_2_1 : cJ9_copyOf_2.data.toList.drop 24 = dktJ9_copyOf_2_1 := dk_seg dksJ9_copyOf_2_0 24 rfl rfl
theorem dJ9_copyOf_2_0 : decode cJ9_copyOf_2 0 = .ok (.aload_n 2, 1) := dk_44 (dk_at dksJ9_copyOf_2_0 0 rfl rfl)
theorem dJ9_copyOf_2_1 : decode cJ9_copyOf_2 1 = .ok (.ldc 110, 2) := dk_18 110 (dk_at dksJ9_copyOf_2_0 1 rfl rfl)
theorem dJ9_copyOf_2_3 : decode cJ9_copyOf_2 3 = .ok (.if_acmp .ne 10, 3) := dk_166 0 10 (dk_at dksJ9_copyOf_2_0 3 rfl rfl)
theorem dJ9_copyOf_2_6 : decode cJ9_copyOf_2 6 = .ok (.iload_n 1, 1) := dk_27 (dk_at dksJ9_copyOf_2_0 6 rfl rfl)
theorem dJ9_copyOf_2_7 : decode cJ9_copyOf_2 7 = .ok (.anewarray 2, 3) := dk_189 0 2 (dk_at dksJ9_copyOf_2_0 7 rfl rfl)
theorem dJ9_copyOf_2_10 : decode cJ9_copyOf_2 10 = .ok (.goto 14, 3) := dk_167 0 14 (dk_at dksJ9_copyOf_2_0 10 rfl rfl)
theorem dJ9_copyOf_2_13 : decode cJ9_copyOf_2 13 = .ok (.aload_n 2, 1) := dk_44 (dk_at dksJ9_copyOf_2_0 13 rfl rfl)
theorem dJ9_copyOf_2_14 : decode cJ9_copyOf_2 14 = .ok (.invokevirtual 90, 3) := dk_182 0 90 (dk_at dksJ9_copyOf_2_0 14 rfl rfl)
theorem dJ9_copyOf_2_17 : decode cJ9_copyOf_2 17 = .ok (.iload_n 1, 1) := dk_27 (dk_at dksJ9_copyOf_2_0 17 rfl rfl)
theorem dJ9_copyOf_2_18 : decode cJ9_copyOf_2 18 = .ok (.invokestatic 95, 3) := dk_184 0 95 (dk_at dksJ9_copyOf_2_0 18 rfl rfl)
theorem dJ9_copyOf_2_21 : decode cJ9_copyOf_2 21 = .ok (.checkcast 110, 3) := dk_192 0 110 (dk_at dksJ9_copyOf_2_0 21 rfl rfl)
theorem dJ9_copyOf_2_24 : decode cJ9_copyOf_2 24 = .ok (.astore_n 3, 1) := dk_78 (dk_at dksJ9_copyOf_2_1 0 rfl rfl)
theorem dJ9_copyOf_2_25 : decode cJ9_copyOf_2 25 = .ok (.aload_n 0, 1) := dk_42 (dk_at dksJ9_copyOf_2_1 1 rfl rfl)
theorem dJ9_copyOf_2_26 : decode cJ9_copyOf_2 26 = .ok (.iconst 0, 1) := dk_3 (dk_at dksJ9_copyOf_2_1 2 rfl rfl)
theorem dJ9_copyOf_2_27 : decode cJ9_copyOf_2 27 = .ok (.aload_n 3, 1) := dk_45 (dk_at dksJ9_copyOf_2_1 3 rfl rfl)
theorem dJ9_copyOf_2_28 : decode cJ9_copyOf_2 28 = .ok (.iconst 0, 1) := dk_3 (dk_at dksJ9_copyOf_2_1 4 rfl rfl)
theorem dJ9_copyOf_2_29 : decode cJ9_copyOf_2 29 = .ok (.aload_n 0, 1) := dk_42 (dk_at dksJ9_copyOf_2_1 5 rfl rfl)
theorem dJ9_copyOf_2_30 : decode cJ9_copyOf_2 30 = .ok (.arraylength, 1) := dk_190 (dk_at dksJ9_copyOf_2_1 6 rfl rfl)
theorem dJ9_copyOf_2_31 : decode cJ9_copyOf_2 31 = .ok (.iload_n 1, 1) := dk_27 (dk_at dksJ9_copyOf_2_1 7 rfl rfl)
theorem dJ9_copyOf_2_32 : decode cJ9_copyOf_2 32 = .ok (.invokestatic 304, 3) := dk_184 1 48 (dk_at dksJ9_copyOf_2_1 8 rfl rfl)
theorem dJ9_copyOf_2_35 : decode cJ9_copyOf_2 35 = .ok (.invokestatic 150, 3) := dk_184 0 150 (dk_at dksJ9_copyOf_2_1 11 rfl rfl)
theorem dJ9_copyOf_2_38 : decode cJ9_copyOf_2 38 = .ok (.aload_n 3, 1) := dk_45 (dk_at dksJ9_copyOf_2_1 14 rfl rfl)
theorem dJ9_copyOf_2_39 : decode cJ9_copyOf_2 39 = .ok (.areturn, 1) := dk_176 (dk_at dksJ9_copyOf_2_1 15 rfl rfl)
theorem q91 : (Jvm.Cond.initialized "java/util/Arrays") ∈ lw_all := lw_g (lw_at lw_m1 23 rfl) rfl
theorem q338 : (Jvm.Cond.static ({ cls := "java/util/Arrays", name := "copyOf", desc := "([Ljava/lang/Object;I)[Ljava/lang/Object;" } : Jvm.MethodName)) ∈ lw_all := lw_g (lw_at lw_m2 30 rfl) rfl
theorem q339 : (Jvm.Cond.code ({ cls := "java/util/Arrays", name := "copyOf", desc := "([Ljava/lang/Object;I)[Ljava/lang/Object;" } : Jvm.MethodName) prog_40_method_119_code (2 : Nat) (Option.some (Jvm.ClassFile.FieldType.array (Jvm.ClassFile.FieldType.object "java/lang/Object")))) ∈ lw_all := lw_g (lw_at lw_m2 31 rfl) rfl
theorem q340 : (Jvm.Cond.methodLink "java/util/Arrays" (86 : Nat) ({ cls := "java/lang/Object", name := "getClass", desc := "()Ljava/lang/Class;" } : Jvm.MethodName)) ∈ lw_all := lw_g (lw_at lw_m2 32 rfl) rfl
theorem q366 : (Jvm.Cond.methodLink "java/util/Arrays" (300 : Nat) ({ cls := "java/util/Arrays", name := "copyOf", desc := "([Ljava/lang/Object;ILjava/lang/Class;)[Ljava/lang/Object;" } : Jvm.MethodName)) ∈ lw_all := lw_g (lw_at lw_m2 58 rfl) rfl
theorem q367 : (Jvm.Cond.static ({ cls := "java/util/Arrays", name := "copyOf", desc := "([Ljava/lang/Object;ILjava/lang/Class;)[Ljava/lang/Object;" } : Jvm.MethodName)) ∈ lw_all := lw_g (lw_at lw_m2 59 rfl) rfl
theorem q368 : (Jvm.Cond.code ({ cls := "java/util/Arrays", name := "copyOf", desc := "([Ljava/lang/Object;ILjava/lang/Class;)[Ljava/lang/Object;" } : Jvm.MethodName) prog_40_method_120_code (4 : Nat) (Option.some (Jvm.ClassFile.FieldType.array (Jvm.ClassFile.FieldType.object "java/lang/Object")))) ∈ lw_all := lw_g (lw_at lw_m2 60 rfl) rfl
theorem q369 : (Jvm.Cond.classLink "java/util/Arrays" (110 : Nat) "[Ljava/lang/Object;") ∈ lw_all := lw_g (lw_at lw_m2 61 rfl) rfl
theorem q371 : (Jvm.Cond.classLink "java/util/Arrays" (2 : Nat) "java/lang/Object") ∈ lw_all := lw_g (lw_at lw_m2 63 rfl) rfl
theorem q372 : (Jvm.Cond.methodLink "java/util/Arrays" (304 : Nat) ({ cls := "java/lang/Math", name := "min", desc := "(II)I" } : Jvm.MethodName)) ∈ lw_all := lw_g (lw_at lw_m2 64 rfl) rfl
theorem q375 : (Jvm.Cond.methodLink "java/util/Arrays" (150 : Nat) ({ cls := "java/lang/System", name := "arraycopy", desc := "(Ljava/lang/Object;ILjava/lang/Object;II)V" } : Jvm.MethodName)) ∈ lw_all := lw_g (lw_at lw_m2 67 rfl) rfl

/-! SortedPost$Fault -/
set_option maxRecDepth 100000
def RX1 : String := "SortedPost$Fault"
def TX1 : u_T := fun k => match k with
  | 0 => ("java/lang/Throwable", "cause", "Ljava/lang/Throwable;", false)
  | 1 => ("java/lang/Throwable", "stackTrace", "[Ljava/lang/StackTraceElement;", false)
  | 2 => ("java/lang/Throwable", "suppressedExceptions", "Ljava/util/List;", false)
  | 3 => ("java/lang/Throwable", "detailMessage", "Ljava/lang/String;", false)
  | 4 => ("java/lang/Throwable", "backtrace", "Ljava/lang/Object;", false)
  | 5 => ("java/lang/Throwable", "depth", "I", false)
  | _ => ("SortedPost$Fault", "place", "I", false)
def tyX1 : Nat → FieldType := fun k => match k with
  | 0 => .object "java/lang/Throwable"
  | 1 => .array (.object "java/lang/StackTraceElement")
  | 2 => .object "java/util/List"
  | 3 => .object "java/lang/String"
  | 4 => .object "java/lang/Object"
  | 5 => .int
  | _ => .int
abbrev wsX10 : List Cond := u_ws RX1 TX1 7
theorem nmX1 : ∀ a, a < 7 → ∀ b, b < 7 → a ≠ b → (TX1 a).2.1 ≠ (TX1 b).2.1 := by decide +kernel
theorem tyX1_ok : ∀ k, k < 7 → parseFieldDescriptor (TX1 k).2.2.1 = some (tyX1 k) := by decide +kernel
abbrev cX1_init : ByteArray := prog_10_method_1_code
def yX1_init : MethodName := ⟨RX1, "<init>", "()V"⟩
def dkwX1_init_0 : List UInt8 := [42, 1, 1, 3, 3, 183, 0, 1, 177]
abbrev dktX1_init_0 : List UInt8 := dkwX1_init_0 ++ []
theorem dksX1_init_0 : cX1_init.data.toList.drop 0 = dktX1_init_0 := by decide +kernel
theorem dX1_init_0 : decode cX1_init 0 = .ok (.aload_n 0, 1) := dk_42 (dk_at dksX1_init_0 0 rfl rfl)
theorem dX1_init_1 : decode cX1_init 1 = .ok (.aconst_null, 1) := dk_1 (dk_at dksX1_init_0 1 rfl rfl)
theorem dX1_init_2 : decode cX1_init 2 = .ok (.aconst_null, 1) := dk_1 (dk_at dksX1_init_0 2 rfl rfl)
theorem dX1_init_3 : decode cX1_init 3 = .ok (.iconst 0, 1) := dk_3 (dk_at dksX1_init_0 3 rfl rfl)
theorem dX1_init_4 : decode cX1_init 4 = .ok (.iconst 0, 1) := dk_3 (dk_at dksX1_init_0 4 rfl rfl)
theorem dX1_init_5 : decode cX1_init 5 = .ok (.invokespecial 1, 3) := dk_183 0 1 (dk_at dksX1_init_0 5 rfl rfl)
theorem dX1_init_8 : decode cX1_init 8 = .ok (.return_, 1) := dk_177 (dk_at dksX1_init_0 8 rfl rfl)
theorem q75 : (Jvm.Cond.initialized "SortedPost$Fault") ∈ lw_all := lw_g (lw_at lw_m1 7 rfl) rfl
theorem q352 : (Jvm.Cond.selects "SortedPost$Fault" ({ cls := "java/lang/Object", name := "getClass", desc := "()Ljava/lang/Class;" } : Jvm.MethodName) ({ cls := "java/lang/Object", name := "getClass", desc := "()Ljava/lang/Class;" } : Jvm.MethodName)) ∈ lw_all := lw_g (lw_at lw_m2 44 rfl) rfl
theorem q424 : (Jvm.Cond.instantiable "SortedPost$Fault" (7 : Nat)) ∈ lw_all := lw_g (lw_at lw_m2 116 rfl) rfl
theorem q425 : (Jvm.Cond.castable "SortedPost$Fault" "SortedPost$Fault") ∈ lw_tbl := lw_at lw_m2 117 rfl
theorem q430 : (Jvm.Cond.selects "SortedPost$Fault" ({ cls := "java/lang/Throwable", name := "fillInStackTrace", desc := "(I)Ljava/lang/Throwable;" } : Jvm.MethodName) ({ cls := "java/lang/Throwable", name := "fillInStackTrace", desc := "(I)Ljava/lang/Throwable;" } : Jvm.MethodName)) ∈ lw_all := lw_g (lw_at lw_m2 122 rfl) rfl
theorem q431 : (Jvm.Cond.selects "SortedPost$Fault" ({ cls := "java/lang/Throwable", name := "fillInStackTrace", desc := "()Ljava/lang/Throwable;" } : Jvm.MethodName) ({ cls := "java/lang/Throwable", name := "fillInStackTrace", desc := "()Ljava/lang/Throwable;" } : Jvm.MethodName)) ∈ lw_all := lw_g (lw_at lw_m2 123 rfl) rfl
theorem q432 : (Jvm.Cond.lays "SortedPost$Fault" "java/lang/Throwable" "cause" "Ljava/lang/Throwable;") ∈ lw_all := lw_g (lw_at lw_m2 124 rfl) rfl
theorem q434 : (Jvm.Cond.lays "SortedPost$Fault" "java/lang/Throwable" "stackTrace" "[Ljava/lang/StackTraceElement;") ∈ lw_all := lw_g (lw_at lw_m2 126 rfl) rfl
theorem q436 : (Jvm.Cond.lays "SortedPost$Fault" "java/lang/Throwable" "suppressedExceptions" "Ljava/util/List;") ∈ lw_all := lw_g (lw_at lw_m2 128 rfl) rfl
theorem q438 : (Jvm.Cond.lays "SortedPost$Fault" "java/lang/Throwable" "detailMessage" "Ljava/lang/String;") ∈ lw_all := lw_g (lw_at lw_m2 130 rfl) rfl
theorem q440 : (Jvm.Cond.lays "SortedPost$Fault" "java/lang/Throwable" "backtrace" "Ljava/lang/Object;") ∈ lw_all := lw_g (lw_at lw_m2 132 rfl) rfl
theorem q478 : (Jvm.Cond.instanceMethod ({ cls := "SortedPost$Fault", name := "<init>", desc := "()V" } : Jvm.MethodName)) ∈ lw_all := lw_g (lw_at lw_m2 170 rfl) rfl
theorem q479 : (Jvm.Cond.code ({ cls := "SortedPost$Fault", name := "<init>", desc := "()V" } : Jvm.MethodName) prog_10_method_1_code (1 : Nat) (Option.none : Option Jvm.ClassFile.FieldType)) ∈ lw_all := lw_g (lw_at lw_m2 171 rfl) rfl
theorem q480 : (Jvm.Cond.methodLink "SortedPost$Fault" (1 : Nat) ({ cls := "java/lang/Exception", name := "<init>", desc := "(Ljava/lang/String;Ljava/lang/Throwable;ZZ)V" } : Jvm.MethodName)) ∈ lw_all := lw_g (lw_at lw_m2 172 rfl) rfl
theorem q492 : (Jvm.Cond.lays "SortedPost$Fault" "SortedPost$Fault" "place" "I") ∈ lw_all := lw_g (lw_at lw_m2 184 rfl) rfl
theorem q493 : (Jvm.Cond.soleField "SortedPost$Fault" "place") ∈ lw_all := lw_g (lw_at lw_m2 185 rfl) rfl
theorem q498 : (Jvm.Cond.lays "SortedPost$Fault" "java/lang/Throwable" "depth" "I") ∈ lw_all := lw_g (lw_at lw_m2 190 rfl) rfl
theorem q501 : (Jvm.Cond.superclass "SortedPost$Fault" "java/lang/Exception") ∈ lw_all := lw_g (lw_at lw_m2 193 rfl) rfl
theorem q1618 : (Jvm.Cond.castable "SortedPost$Fault" "java/lang/Object") ∈ lw_tbl := lw_at lw_m7 110 rfl
theorem in_X1 : ∀ w ∈ wsX10, w ∈ lw_all := lw_in wsX10 [432, 434, 436, 438, 440, 498, 492] (by decide +kernel) (by decide +kernel)

/-! SortedPost$Not -/
set_option maxRecDepth 100000
def RX10 : String := "SortedPost$Not"
def TX10 : u_T := fun k => match k with
  | _ => ("SortedPost$Not", "of", "LSortedPost$Test;", true)
def tyX10 : Nat → FieldType := fun k => match k with
  | _ => .object "SortedPost$Test"
abbrev wsX100 : List Cond := u_ws RX10 TX10 1
theorem nmX10 : ∀ a, a < 1 → ∀ b, b < 1 → a ≠ b → (TX10 a).2.1 ≠ (TX10 b).2.1 := by decide +kernel
theorem tyX10_ok : ∀ k, k < 1 → parseFieldDescriptor (TX10 k).2.2.1 = some (tyX10 k) := by decide +kernel
abbrev cX10_init : ByteArray := prog_12_method_1_code
def yX10_init : MethodName := ⟨RX10, "<init>", "(LSortedPost$Test;)V"⟩
def dkwX10_init_0 : List UInt8 := [42, 183, 0, 1, 42, 43, 181, 0, 7, 177]
abbrev dktX10_init_0 : List UInt8 := dkwX10_init_0 ++ []
theorem dksX10_init_0 : cX10_init.data.toList.drop 0 = dktX10_init_0 := by decide +kernel
theorem dX10_init_0 : decode cX10_init 0 = .ok (.aload_n 0, 1) := dk_42 (dk_at dksX10_init_0 0 rfl rfl)
theorem dX10_init_1 : decode cX10_init 1 = .ok (.invokespecial 1, 3) := dk_183 0 1 (dk_at dksX10_init_0 1 rfl rfl)
theorem dX10_init_4 : decode cX10_init 4 = .ok (.aload_n 0, 1) := dk_42 (dk_at dksX10_init_0 4 rfl rfl)
theorem dX10_init_5 : decode cX10_init 5 = .ok (.aload_n 1, 1) := dk_43 (dk_at dksX10_init_0 5 rfl rfl)
theorem dX10_init_6 : decode cX10_init 6 = .ok (.putfield 7, 3) := dk_181 0 7 (dk_at dksX10_init_0 6 rfl rfl)
theorem dX10_init_9 : decode cX10_init 9 = .ok (.return_, 1) := dk_177 (dk_at dksX10_init_0 9 rfl rfl)
abbrev cX10_holds : ByteArray := prog_12_method_2_code
def yX10_holds : MethodName := ⟨RX10, "holds", "(LSortedPost$Truths;)Z"⟩
def dkwX10_holds_0 : List UInt8 := [42, 180, 0, 7, 43, 185, 0, 13, 2, 0, 154, 0, 7, 4, 167, 0, 4, 3, 172]
abbrev dktX10_holds_0 : List UInt8 := dkwX10_holds_0 ++ []
theorem dksX10_holds_0 : cX10_holds.data.toList.drop 0 = dktX10_holds_0 := by decide +kernel
theorem dX10_holds_0 : decode cX10_holds 0 = .ok (.aload_n 0, 1) := dk_42 (dk_at dksX10_holds_0 0 rfl rfl)
theorem dX10_holds_1 : decode cX10_holds 1 = .ok (.getfield 7, 3) := dk_180 0 7 (dk_at dksX10_holds_0 1 rfl rfl)
theorem dX10_holds_4 : decode cX10_holds 4 = .ok (.aload_n 1, 1) := dk_43 (dk_at dksX10_holds_0 4 rfl rfl)
theorem dX10_holds_5 : decode cX10_holds 5 = .ok (.invokeinterface 13 2, 5) := by decide +kernel
theorem dX10_holds_10 : decode cX10_holds 10 = .ok (.ifCond .ne 7, 3) := dk_154 0 7 (dk_at dksX10_holds_0 10 rfl rfl)
theorem dX10_holds_13 : decode cX10_holds 13 = .ok (.iconst 1, 1) := dk_4 (dk_at dksX10_holds_0 13 rfl rfl)
theorem dX10_holds_14 : decode cX10_holds 14 = .ok (.goto 4, 3) := dk_167 0 4 (dk_at dksX10_holds_0 14 rfl rfl)
theorem dX10_holds_17 : decode cX10_holds 17 = .ok (.iconst 0, 1) := dk_3 (dk_at dksX10_holds_0 17 rfl rfl)
theorem dX10_holds_18 : decode cX10_holds 18 = .ok (.ireturn, 1) := dk_172 (dk_at dksX10_holds_0 18 rfl rfl)
theorem q84 : (Jvm.Cond.initialized "SortedPost$Not") ∈ lw_all := lw_g (lw_at lw_m1 16 rfl) rfl
theorem q222 : (Jvm.Cond.instantiable "SortedPost$Not" (1 : Nat)) ∈ lw_all := lw_g (lw_at lw_m1 154 rfl) rfl
theorem q224 : (Jvm.Cond.instanceMethod ({ cls := "SortedPost$Not", name := "<init>", desc := "(LSortedPost$Test;)V" } : Jvm.MethodName)) ∈ lw_all := lw_g (lw_at lw_m1 156 rfl) rfl
theorem q225 : (Jvm.Cond.code ({ cls := "SortedPost$Not", name := "<init>", desc := "(LSortedPost$Test;)V" } : Jvm.MethodName) prog_12_method_1_code (2 : Nat) (Option.none : Option Jvm.ClassFile.FieldType)) ∈ lw_all := lw_g (lw_at lw_m1 157 rfl) rfl
theorem q226 : (Jvm.Cond.methodLink "SortedPost$Not" (1 : Nat) ({ cls := "java/lang/Object", name := "<init>", desc := "()V" } : Jvm.MethodName)) ∈ lw_all := lw_g (lw_at lw_m1 158 rfl) rfl
theorem q227 : (Jvm.Cond.fieldLink "SortedPost$Not" (7 : Nat) "SortedPost$Not" "of" "LSortedPost$Test;") ∈ lw_all := lw_g (lw_at lw_m1 159 rfl) rfl
theorem q228 : (Jvm.Cond.laysFinal "SortedPost$Not" "SortedPost$Not" "of" "LSortedPost$Test;") ∈ lw_all := lw_g (lw_at lw_m1 160 rfl) rfl
theorem q229 : (Jvm.Cond.soleField "SortedPost$Not" "of") ∈ lw_all := lw_g (lw_at lw_m1 161 rfl) rfl
theorem q230 : (Jvm.Cond.superclass "SortedPost$Not" "java/lang/Object") ∈ lw_all := lw_g (lw_at lw_m1 162 rfl) rfl
theorem q354 : (Jvm.Cond.selects "SortedPost$Not" ({ cls := "java/lang/Object", name := "getClass", desc := "()Ljava/lang/Class;" } : Jvm.MethodName) ({ cls := "java/lang/Object", name := "getClass", desc := "()Ljava/lang/Class;" } : Jvm.MethodName)) ∈ lw_all := lw_g (lw_at lw_m2 46 rfl) rfl
theorem q866 : (Jvm.Cond.castable "SortedPost$Not" "SortedPost$Test") ∈ lw_tbl := lw_at lw_m4 78 rfl
theorem q867 : (Jvm.Cond.selects "SortedPost$Not" ({ cls := "SortedPost$Test", name := "holds", desc := "(LSortedPost$Truths;)Z" } : Jvm.MethodName) ({ cls := "SortedPost$Not", name := "holds", desc := "(LSortedPost$Truths;)Z" } : Jvm.MethodName)) ∈ lw_all := lw_g (lw_at lw_m4 79 rfl) rfl
theorem q868 : (Jvm.Cond.unhidden "SortedPost$Not" "holds" "(LSortedPost$Truths;)Z") ∈ lw_tbl := lw_at lw_m4 80 rfl
theorem q869 : (Jvm.Cond.instanceMethod ({ cls := "SortedPost$Not", name := "holds", desc := "(LSortedPost$Truths;)Z" } : Jvm.MethodName)) ∈ lw_all := lw_g (lw_at lw_m4 81 rfl) rfl
theorem q870 : (Jvm.Cond.publicMethod ({ cls := "SortedPost$Not", name := "holds", desc := "(LSortedPost$Truths;)Z" } : Jvm.MethodName)) ∈ lw_tbl := lw_at lw_m4 82 rfl
theorem q871 : (Jvm.Cond.code ({ cls := "SortedPost$Not", name := "holds", desc := "(LSortedPost$Truths;)Z" } : Jvm.MethodName) prog_12_method_2_code (2 : Nat) (Option.some Jvm.ClassFile.FieldType.boolean)) ∈ lw_all := lw_g (lw_at lw_m4 83 rfl) rfl
theorem q872 : (Jvm.Cond.interfaceEntry "SortedPost$Not" (13 : Nat)) ∈ lw_tbl := lw_at lw_m4 84 rfl
theorem q873 : (Jvm.Cond.methodLink "SortedPost$Not" (13 : Nat) ({ cls := "SortedPost$Test", name := "holds", desc := "(LSortedPost$Truths;)Z" } : Jvm.MethodName)) ∈ lw_all := lw_g (lw_at lw_m4 85 rfl) rfl
theorem q1624 : (Jvm.Cond.castable "SortedPost$Not" "java/lang/Object") ∈ lw_tbl := lw_at lw_m7 116 rfl
theorem in_X10 : ∀ w ∈ wsX100, w ∈ lw_all := lw_in wsX100 [228] (by decide +kernel) (by decide +kernel)

/-! SortedPost$Always -/
set_option maxRecDepth 100000
def RX11 : String := "SortedPost$Always"
abbrev cX11_init : ByteArray := prog_2_method_1_code
def yX11_init : MethodName := ⟨RX11, "<init>", "()V"⟩
theorem dX11_init_0 : decode cX11_init 0 = .ok (.aload_n 0, 1) := by decide +kernel
theorem dX11_init_1 : decode cX11_init 1 = .ok (.invokespecial 1, 3) := by decide +kernel
theorem dX11_init_4 : decode cX11_init 4 = .ok (.return_, 1) := by decide +kernel
abbrev cX11_holds : ByteArray := prog_2_method_2_code
def yX11_holds : MethodName := ⟨RX11, "holds", "(LSortedPost$Truths;)Z"⟩
theorem dX11_holds_0 : decode cX11_holds 0 = .ok (.iconst 1, 1) := by decide +kernel
theorem dX11_holds_1 : decode cX11_holds 1 = .ok (.ireturn, 1) := by decide +kernel
theorem q85 : (Jvm.Cond.initialized "SortedPost$Always") ∈ lw_all := lw_g (lw_at lw_m1 17 rfl) rfl
theorem q241 : (Jvm.Cond.instantiable "SortedPost$Always" (0 : Nat)) ∈ lw_all := lw_g (lw_at lw_m1 173 rfl) rfl
theorem q243 : (Jvm.Cond.instanceMethod ({ cls := "SortedPost$Always", name := "<init>", desc := "()V" } : Jvm.MethodName)) ∈ lw_all := lw_g (lw_at lw_m1 175 rfl) rfl
theorem q244 : (Jvm.Cond.code ({ cls := "SortedPost$Always", name := "<init>", desc := "()V" } : Jvm.MethodName) prog_2_method_1_code (1 : Nat) (Option.none : Option Jvm.ClassFile.FieldType)) ∈ lw_all := lw_g (lw_at lw_m1 176 rfl) rfl
theorem q245 : (Jvm.Cond.methodLink "SortedPost$Always" (1 : Nat) ({ cls := "java/lang/Object", name := "<init>", desc := "()V" } : Jvm.MethodName)) ∈ lw_all := lw_g (lw_at lw_m1 177 rfl) rfl
theorem q246 : (Jvm.Cond.superclass "SortedPost$Always" "java/lang/Object") ∈ lw_all := lw_g (lw_at lw_m1 178 rfl) rfl
theorem q344 : (Jvm.Cond.selects "SortedPost$Always" ({ cls := "java/lang/Object", name := "getClass", desc := "()Ljava/lang/Class;" } : Jvm.MethodName) ({ cls := "java/lang/Object", name := "getClass", desc := "()Ljava/lang/Class;" } : Jvm.MethodName)) ∈ lw_all := lw_g (lw_at lw_m2 36 rfl) rfl
theorem q811 : (Jvm.Cond.castable "SortedPost$Always" "SortedPost$Test") ∈ lw_tbl := lw_at lw_m4 23 rfl
theorem q812 : (Jvm.Cond.selects "SortedPost$Always" ({ cls := "SortedPost$Test", name := "holds", desc := "(LSortedPost$Truths;)Z" } : Jvm.MethodName) ({ cls := "SortedPost$Always", name := "holds", desc := "(LSortedPost$Truths;)Z" } : Jvm.MethodName)) ∈ lw_all := lw_g (lw_at lw_m4 24 rfl) rfl
theorem q813 : (Jvm.Cond.unhidden "SortedPost$Always" "holds" "(LSortedPost$Truths;)Z") ∈ lw_tbl := lw_at lw_m4 25 rfl
theorem q814 : (Jvm.Cond.instanceMethod ({ cls := "SortedPost$Always", name := "holds", desc := "(LSortedPost$Truths;)Z" } : Jvm.MethodName)) ∈ lw_all := lw_g (lw_at lw_m4 26 rfl) rfl
theorem q815 : (Jvm.Cond.publicMethod ({ cls := "SortedPost$Always", name := "holds", desc := "(LSortedPost$Truths;)Z" } : Jvm.MethodName)) ∈ lw_tbl := lw_at lw_m4 27 rfl
theorem q816 : (Jvm.Cond.code ({ cls := "SortedPost$Always", name := "holds", desc := "(LSortedPost$Truths;)Z" } : Jvm.MethodName) prog_2_method_2_code (2 : Nat) (Option.some Jvm.ClassFile.FieldType.boolean)) ∈ lw_all := lw_g (lw_at lw_m4 28 rfl) rfl
theorem q1625 : (Jvm.Cond.castable "SortedPost$Always" "java/lang/Object") ∈ lw_tbl := lw_at lw_m7 117 rfl

/-! SortedPost$Atom -/
set_option maxRecDepth 100000
def RX12 : String := "SortedPost$Atom"
def TX12 : u_T := fun k => match k with
  | 0 => ("SortedPost$Atom", "kind", "I", true)
  | 1 => ("SortedPost$Atom", "number", "I", true)
  | _ => ("SortedPost$Atom", "place", "I", false)
def tyX12 : Nat → FieldType := fun k => match k with
  | 0 => .int
  | 1 => .int
  | _ => .int
abbrev wsX120 : List Cond := u_ws RX12 TX12 3
theorem nmX12 : ∀ a, a < 3 → ∀ b, b < 3 → a ≠ b → (TX12 a).2.1 ≠ (TX12 b).2.1 := by decide +kernel
theorem tyX12_ok : ∀ k, k < 3 → parseFieldDescriptor (TX12 k).2.2.1 = some (tyX12 k) := by decide +kernel
abbrev cX12_init : ByteArray := prog_4_method_1_code
def yX12_init : MethodName := ⟨RX12, "<init>", "(II)V"⟩
def dkwX12_init_0 : List UInt8 := [42, 183, 0, 1, 42, 27, 181, 0, 7, 42, 28, 181, 0, 13, 177]
abbrev dktX12_init_0 : List UInt8 := dkwX12_init_0 ++ []
theorem dksX12_init_0 : cX12_init.data.toList.drop 0 = dktX12_init_0 := by decide +kernel
theorem dX12_init_0 : decode cX12_init 0 = .ok (.aload_n 0, 1) := dk_42 (dk_at dksX12_init_0 0 rfl rfl)
theorem dX12_init_1 : decode cX12_init 1 = .ok (.invokespecial 1, 3) := dk_183 0 1 (dk_at dksX12_init_0 1 rfl rfl)
theorem dX12_init_4 : decode cX12_init 4 = .ok (.aload_n 0, 1) := dk_42 (dk_at dksX12_init_0 4 rfl rfl)
theorem dX12_init_5 : decode cX12_init 5 = .ok (.iload_n 1, 1) := dk_27 (dk_at dksX12_init_0 5 rfl rfl)
theorem dX12_init_6 : decode cX12_init 6 = .ok (.putfield 7, 3) := dk_181 0 7 (dk_at dksX12_init_0 6 rfl rfl)
theorem dX12_init_9 : decode cX12_init 9 = .ok (.aload_n 0, 1) := dk_42 (dk_at dksX12_init_0 9 rfl rfl)
theorem dX12_init_10 : decode cX12_init 10 = .ok (.iload_n 2, 1) := dk_28 (dk_at dksX12_init_0 10 rfl rfl)
theorem dX12_init_11 : decode cX12_init 11 = .ok (.putfield 13, 3) := dk_181 0 13 (dk_at dksX12_init_0 11 rfl rfl)
theorem dX12_init_14 : decode cX12_init 14 = .ok (.return_, 1) := dk_177 (dk_at dksX12_init_0 14 rfl rfl)
abbrev cX12_isLike : ByteArray := prog_4_method_3_code
def yX12_isLike : MethodName := ⟨RX12, "isLike", "(LSortedPost$Atom;)Z"⟩
def dkwX12_isLike_1 : List UInt8 := [167, 0, 4, 3, 172]
abbrev dktX12_isLike_1 : List UInt8 := dkwX12_isLike_1 ++ []
def dkwX12_isLike_0 : List UInt8 := [42, 180, 0, 7, 43, 180, 0, 7, 160, 0, 18, 42, 180, 0, 13, 43, 180, 0, 13, 160, 0, 7, 4]
abbrev dktX12_isLike_0 : List UInt8 := dkwX12_isLike_0 ++ dktX12_isLike_1
theorem dksX12_isLike_0 : cX12_isLike.data.toList.drop 0 = dktX12_isLike_0 := by decide +kernel
theorem dksX12_isLike_1 : cX12_isLike.data.toList.drop 23 = dktX12_isLike_1 := dk_seg dksX12_isLike_0 23 rfl rfl
theorem dX12_isLike_0 : decode cX12_isLike 0 = .ok (.aload_n 0, 1) := dk_42 (dk_at dksX12_isLike_0 0 rfl rfl)
theorem dX12_isLike_1 : decode cX12_isLike 1 = .ok (.getfield 7, 3) := dk_180 0 7 (dk_at dksX12_isLike_0 1 rfl rfl)
theorem dX12_isLike_4 : decode cX12_isLike 4 = .ok (.aload_n 1, 1) := dk_43 (dk_at dksX12_isLike_0 4 rfl rfl)
theorem dX12_isLike_5 : decode cX12_isLike 5 = .ok (.getfield 7, 3) := dk_180 0 7 (dk_at dksX12_isLike_0 5 rfl rfl)
theorem dX12_isLike_8 : decode cX12_isLike 8 = .ok (.if_icmp .ne 18, 3) := dk_160 0 18 (dk_at dksX12_isLike_0 8 rfl rfl)
theorem dX12_isLike_11 : decode cX12_isLike 11 = .ok (.aload_n 0, 1) := dk_42 (dk_at dksX12_isLike_0 11 rfl rfl)
theorem dX12_isLike_12 : decode cX12_isLike 12 = .ok (.getfield 13, 3) := dk_180 0 13 (dk_at dksX12_isLike_0 12 rfl rfl)
theorem dX12_isLike_15 : decode cX12_isLike 15 = .ok (.aload_n 1, 1) := dk_43 (dk_at dksX12_isLike_0 15 rfl rfl)
theorem dX12_isLike_16 : decode cX12_isLike 16 = .ok (.getfield 13, 3) := dk_180 0 13 (dk_at dksX12_isLike_0 16 rfl rfl)
theorem dX12_isLike_19 : decode cX12_isLike 19 = .ok (.if_icmp .ne 7, 3) := dk_160 0 7 (dk_at dksX12_isLike_0 19 rfl rfl)
theorem dX12_isLike_22 : decode cX12_isLike 22 = .ok (.iconst 1, 1) := dk_4 (dk_at dksX12_isLike_0 22 rfl rfl)
theorem dX12_isLike_23 : decode cX12_isLike 23 = .ok (.goto 4, 3) := dk_167 0 4 (dk_at dksX12_isLike_1 0 rfl rfl)
theorem dX12_isLike_26 : decode cX12_isLike 26 = .ok (.iconst 0, 1) := dk_3 (dk_at dksX12_isLike_1 3 rfl rfl)
theorem dX12_isLike_27 : decode cX12_isLike 27 = .ok (.ireturn, 1) := dk_172 (dk_at dksX12_isLike_1 4 rfl rfl)
abbrev cX12_holds : ByteArray := prog_4_method_2_code
def yX12_holds : MethodName := ⟨RX12, "holds", "(LSortedPost$Truths;)Z"⟩
def dkwX12_holds_0 : List UInt8 := [43, 42, 185, 0, 16, 2, 0, 172]
abbrev dktX12_holds_0 : List UInt8 := dkwX12_holds_0 ++ []
theorem dksX12_holds_0 : cX12_holds.data.toList.drop 0 = dktX12_holds_0 := by decide +kernel
theorem dX12_holds_0 : decode cX12_holds 0 = .ok (.aload_n 1, 1) := dk_43 (dk_at dksX12_holds_0 0 rfl rfl)
theorem dX12_holds_1 : decode cX12_holds 1 = .ok (.aload_n 0, 1) := dk_42 (dk_at dksX12_holds_0 1 rfl rfl)
theorem dX12_holds_2 : decode cX12_holds 2 = .ok (.invokeinterface 16 2, 5) := by decide +kernel
theorem dX12_holds_7 : decode cX12_holds 7 = .ok (.ireturn, 1) := dk_172 (dk_at dksX12_holds_0 7 rfl rfl)
theorem q86 : (Jvm.Cond.initialized "SortedPost$Atom") ∈ lw_all := lw_g (lw_at lw_m1 18 rfl) rfl
theorem q248 : (Jvm.Cond.instantiable "SortedPost$Atom" (3 : Nat)) ∈ lw_all := lw_g (lw_at lw_m1 180 rfl) rfl
theorem q254 : (Jvm.Cond.instanceMethod ({ cls := "SortedPost$Atom", name := "<init>", desc := "(II)V" } : Jvm.MethodName)) ∈ lw_all := lw_g (lw_at lw_m1 186 rfl) rfl
theorem q255 : (Jvm.Cond.code ({ cls := "SortedPost$Atom", name := "<init>", desc := "(II)V" } : Jvm.MethodName) prog_4_method_1_code (3 : Nat) (Option.none : Option Jvm.ClassFile.FieldType)) ∈ lw_all := lw_g (lw_at lw_m1 187 rfl) rfl
theorem q256 : (Jvm.Cond.methodLink "SortedPost$Atom" (1 : Nat) ({ cls := "java/lang/Object", name := "<init>", desc := "()V" } : Jvm.MethodName)) ∈ lw_all := lw_g (lw_at lw_m1 188 rfl) rfl
theorem q257 : (Jvm.Cond.fieldLink "SortedPost$Atom" (7 : Nat) "SortedPost$Atom" "kind" "I") ∈ lw_all := lw_g (lw_at lw_m1 189 rfl) rfl
theorem q260 : (Jvm.Cond.fieldLink "SortedPost$Atom" (13 : Nat) "SortedPost$Atom" "number" "I") ∈ lw_all := lw_g (lw_at lw_m1 192 rfl) rfl
theorem q265 : (Jvm.Cond.laysFinal "SortedPost$Atom" "SortedPost$Atom" "kind" "I") ∈ lw_all := lw_g (lw_at lw_m1 197 rfl) rfl
theorem q266 : (Jvm.Cond.soleField "SortedPost$Atom" "kind") ∈ lw_all := lw_g (lw_at lw_m1 198 rfl) rfl
theorem q267 : (Jvm.Cond.laysFinal "SortedPost$Atom" "SortedPost$Atom" "number" "I") ∈ lw_all := lw_g (lw_at lw_m1 199 rfl) rfl
theorem q268 : (Jvm.Cond.soleField "SortedPost$Atom" "number") ∈ lw_all := lw_g (lw_at lw_m1 200 rfl) rfl
theorem q269 : (Jvm.Cond.lays "SortedPost$Atom" "SortedPost$Atom" "place" "I") ∈ lw_all := lw_g (lw_at lw_m1 201 rfl) rfl
theorem q270 : (Jvm.Cond.soleField "SortedPost$Atom" "place") ∈ lw_all := lw_g (lw_at lw_m1 202 rfl) rfl
theorem q271 : (Jvm.Cond.superclass "SortedPost$Atom" "java/lang/Object") ∈ lw_all := lw_g (lw_at lw_m1 203 rfl) rfl
theorem q302 : (Jvm.Cond.instanceMethod ({ cls := "SortedPost$Atom", name := "isLike", desc := "(LSortedPost$Atom;)Z" } : Jvm.MethodName)) ∈ lw_all := lw_g (lw_at lw_m1 234 rfl) rfl
theorem q303 : (Jvm.Cond.selects "SortedPost$Atom" ({ cls := "SortedPost$Atom", name := "isLike", desc := "(LSortedPost$Atom;)Z" } : Jvm.MethodName) ({ cls := "SortedPost$Atom", name := "isLike", desc := "(LSortedPost$Atom;)Z" } : Jvm.MethodName)) ∈ lw_all := lw_g (lw_at lw_m1 235 rfl) rfl
theorem q304 : (Jvm.Cond.code ({ cls := "SortedPost$Atom", name := "isLike", desc := "(LSortedPost$Atom;)Z" } : Jvm.MethodName) prog_4_method_3_code (2 : Nat) (Option.some Jvm.ClassFile.FieldType.boolean)) ∈ lw_all := lw_g (lw_at lw_m1 236 rfl) rfl
theorem q346 : (Jvm.Cond.selects "SortedPost$Atom" ({ cls := "java/lang/Object", name := "getClass", desc := "()Ljava/lang/Class;" } : Jvm.MethodName) ({ cls := "java/lang/Object", name := "getClass", desc := "()Ljava/lang/Class;" } : Jvm.MethodName)) ∈ lw_all := lw_g (lw_at lw_m2 38 rfl) rfl
theorem q817 : (Jvm.Cond.castable "SortedPost$Atom" "SortedPost$Test") ∈ lw_tbl := lw_at lw_m4 29 rfl
theorem q818 : (Jvm.Cond.selects "SortedPost$Atom" ({ cls := "SortedPost$Test", name := "holds", desc := "(LSortedPost$Truths;)Z" } : Jvm.MethodName) ({ cls := "SortedPost$Atom", name := "holds", desc := "(LSortedPost$Truths;)Z" } : Jvm.MethodName)) ∈ lw_all := lw_g (lw_at lw_m4 30 rfl) rfl
theorem q819 : (Jvm.Cond.unhidden "SortedPost$Atom" "holds" "(LSortedPost$Truths;)Z") ∈ lw_tbl := lw_at lw_m4 31 rfl
theorem q820 : (Jvm.Cond.instanceMethod ({ cls := "SortedPost$Atom", name := "holds", desc := "(LSortedPost$Truths;)Z" } : Jvm.MethodName)) ∈ lw_all := lw_g (lw_at lw_m4 32 rfl) rfl
theorem q821 : (Jvm.Cond.publicMethod ({ cls := "SortedPost$Atom", name := "holds", desc := "(LSortedPost$Truths;)Z" } : Jvm.MethodName)) ∈ lw_tbl := lw_at lw_m4 33 rfl
theorem q822 : (Jvm.Cond.code ({ cls := "SortedPost$Atom", name := "holds", desc := "(LSortedPost$Truths;)Z" } : Jvm.MethodName) prog_4_method_2_code (2 : Nat) (Option.some Jvm.ClassFile.FieldType.boolean)) ∈ lw_all := lw_g (lw_at lw_m4 34 rfl) rfl
theorem q823 : (Jvm.Cond.interfaceEntry "SortedPost$Atom" (16 : Nat)) ∈ lw_tbl := lw_at lw_m4 35 rfl
theorem q824 : (Jvm.Cond.methodLink "SortedPost$Atom" (16 : Nat) ({ cls := "SortedPost$Truths", name := "isTrue", desc := "(LSortedPost$Atom;)Z" } : Jvm.MethodName)) ∈ lw_all := lw_g (lw_at lw_m4 36 rfl) rfl
theorem q1626 : (Jvm.Cond.castable "SortedPost$Atom" "java/lang/Object") ∈ lw_tbl := lw_at lw_m7 118 rfl
theorem in_X12 : ∀ w ∈ wsX120, w ∈ lw_all := lw_in wsX120 [265, 267, 269] (by decide +kernel) (by decide +kernel)

/-! SortedPost$Pair -/
set_option maxRecDepth 100000
def RX13 : String := "SortedPost$Pair"
abbrev cX13_init : ByteArray := prog_13_method_1_code
def yX13_init : MethodName := ⟨RX13, "<init>", "(LSortedPost$Test;LSortedPost$Test;)V"⟩
def dkwX13_init_0 : List UInt8 := [42, 183, 0, 1, 42, 43, 181, 0, 7, 42, 44, 181, 0, 13, 177]
abbrev dktX13_init_0 : List UInt8 := dkwX13_init_0 ++ []
theorem dksX13_init_0 : cX13_init.data.toList.drop 0 = dktX13_init_0 := by decide +kernel
theorem dX13_init_0 : decode cX13_init 0 = .ok (.aload_n 0, 1) := dk_42 (dk_at dksX13_init_0 0 rfl rfl)
theorem dX13_init_1 : decode cX13_init 1 = .ok (.invokespecial 1, 3) := dk_183 0 1 (dk_at dksX13_init_0 1 rfl rfl)
theorem dX13_init_4 : decode cX13_init 4 = .ok (.aload_n 0, 1) := dk_42 (dk_at dksX13_init_0 4 rfl rfl)
theorem dX13_init_5 : decode cX13_init 5 = .ok (.aload_n 1, 1) := dk_43 (dk_at dksX13_init_0 5 rfl rfl)
theorem dX13_init_6 : decode cX13_init 6 = .ok (.putfield 7, 3) := dk_181 0 7 (dk_at dksX13_init_0 6 rfl rfl)
theorem dX13_init_9 : decode cX13_init 9 = .ok (.aload_n 0, 1) := dk_42 (dk_at dksX13_init_0 9 rfl rfl)
theorem dX13_init_10 : decode cX13_init 10 = .ok (.aload_n 2, 1) := dk_44 (dk_at dksX13_init_0 10 rfl rfl)
theorem dX13_init_11 : decode cX13_init 11 = .ok (.putfield 13, 3) := dk_181 0 13 (dk_at dksX13_init_0 11 rfl rfl)
theorem dX13_init_14 : decode cX13_init 14 = .ok (.return_, 1) := dk_177 (dk_at dksX13_init_0 14 rfl rfl)
theorem q93 : (Jvm.Cond.initialized "SortedPost$Pair") ∈ lw_all := lw_g (lw_at lw_m1 25 rfl) rfl
theorem q386 : (Jvm.Cond.instanceMethod ({ cls := "SortedPost$Pair", name := "<init>", desc := "(LSortedPost$Test;LSortedPost$Test;)V" } : Jvm.MethodName)) ∈ lw_all := lw_g (lw_at lw_m2 78 rfl) rfl
theorem q387 : (Jvm.Cond.code ({ cls := "SortedPost$Pair", name := "<init>", desc := "(LSortedPost$Test;LSortedPost$Test;)V" } : Jvm.MethodName) prog_13_method_1_code (3 : Nat) (Option.none : Option Jvm.ClassFile.FieldType)) ∈ lw_all := lw_g (lw_at lw_m2 79 rfl) rfl
theorem q388 : (Jvm.Cond.methodLink "SortedPost$Pair" (1 : Nat) ({ cls := "java/lang/Object", name := "<init>", desc := "()V" } : Jvm.MethodName)) ∈ lw_all := lw_g (lw_at lw_m2 80 rfl) rfl
theorem q389 : (Jvm.Cond.fieldLink "SortedPost$Pair" (7 : Nat) "SortedPost$Pair" "one" "LSortedPost$Test;") ∈ lw_all := lw_g (lw_at lw_m2 81 rfl) rfl
theorem q394 : (Jvm.Cond.fieldLink "SortedPost$Pair" (13 : Nat) "SortedPost$Pair" "other" "LSortedPost$Test;") ∈ lw_all := lw_g (lw_at lw_m2 86 rfl) rfl
theorem q400 : (Jvm.Cond.soleField "SortedPost$Pair" "one") ∈ lw_all := lw_g (lw_at lw_m2 92 rfl) rfl
theorem q402 : (Jvm.Cond.soleField "SortedPost$Pair" "other") ∈ lw_all := lw_g (lw_at lw_m2 94 rfl) rfl

/-! SortedPost$Both -/
set_option maxRecDepth 100000
def RX14 : String := "SortedPost$Both"
def TX14 : u_T := fun k => match k with
  | 0 => ("SortedPost$Pair", "one", "LSortedPost$Test;", true)
  | _ => ("SortedPost$Pair", "other", "LSortedPost$Test;", true)
def tyX14 : Nat → FieldType := fun k => match k with
  | 0 => .object "SortedPost$Test"
  | _ => .object "SortedPost$Test"
abbrev wsX140 : List Cond := u_ws RX14 TX14 2
theorem nmX14 : ∀ a, a < 2 → ∀ b, b < 2 → a ≠ b → (TX14 a).2.1 ≠ (TX14 b).2.1 := by decide +kernel
theorem tyX14_ok : ∀ k, k < 2 → parseFieldDescriptor (TX14 k).2.2.1 = some (tyX14 k) := by decide +kernel
abbrev cX14_init : ByteArray := prog_5_method_1_code
def yX14_init : MethodName := ⟨RX14, "<init>", "(LSortedPost$Test;LSortedPost$Test;)V"⟩
def dkwX14_init_0 : List UInt8 := [42, 43, 44, 183, 0, 1, 177]
abbrev dktX14_init_0 : List UInt8 := dkwX14_init_0 ++ []
theorem dksX14_init_0 : cX14_init.data.toList.drop 0 = dktX14_init_0 := by decide +kernel
theorem dX14_init_0 : decode cX14_init 0 = .ok (.aload_n 0, 1) := dk_42 (dk_at dksX14_init_0 0 rfl rfl)
theorem dX14_init_1 : decode cX14_init 1 = .ok (.aload_n 1, 1) := dk_43 (dk_at dksX14_init_0 1 rfl rfl)
theorem dX14_init_2 : decode cX14_init 2 = .ok (.aload_n 2, 1) := dk_44 (dk_at dksX14_init_0 2 rfl rfl)
theorem dX14_init_3 : decode cX14_init 3 = .ok (.invokespecial 1, 3) := dk_183 0 1 (dk_at dksX14_init_0 3 rfl rfl)
theorem dX14_init_6 : decode cX14_init 6 = .ok (.return_, 1) := dk_177 (dk_at dksX14_init_0 6 rfl rfl)
abbrev cX14_holds : ByteArray := prog_5_method_2_code
def yX14_holds : MethodName := ⟨RX14, "holds", "(LSortedPost$Truths;)Z"⟩
def dkwX14_holds_1 : List UInt8 := [153, 0, 7, 4, 167, 0, 4, 3, 172]
abbrev dktX14_holds_1 : List UInt8 := dkwX14_holds_1 ++ []
def dkwX14_holds_0 : List UInt8 := [42, 180, 0, 7, 43, 185, 0, 13, 2, 0, 153, 0, 20, 42, 180, 0, 19, 43, 185, 0, 13, 2, 0]
abbrev dktX14_holds_0 : List UInt8 := dkwX14_holds_0 ++ dktX14_holds_1
theorem dksX14_holds_0 : cX14_holds.data.toList.drop 0 = dktX14_holds_0 := by decide +kernel
theorem dksX14_holds_1 : cX14_holds.data.toList.drop 23 = dktX14_holds_1 := dk_seg dksX14_holds_0 23 rfl rfl
theorem dX14_holds_0 : decode cX14_holds 0 = .ok (.aload_n 0, 1) := dk_42 (dk_at dksX14_holds_0 0 rfl rfl)
theorem dX14_holds_1 : decode cX14_holds 1 = .ok (.getfield 7, 3) := dk_180 0 7 (dk_at dksX14_holds_0 1 rfl rfl)
theorem dX14_holds_4 : decode cX14_holds 4 = .ok (.aload_n 1, 1) := dk_43 (dk_at dksX14_holds_0 4 rfl rfl)
theorem dX14_holds_5 : decode cX14_holds 5 = .ok (.invokeinterface 13 2, 5) := by decide +kernel
theorem dX14_holds_10 : decode cX14_holds 10 = .ok (.ifCond .eq 20, 3) := dk_153 0 20 (dk_at dksX14_holds_0 10 rfl rfl)
theorem dX14_holds_13 : decode cX14_holds 13 = .ok (.aload_n 0, 1) := dk_42 (dk_at dksX14_holds_0 13 rfl rfl)
theorem dX14_holds_14 : decode cX14_holds 14 = .ok (.getfield 19, 3) := dk_180 0 19 (dk_at dksX14_holds_0 14 rfl rfl)
theorem dX14_holds_17 : decode cX14_holds 17 = .ok (.aload_n 1, 1) := dk_43 (dk_at dksX14_holds_0 17 rfl rfl)
theorem dX14_holds_18 : decode cX14_holds 18 = .ok (.invokeinterface 13 2, 5) := by decide +kernel
theorem dX14_holds_23 : decode cX14_holds 23 = .ok (.ifCond .eq 7, 3) := dk_153 0 7 (dk_at dksX14_holds_1 0 rfl rfl)
theorem dX14_holds_26 : decode cX14_holds 26 = .ok (.iconst 1, 1) := dk_4 (dk_at dksX14_holds_1 3 rfl rfl)
theorem dX14_holds_27 : decode cX14_holds 27 = .ok (.goto 4, 3) := dk_167 0 4 (dk_at dksX14_holds_1 4 rfl rfl)
theorem dX14_holds_30 : decode cX14_holds 30 = .ok (.iconst 0, 1) := dk_3 (dk_at dksX14_holds_1 7 rfl rfl)
theorem dX14_holds_31 : decode cX14_holds 31 = .ok (.ireturn, 1) := dk_172 (dk_at dksX14_holds_1 8 rfl rfl)
theorem q94 : (Jvm.Cond.initialized "SortedPost$Both") ∈ lw_all := lw_g (lw_at lw_m1 26 rfl) rfl
theorem q347 : (Jvm.Cond.selects "SortedPost$Both" ({ cls := "java/lang/Object", name := "getClass", desc := "()Ljava/lang/Class;" } : Jvm.MethodName) ({ cls := "java/lang/Object", name := "getClass", desc := "()Ljava/lang/Class;" } : Jvm.MethodName)) ∈ lw_all := lw_g (lw_at lw_m2 39 rfl) rfl
theorem q381 : (Jvm.Cond.instantiable "SortedPost$Both" (2 : Nat)) ∈ lw_all := lw_g (lw_at lw_m2 73 rfl) rfl
theorem q383 : (Jvm.Cond.instanceMethod ({ cls := "SortedPost$Both", name := "<init>", desc := "(LSortedPost$Test;LSortedPost$Test;)V" } : Jvm.MethodName)) ∈ lw_all := lw_g (lw_at lw_m2 75 rfl) rfl
theorem q384 : (Jvm.Cond.code ({ cls := "SortedPost$Both", name := "<init>", desc := "(LSortedPost$Test;LSortedPost$Test;)V" } : Jvm.MethodName) prog_5_method_1_code (3 : Nat) (Option.none : Option Jvm.ClassFile.FieldType)) ∈ lw_all := lw_g (lw_at lw_m2 76 rfl) rfl
theorem q385 : (Jvm.Cond.methodLink "SortedPost$Both" (1 : Nat) ({ cls := "SortedPost$Pair", name := "<init>", desc := "(LSortedPost$Test;LSortedPost$Test;)V" } : Jvm.MethodName)) ∈ lw_all := lw_g (lw_at lw_m2 77 rfl) rfl
theorem q390 : (Jvm.Cond.fieldLink "SortedPost$Both" (7 : Nat) "SortedPost$Both" "one" "LSortedPost$Test;") ∈ lw_all := lw_g (lw_at lw_m2 82 rfl) rfl
theorem q391 : (Jvm.Cond.sameField "SortedPost$Both" "SortedPost$Pair" "one" "LSortedPost$Test;") ∈ lw_all := lw_g (lw_at lw_m2 83 rfl) rfl
theorem q397 : (Jvm.Cond.fieldLink "SortedPost$Both" (19 : Nat) "SortedPost$Both" "other" "LSortedPost$Test;") ∈ lw_all := lw_g (lw_at lw_m2 89 rfl) rfl
theorem q398 : (Jvm.Cond.sameField "SortedPost$Both" "SortedPost$Pair" "other" "LSortedPost$Test;") ∈ lw_all := lw_g (lw_at lw_m2 90 rfl) rfl
theorem q399 : (Jvm.Cond.laysFinal "SortedPost$Both" "SortedPost$Pair" "one" "LSortedPost$Test;") ∈ lw_all := lw_g (lw_at lw_m2 91 rfl) rfl
theorem q401 : (Jvm.Cond.laysFinal "SortedPost$Both" "SortedPost$Pair" "other" "LSortedPost$Test;") ∈ lw_all := lw_g (lw_at lw_m2 93 rfl) rfl
theorem q403 : (Jvm.Cond.superclass "SortedPost$Both" "SortedPost$Pair") ∈ lw_all := lw_g (lw_at lw_m2 95 rfl) rfl
theorem q850 : (Jvm.Cond.castable "SortedPost$Both" "SortedPost$Test") ∈ lw_tbl := lw_at lw_m4 62 rfl
theorem q851 : (Jvm.Cond.selects "SortedPost$Both" ({ cls := "SortedPost$Test", name := "holds", desc := "(LSortedPost$Truths;)Z" } : Jvm.MethodName) ({ cls := "SortedPost$Both", name := "holds", desc := "(LSortedPost$Truths;)Z" } : Jvm.MethodName)) ∈ lw_all := lw_g (lw_at lw_m4 63 rfl) rfl
theorem q852 : (Jvm.Cond.unhidden "SortedPost$Both" "holds" "(LSortedPost$Truths;)Z") ∈ lw_tbl := lw_at lw_m4 64 rfl
theorem q853 : (Jvm.Cond.instanceMethod ({ cls := "SortedPost$Both", name := "holds", desc := "(LSortedPost$Truths;)Z" } : Jvm.MethodName)) ∈ lw_all := lw_g (lw_at lw_m4 65 rfl) rfl
theorem q854 : (Jvm.Cond.publicMethod ({ cls := "SortedPost$Both", name := "holds", desc := "(LSortedPost$Truths;)Z" } : Jvm.MethodName)) ∈ lw_tbl := lw_at lw_m4 66 rfl
theorem q855 : (Jvm.Cond.code ({ cls := "SortedPost$Both", name := "holds", desc := "(LSortedPost$Truths;)Z" } : Jvm.MethodName) prog_5_method_2_code (2 : Nat) (Option.some Jvm.ClassFile.FieldType.boolean)) ∈ lw_all := lw_g (lw_at lw_m4 67 rfl) rfl
theorem q856 : (Jvm.Cond.interfaceEntry "SortedPost$Both" (13 : Nat)) ∈ lw_tbl := lw_at lw_m4 68 rfl
theorem q857 : (Jvm.Cond.methodLink "SortedPost$Both" (13 : Nat) ({ cls := "SortedPost$Test", name := "holds", desc := "(LSortedPost$Truths;)Z" } : Jvm.MethodName)) ∈ lw_all := lw_g (lw_at lw_m4 69 rfl) rfl
theorem q1627 : (Jvm.Cond.castable "SortedPost$Both" "java/lang/Object") ∈ lw_tbl := lw_at lw_m7 119 rfl
theorem in_X14 : ∀ w ∈ wsX140, w ∈ lw_all := lw_in wsX140 [399, 401] (by decide +kernel) (by decide +kernel)

/-! SortedPost$Either -/
set_option maxRecDepth 100000
def RX15 : String := "SortedPost$Either"
def TX15 : u_T := fun k => match k with
  | 0 => ("SortedPost$Pair", "one", "LSortedPost$Test;", true)
  | _ => ("SortedPost$Pair", "other", "LSortedPost$Test;", true)
def tyX15 : Nat → FieldType := fun k => match k with
  | 0 => .object "SortedPost$Test"
  | _ => .object "SortedPost$Test"
abbrev wsX150 : List Cond := u_ws RX15 TX15 2
theorem nmX15 : ∀ a, a < 2 → ∀ b, b < 2 → a ≠ b → (TX15 a).2.1 ≠ (TX15 b).2.1 := by decide +kernel
theorem tyX15_ok : ∀ k, k < 2 → parseFieldDescriptor (TX15 k).2.2.1 = some (tyX15 k) := by decide +kernel
abbrev cX15_init : ByteArray := prog_9_method_1_code
def yX15_init : MethodName := ⟨RX15, "<init>", "(LSortedPost$Test;LSortedPost$Test;)V"⟩
def dkwX15_init_0 : List UInt8 := [42, 43, 44, 183, 0, 1, 177]
abbrev dktX15_init_0 : List UInt8 := dkwX15_init_0 ++ []
theorem dksX15_init_0 : cX15_init.data.toList.drop 0 = dktX15_init_0 := by decide +kernel
theorem dX15_init_0 : decode cX15_init 0 = .ok (.aload_n 0, 1) := dk_42 (dk_at dksX15_init_0 0 rfl rfl)
theorem dX15_init_1 : decode cX15_init 1 = .ok (.aload_n 1, 1) := dk_43 (dk_at dksX15_init_0 1 rfl rfl)
theorem dX15_init_2 : decode cX15_init 2 = .ok (.aload_n 2, 1) := dk_44 (dk_at dksX15_init_0 2 rfl rfl)
theorem dX15_init_3 : decode cX15_init 3 = .ok (.invokespecial 1, 3) := dk_183 0 1 (dk_at dksX15_init_0 3 rfl rfl)
theorem dX15_init_6 : decode cX15_init 6 = .ok (.return_, 1) := dk_177 (dk_at dksX15_init_0 6 rfl rfl)
abbrev cX15_holds : ByteArray := prog_9_method_2_code
def yX15_holds : MethodName := ⟨RX15, "holds", "(LSortedPost$Truths;)Z"⟩
def dkwX15_holds_1 : List UInt8 := [153, 0, 7, 4, 167, 0, 4, 3, 172]
abbrev dktX15_holds_1 : List UInt8 := dkwX15_holds_1 ++ []
def dkwX15_holds_0 : List UInt8 := [42, 180, 0, 7, 43, 185, 0, 13, 2, 0, 154, 0, 16, 42, 180, 0, 19, 43, 185, 0, 13, 2, 0]
abbrev dktX15_holds_0 : List UInt8 := dkwX15_holds_0 ++ dktX15_holds_1
theorem dksX15_holds_0 : cX15_holds.data.toList.drop 0 = dktX15_holds_0 := by decide +kernel
theorem dksX15_holds_1 : cX15_holds.data.toList.drop 23 = dktX15_holds_1 := dk_seg dksX15_holds_0 23 rfl rfl
theorem dX15_holds_0 : decode cX15_holds 0 = .ok (.aload_n 0, 1) := dk_42 (dk_at dksX15_holds_0 0 rfl rfl)
theorem dX15_holds_1 : decode cX15_holds 1 = .ok (.getfield 7, 3) := dk_180 0 7 (dk_at dksX15_holds_0 1 rfl rfl)
theorem dX15_holds_4 : decode cX15_holds 4 = .ok (.aload_n 1, 1) := dk_43 (dk_at dksX15_holds_0 4 rfl rfl)
theorem dX15_holds_5 : decode cX15_holds 5 = .ok (.invokeinterface 13 2, 5) := by decide +kernel
theorem dX15_holds_10 : decode cX15_holds 10 = .ok (.ifCond .ne 16, 3) := dk_154 0 16 (dk_at dksX15_holds_0 10 rfl rfl)
theorem dX15_holds_13 : decode cX15_holds 13 = .ok (.aload_n 0, 1) := dk_42 (dk_at dksX15_holds_0 13 rfl rfl)
theorem dX15_holds_14 : decode cX15_holds 14 = .ok (.getfield 19, 3) := dk_180 0 19 (dk_at dksX15_holds_0 14 rfl rfl)
theorem dX15_holds_17 : decode cX15_holds 17 = .ok (.aload_n 1, 1) := dk_43 (dk_at dksX15_holds_0 17 rfl rfl)
theorem dX15_holds_18 : decode cX15_holds 18 = .ok (.invokeinterface 13 2, 5) := by decide +kernel
theorem dX15_holds_23 : decode cX15_holds 23 = .ok (.ifCond .eq 7, 3) := dk_153 0 7 (dk_at dksX15_holds_1 0 rfl rfl)
theorem dX15_holds_26 : decode cX15_holds 26 = .ok (.iconst 1, 1) := dk_4 (dk_at dksX15_holds_1 3 rfl rfl)
theorem dX15_holds_27 : decode cX15_holds 27 = .ok (.goto 4, 3) := dk_167 0 4 (dk_at dksX15_holds_1 4 rfl rfl)
theorem dX15_holds_30 : decode cX15_holds 30 = .ok (.iconst 0, 1) := dk_3 (dk_at dksX15_holds_1 7 rfl rfl)
theorem dX15_holds_31 : decode cX15_holds 31 = .ok (.ireturn, 1) := dk_172 (dk_at dksX15_holds_1 8 rfl rfl)
theorem q95 : (Jvm.Cond.initialized "SortedPost$Either") ∈ lw_all := lw_g (lw_at lw_m1 27 rfl) rfl
theorem q351 : (Jvm.Cond.selects "SortedPost$Either" ({ cls := "java/lang/Object", name := "getClass", desc := "()Ljava/lang/Class;" } : Jvm.MethodName) ({ cls := "java/lang/Object", name := "getClass", desc := "()Ljava/lang/Class;" } : Jvm.MethodName)) ∈ lw_all := lw_g (lw_at lw_m2 43 rfl) rfl
theorem q392 : (Jvm.Cond.fieldLink "SortedPost$Either" (7 : Nat) "SortedPost$Either" "one" "LSortedPost$Test;") ∈ lw_all := lw_g (lw_at lw_m2 84 rfl) rfl
theorem q393 : (Jvm.Cond.sameField "SortedPost$Either" "SortedPost$Pair" "one" "LSortedPost$Test;") ∈ lw_all := lw_g (lw_at lw_m2 85 rfl) rfl
theorem q395 : (Jvm.Cond.fieldLink "SortedPost$Either" (19 : Nat) "SortedPost$Either" "other" "LSortedPost$Test;") ∈ lw_all := lw_g (lw_at lw_m2 87 rfl) rfl
theorem q396 : (Jvm.Cond.sameField "SortedPost$Either" "SortedPost$Pair" "other" "LSortedPost$Test;") ∈ lw_all := lw_g (lw_at lw_m2 88 rfl) rfl
theorem q405 : (Jvm.Cond.instantiable "SortedPost$Either" (2 : Nat)) ∈ lw_all := lw_g (lw_at lw_m2 97 rfl) rfl
theorem q407 : (Jvm.Cond.instanceMethod ({ cls := "SortedPost$Either", name := "<init>", desc := "(LSortedPost$Test;LSortedPost$Test;)V" } : Jvm.MethodName)) ∈ lw_all := lw_g (lw_at lw_m2 99 rfl) rfl
theorem q408 : (Jvm.Cond.code ({ cls := "SortedPost$Either", name := "<init>", desc := "(LSortedPost$Test;LSortedPost$Test;)V" } : Jvm.MethodName) prog_9_method_1_code (3 : Nat) (Option.none : Option Jvm.ClassFile.FieldType)) ∈ lw_all := lw_g (lw_at lw_m2 100 rfl) rfl
theorem q409 : (Jvm.Cond.methodLink "SortedPost$Either" (1 : Nat) ({ cls := "SortedPost$Pair", name := "<init>", desc := "(LSortedPost$Test;LSortedPost$Test;)V" } : Jvm.MethodName)) ∈ lw_all := lw_g (lw_at lw_m2 101 rfl) rfl
theorem q410 : (Jvm.Cond.laysFinal "SortedPost$Either" "SortedPost$Pair" "one" "LSortedPost$Test;") ∈ lw_all := lw_g (lw_at lw_m2 102 rfl) rfl
theorem q411 : (Jvm.Cond.laysFinal "SortedPost$Either" "SortedPost$Pair" "other" "LSortedPost$Test;") ∈ lw_all := lw_g (lw_at lw_m2 103 rfl) rfl
theorem q412 : (Jvm.Cond.superclass "SortedPost$Either" "SortedPost$Pair") ∈ lw_all := lw_g (lw_at lw_m2 104 rfl) rfl
theorem q858 : (Jvm.Cond.castable "SortedPost$Either" "SortedPost$Test") ∈ lw_tbl := lw_at lw_m4 70 rfl
theorem q859 : (Jvm.Cond.selects "SortedPost$Either" ({ cls := "SortedPost$Test", name := "holds", desc := "(LSortedPost$Truths;)Z" } : Jvm.MethodName) ({ cls := "SortedPost$Either", name := "holds", desc := "(LSortedPost$Truths;)Z" } : Jvm.MethodName)) ∈ lw_all := lw_g (lw_at lw_m4 71 rfl) rfl
theorem q860 : (Jvm.Cond.unhidden "SortedPost$Either" "holds" "(LSortedPost$Truths;)Z") ∈ lw_tbl := lw_at lw_m4 72 rfl
theorem q861 : (Jvm.Cond.instanceMethod ({ cls := "SortedPost$Either", name := "holds", desc := "(LSortedPost$Truths;)Z" } : Jvm.MethodName)) ∈ lw_all := lw_g (lw_at lw_m4 73 rfl) rfl
theorem q862 : (Jvm.Cond.publicMethod ({ cls := "SortedPost$Either", name := "holds", desc := "(LSortedPost$Truths;)Z" } : Jvm.MethodName)) ∈ lw_tbl := lw_at lw_m4 74 rfl
theorem q863 : (Jvm.Cond.code ({ cls := "SortedPost$Either", name := "holds", desc := "(LSortedPost$Truths;)Z" } : Jvm.MethodName) prog_9_method_2_code (2 : Nat) (Option.some Jvm.ClassFile.FieldType.boolean)) ∈ lw_all := lw_g (lw_at lw_m4 75 rfl) rfl
theorem q864 : (Jvm.Cond.interfaceEntry "SortedPost$Either" (13 : Nat)) ∈ lw_tbl := lw_at lw_m4 76 rfl
theorem q865 : (Jvm.Cond.methodLink "SortedPost$Either" (13 : Nat) ({ cls := "SortedPost$Test", name := "holds", desc := "(LSortedPost$Truths;)Z" } : Jvm.MethodName)) ∈ lw_all := lw_g (lw_at lw_m4 77 rfl) rfl
theorem q1628 : (Jvm.Cond.castable "SortedPost$Either" "java/lang/Object") ∈ lw_tbl := lw_at lw_m7 120 rfl
theorem in_X15 : ∀ w ∈ wsX150, w ∈ lw_all := lw_in wsX150 [410, 411] (by decide +kernel) (by decide +kernel)

/-! SortedPost$Letter -/
set_option maxRecDepth 100000
def RX16 : String := "SortedPost$Letter"
def TX16 : u_T := fun k => match k with
  | 0 => ("SortedPost$Letter", "number", "I", true)
  | 1 => ("SortedPost$Letter", "from", "I", true)
  | 2 => ("SortedPost$Letter", "to", "I", true)
  | 3 => ("SortedPost$Letter", "words", "I", true)
  | 4 => ("SortedPost$Letter", "size", "I", true)
  | 5 => ("SortedPost$Letter", "flags", "I", true)
  | 6 => ("SortedPost$Letter", "id", "I", true)
  | 7 => ("SortedPost$Letter", "ref", "I", true)
  | _ => ("SortedPost$Letter", "day", "I", true)
def tyX16 : Nat → FieldType := fun k => match k with
  | 0 => .int
  | 1 => .int
  | 2 => .int
  | 3 => .int
  | 4 => .int
  | 5 => .int
  | 6 => .int
  | 7 => .int
  | _ => .int
abbrev wsX160 : List Cond := u_ws RX16 TX16 9
theorem nmX16 : ∀ a, a < 9 → ∀ b, b < 9 → a ≠ b → (TX16 a).2.1 ≠ (TX16 b).2.1 := by decide +kernel
theorem tyX16_ok : ∀ k, k < 9 → parseFieldDescriptor (TX16 k).2.2.1 = some (tyX16 k) := by decide +kernel
abbrev cX16_init : ByteArray := prog_11_method_1_code
def yX16_init : MethodName := ⟨RX16, "<init>", "(IIIIIIIII)V"⟩
def dkwX16_init_2 : List UInt8 := [181, 0, 31, 42, 21, 9, 181, 0, 34, 177]
abbrev dktX16_init_2 : List UInt8 := dkwX16_init_2 ++ []
def dkwX16_init_1 : List UInt8 := [181, 0, 19, 42, 21, 5, 181, 0, 22, 42, 21, 6, 181, 0, 25, 42, 21, 7, 181, 0, 28, 42, 21, 8]
abbrev dktX16_init_1 : List UInt8 := dkwX16_init_1 ++ dktX16_init_2
def dkwX16_init_0 : List UInt8 := [42, 183, 0, 1, 42, 27, 181, 0, 7, 42, 28, 181, 0, 13, 42, 29, 181, 0, 16, 42, 21, 4]
abbrev dktX16_init_0 : List UInt8 := dkwX16_init_0 ++ dktX16_init_1
theorem dksX16_init_0 : cX16_init.data.toList.drop 0 = dktX16_init_0 := by decide +kernel
theorem dksX16_init_1 : cX16_init.data.toList.drop 22 = dktX16_init_1 := dk_seg dksX16_init_0 22 rfl rfl
theorem dksX16_init_2 : cX16_init.data.toList.drop 46 = dktX16_init_2 := dk_seg dksX16_init_1 24 rfl rfl
theorem dX16_init_0 : decode cX16_init 0 = .ok (.aload_n 0, 1) := dk_42 (dk_at dksX16_init_0 0 rfl rfl)
theorem dX16_init_1 : decode cX16_init 1 = .ok (.invokespecial 1, 3) := dk_183 0 1 (dk_at dksX16_init_0 1 rfl rfl)
theorem dX16_init_4 : decode cX16_init 4 = .ok (.aload_n 0, 1) := dk_42 (dk_at dksX16_init_0 4 rfl rfl)
theorem dX16_init_5 : decode cX16_init 5 = .ok (.iload_n 1, 1) := dk_27 (dk_at dksX16_init_0 5 rfl rfl)
theorem dX16_init_6 : decode cX16_init 6 = .ok (.putfield 7, 3) := dk_181 0 7 (dk_at dksX16_init_0 6 rfl rfl)
theorem dX16_init_9 : decode cX16_init 9 = .ok (.aload_n 0, 1) := dk_42 (dk_at dksX16_init_0 9 rfl rfl)
theorem dX16_init_10 : decode cX16_init 10 = .ok (.iload_n 2, 1) := dk_28 (dk_at dksX16_init_0 10 rfl rfl)
theorem dX16_init_11 : decode cX16_init 11 = .ok (.putfield 13, 3) := dk_181 0 13 (dk_at dksX16_init_0 11 rfl rfl)
theorem dX16_init_14 : decode cX16_init 14 = .ok (.aload_n 0, 1) := dk_42 (dk_at dksX16_init_0 14 rfl rfl)
theorem dX16_init_15 : decode cX16_init 15 = .ok (.iload_n 3, 1) := dk_29 (dk_at dksX16_init_0 15 rfl rfl)
theorem dX16_init_16 : decode cX16_init 16 = .ok (.putfield 16, 3) := dk_181 0 16 (dk_at dksX16_init_0 16 rfl rfl)
theorem dX16_init_19 : decode cX16_init 19 = .ok (.aload_n 0, 1) := dk_42 (dk_at dksX16_init_0 19 rfl rfl)
theorem dX16_init_20 : decode cX16_init 20 = .ok (.iload 4, 2) := dk_21 4 (dk_at dksX16_init_0 20 rfl rfl)
theorem dX16_init_22 : decode cX16_init 22 = .ok (.putfield 19, 3) := dk_181 0 19 (dk_at dksX16_init_1 0 rfl rfl)
theorem dX16_init_25 : decode cX16_init 25 = .ok (.aload_n 0, 1) := dk_42 (dk_at dksX16_init_1 3 rfl rfl)
theorem dX16_init_26 : decode cX16_init 26 = .ok (.iload 5, 2) := dk_21 5 (dk_at dksX16_init_1 4 rfl rfl)
theorem dX16_init_28 : decode cX16_init 28 = .ok (.putfield 22, 3) := dk_181 0 22 (dk_at dksX16_init_1 6 rfl rfl)
theorem dX16_init_31 : decode cX16_init 31 = .ok (.aload_n 0, 1) := dk_42 (dk_at dksX16_init_1 9 rfl rfl)
theorem dX16_init_32 : decode cX16_init 32 = .ok (.iload 6, 2) := dk_21 6 (dk_at dksX16_init_1 10 rfl rfl)
theorem dX16_init_34 : decode cX16_init 34 = .ok (.putfield 25, 3) := dk_181 0 25 (dk_at dksX16_init_1 12 rfl rfl)
theorem dX16_init_37 : decode cX16_init 37 = .ok (.aload_n 0, 1) := dk_42 (dk_at dksX16_init_1 15 rfl rfl)
theorem dX16_init_38 : decode cX16_init 38 = .ok (.iload 7, 2) := dk_21 7 (dk_at dksX16_init_1 16 rfl rfl)
theorem dX16_init_40 : decode cX16_init 40 = .ok (.putfield 28, 3) := dk_181 0 28 (dk_at dksX16_init_1 18 rfl rfl)
theorem dX16_init_43 : decode cX16_init 43 = .ok (.aload_n 0, 1) := dk_42 (dk_at dksX16_init_1 21 rfl rfl)
theorem dX16_init_44 : decode cX16_init 44 = .ok (.iload 8, 2) := dk_21 8 (dk_at dksX16_init_1 22 rfl rfl)
theorem dX16_init_46 : decode cX16_init 46 = .ok (.putfield 31, 3) := dk_181 0 31 (dk_at dksX16_init_2 0 rfl rfl)
theorem dX16_init_49 : decode cX16_init 49 = .ok (.aload_n 0, 1) := dk_42 (dk_at dksX16_init_2 3 rfl rfl)
theorem dX16_init_50 : decode cX16_init 50 = .ok (.iload 9, 2) := dk_21 9 (dk_at dksX16_init_2 4 rfl rfl)
theorem dX16_init_52 : decode cX16_init 52 = .ok (.putfield 34, 3) := dk_181 0 34 (dk_at dksX16_init_2 6 rfl rfl)
theorem dX16_init_55 : decode cX16_init 55 = .ok (.return_, 1) := dk_177 (dk_at dksX16_init_2 9 rfl rfl)
abbrev cX16_isFor : ByteArray := prog_11_method_3_code
def yX16_isFor : MethodName := ⟨RX16, "isFor", "(I)Z"⟩
def dkwX16_isFor_0 : List UInt8 := [42, 180, 0, 16, 27, 122, 4, 126, 4, 160, 0, 7, 4, 167, 0, 4, 3, 172]
abbrev dktX16_isFor_0 : List UInt8 := dkwX16_isFor_0 ++ []
theorem dksX16_isFor_0 : cX16_isFor.data.toList.drop 0 = dktX16_isFor_0 := by decide +kernel
theorem dX16_isFor_0 : decode cX16_isFor 0 = .ok (.aload_n 0, 1) := dk_42 (dk_at dksX16_isFor_0 0 rfl rfl)
theorem dX16_isFor_1 : decode cX16_isFor 1 = .ok (.getfield 16, 3) := dk_180 0 16 (dk_at dksX16_isFor_0 1 rfl rfl)
theorem dX16_isFor_4 : decode cX16_isFor 4 = .ok (.iload_n 1, 1) := dk_27 (dk_at dksX16_isFor_0 4 rfl rfl)
theorem dX16_isFor_5 : decode cX16_isFor 5 = .ok (.ishr, 1) := dk_122 (dk_at dksX16_isFor_0 5 rfl rfl)
theorem dX16_isFor_6 : decode cX16_isFor 6 = .ok (.iconst 1, 1) := dk_4 (dk_at dksX16_isFor_0 6 rfl rfl)
theorem dX16_isFor_7 : decode cX16_isFor 7 = .ok (.iand, 1) := dk_126 (dk_at dksX16_isFor_0 7 rfl rfl)
theorem dX16_isFor_8 : decode cX16_isFor 8 = .ok (.iconst 1, 1) := dk_4 (dk_at dksX16_isFor_0 8 rfl rfl)
theorem dX16_isFor_9 : decode cX16_isFor 9 = .ok (.if_icmp .ne 7, 3) := dk_160 0 7 (dk_at dksX16_isFor_0 9 rfl rfl)
theorem dX16_isFor_12 : decode cX16_isFor 12 = .ok (.iconst 1, 1) := dk_4 (dk_at dksX16_isFor_0 12 rfl rfl)
theorem dX16_isFor_13 : decode cX16_isFor 13 = .ok (.goto 4, 3) := dk_167 0 4 (dk_at dksX16_isFor_0 13 rfl rfl)
theorem dX16_isFor_16 : decode cX16_isFor 16 = .ok (.iconst 0, 1) := dk_3 (dk_at dksX16_isFor_0 16 rfl rfl)
theorem dX16_isFor_17 : decode cX16_isFor 17 = .ok (.ireturn, 1) := dk_172 (dk_at dksX16_isFor_0 17 rfl rfl)
abbrev cX16_hasWord : ByteArray := prog_11_method_2_code
def yX16_hasWord : MethodName := ⟨RX16, "hasWord", "(I)Z"⟩
def dkwX16_hasWord_0 : List UInt8 := [42, 180, 0, 19, 27, 122, 4, 126, 4, 160, 0, 7, 4, 167, 0, 4, 3, 172]
abbrev dktX16_hasWord_0 : List UInt8 := dkwX16_hasWord_0 ++ []
theorem dksX16_hasWord_0 : cX16_hasWord.data.toList.drop 0 = dktX16_hasWord_0 := by decide +kernel
theorem dX16_hasWord_0 : decode cX16_hasWord 0 = .ok (.aload_n 0, 1) := dk_42 (dk_at dksX16_hasWord_0 0 rfl rfl)
theorem dX16_hasWord_1 : decode cX16_hasWord 1 = .ok (.getfield 19, 3) := dk_180 0 19 (dk_at dksX16_hasWord_0 1 rfl rfl)
theorem dX16_hasWord_4 : decode cX16_hasWord 4 = .ok (.iload_n 1, 1) := dk_27 (dk_at dksX16_hasWord_0 4 rfl rfl)
theorem dX16_hasWord_5 : decode cX16_hasWord 5 = .ok (.ishr, 1) := dk_122 (dk_at dksX16_hasWord_0 5 rfl rfl)
theorem dX16_hasWord_6 : decode cX16_hasWord 6 = .ok (.iconst 1, 1) := dk_4 (dk_at dksX16_hasWord_0 6 rfl rfl)
theorem dX16_hasWord_7 : decode cX16_hasWord 7 = .ok (.iand, 1) := dk_126 (dk_at dksX16_hasWord_0 7 rfl rfl)
theorem dX16_hasWord_8 : decode cX16_hasWord 8 = .ok (.iconst 1, 1) := dk_4 (dk_at dksX16_hasWord_0 8 rfl rfl)
theorem dX16_hasWord_9 : decode cX16_hasWord 9 = .ok (.if_icmp .ne 7, 3) := dk_160 0 7 (dk_at dksX16_hasWord_0 9 rfl rfl)
theorem dX16_hasWord_12 : decode cX16_hasWord 12 = .ok (.iconst 1, 1) := dk_4 (dk_at dksX16_hasWord_0 12 rfl rfl)
theorem dX16_hasWord_13 : decode cX16_hasWord 13 = .ok (.goto 4, 3) := dk_167 0 4 (dk_at dksX16_hasWord_0 13 rfl rfl)
theorem dX16_hasWord_16 : decode cX16_hasWord 16 = .ok (.iconst 0, 1) := dk_3 (dk_at dksX16_hasWord_0 16 rfl rfl)
theorem dX16_hasWord_17 : decode cX16_hasWord 17 = .ok (.ireturn, 1) := dk_172 (dk_at dksX16_hasWord_0 17 rfl rfl)
theorem q97 : (Jvm.Cond.initialized "SortedPost$Letter") ∈ lw_all := lw_g (lw_at lw_m1 29 rfl) rfl
theorem q353 : (Jvm.Cond.selects "SortedPost$Letter" ({ cls := "java/lang/Object", name := "getClass", desc := "()Ljava/lang/Class;" } : Jvm.MethodName) ({ cls := "java/lang/Object", name := "getClass", desc := "()Ljava/lang/Class;" } : Jvm.MethodName)) ∈ lw_all := lw_g (lw_at lw_m2 45 rfl) rfl
theorem q739 : (Jvm.Cond.instantiable "SortedPost$Letter" (9 : Nat)) ∈ lw_all := lw_g (lw_at lw_m3 191 rfl) rfl
theorem q741 : (Jvm.Cond.instanceMethod ({ cls := "SortedPost$Letter", name := "<init>", desc := "(IIIIIIIII)V" } : Jvm.MethodName)) ∈ lw_all := lw_g (lw_at lw_m3 193 rfl) rfl
theorem q742 : (Jvm.Cond.code ({ cls := "SortedPost$Letter", name := "<init>", desc := "(IIIIIIIII)V" } : Jvm.MethodName) prog_11_method_1_code (10 : Nat) (Option.none : Option Jvm.ClassFile.FieldType)) ∈ lw_all := lw_g (lw_at lw_m3 194 rfl) rfl
theorem q743 : (Jvm.Cond.methodLink "SortedPost$Letter" (1 : Nat) ({ cls := "java/lang/Object", name := "<init>", desc := "()V" } : Jvm.MethodName)) ∈ lw_all := lw_g (lw_at lw_m3 195 rfl) rfl
theorem q744 : (Jvm.Cond.fieldLink "SortedPost$Letter" (7 : Nat) "SortedPost$Letter" "number" "I") ∈ lw_all := lw_g (lw_at lw_m3 196 rfl) rfl
theorem q746 : (Jvm.Cond.fieldLink "SortedPost$Letter" (13 : Nat) "SortedPost$Letter" "from" "I") ∈ lw_all := lw_g (lw_at lw_m3 198 rfl) rfl
theorem q749 : (Jvm.Cond.fieldLink "SortedPost$Letter" (16 : Nat) "SortedPost$Letter" "to" "I") ∈ lw_all := lw_g (lw_at lw_m3 201 rfl) rfl
theorem q751 : (Jvm.Cond.fieldLink "SortedPost$Letter" (19 : Nat) "SortedPost$Letter" "words" "I") ∈ lw_all := lw_g (lw_at lw_m3 203 rfl) rfl
theorem q753 : (Jvm.Cond.fieldLink "SortedPost$Letter" (22 : Nat) "SortedPost$Letter" "size" "I") ∈ lw_all := lw_g (lw_at lw_m3 205 rfl) rfl
theorem q756 : (Jvm.Cond.fieldLink "SortedPost$Letter" (25 : Nat) "SortedPost$Letter" "flags" "I") ∈ lw_all := lw_g (lw_at lw_m3 208 rfl) rfl
theorem q759 : (Jvm.Cond.fieldLink "SortedPost$Letter" (28 : Nat) "SortedPost$Letter" "id" "I") ∈ lw_all := lw_g (lw_at lw_m3 211 rfl) rfl
theorem q762 : (Jvm.Cond.fieldLink "SortedPost$Letter" (31 : Nat) "SortedPost$Letter" "ref" "I") ∈ lw_all := lw_g (lw_at lw_m3 214 rfl) rfl
theorem q765 : (Jvm.Cond.fieldLink "SortedPost$Letter" (34 : Nat) "SortedPost$Letter" "day" "I") ∈ lw_all := lw_g (lw_at lw_m3 217 rfl) rfl
theorem q768 : (Jvm.Cond.laysFinal "SortedPost$Letter" "SortedPost$Letter" "number" "I") ∈ lw_all := lw_g (lw_at lw_m3 220 rfl) rfl
theorem q769 : (Jvm.Cond.soleField "SortedPost$Letter" "number") ∈ lw_all := lw_g (lw_at lw_m3 221 rfl) rfl
theorem q770 : (Jvm.Cond.laysFinal "SortedPost$Letter" "SortedPost$Letter" "from" "I") ∈ lw_all := lw_g (lw_at lw_m3 222 rfl) rfl
theorem q771 : (Jvm.Cond.soleField "SortedPost$Letter" "from") ∈ lw_all := lw_g (lw_at lw_m3 223 rfl) rfl
theorem q772 : (Jvm.Cond.laysFinal "SortedPost$Letter" "SortedPost$Letter" "to" "I") ∈ lw_all := lw_g (lw_at lw_m3 224 rfl) rfl
theorem q773 : (Jvm.Cond.soleField "SortedPost$Letter" "to") ∈ lw_all := lw_g (lw_at lw_m3 225 rfl) rfl
theorem q774 : (Jvm.Cond.laysFinal "SortedPost$Letter" "SortedPost$Letter" "words" "I") ∈ lw_all := lw_g (lw_at lw_m3 226 rfl) rfl
theorem q775 : (Jvm.Cond.soleField "SortedPost$Letter" "words") ∈ lw_all := lw_g (lw_at lw_m3 227 rfl) rfl
theorem q776 : (Jvm.Cond.laysFinal "SortedPost$Letter" "SortedPost$Letter" "size" "I") ∈ lw_all := lw_g (lw_at lw_m3 228 rfl) rfl
theorem q777 : (Jvm.Cond.soleField "SortedPost$Letter" "size") ∈ lw_all := lw_g (lw_at lw_m3 229 rfl) rfl
theorem q778 : (Jvm.Cond.laysFinal "SortedPost$Letter" "SortedPost$Letter" "flags" "I") ∈ lw_all := lw_g (lw_at lw_m3 230 rfl) rfl
theorem q779 : (Jvm.Cond.soleField "SortedPost$Letter" "flags") ∈ lw_all := lw_g (lw_at lw_m3 231 rfl) rfl
theorem q780 : (Jvm.Cond.laysFinal "SortedPost$Letter" "SortedPost$Letter" "id" "I") ∈ lw_all := lw_g (lw_at lw_m3 232 rfl) rfl
theorem q781 : (Jvm.Cond.soleField "SortedPost$Letter" "id") ∈ lw_all := lw_g (lw_at lw_m3 233 rfl) rfl
theorem q782 : (Jvm.Cond.laysFinal "SortedPost$Letter" "SortedPost$Letter" "ref" "I") ∈ lw_all := lw_g (lw_at lw_m3 234 rfl) rfl
theorem q783 : (Jvm.Cond.soleField "SortedPost$Letter" "ref") ∈ lw_all := lw_g (lw_at lw_m3 235 rfl) rfl
theorem q784 : (Jvm.Cond.laysFinal "SortedPost$Letter" "SortedPost$Letter" "day" "I") ∈ lw_all := lw_g (lw_at lw_m3 236 rfl) rfl
theorem q785 : (Jvm.Cond.soleField "SortedPost$Letter" "day") ∈ lw_all := lw_g (lw_at lw_m3 237 rfl) rfl
theorem q786 : (Jvm.Cond.superclass "SortedPost$Letter" "java/lang/Object") ∈ lw_all := lw_g (lw_at lw_m3 238 rfl) rfl
theorem q792 : (Jvm.Cond.instanceMethod ({ cls := "SortedPost$Letter", name := "isFor", desc := "(I)Z" } : Jvm.MethodName)) ∈ lw_all := lw_g (lw_at lw_m4 4 rfl) rfl
theorem q793 : (Jvm.Cond.selects "SortedPost$Letter" ({ cls := "SortedPost$Letter", name := "isFor", desc := "(I)Z" } : Jvm.MethodName) ({ cls := "SortedPost$Letter", name := "isFor", desc := "(I)Z" } : Jvm.MethodName)) ∈ lw_all := lw_g (lw_at lw_m4 5 rfl) rfl
theorem q794 : (Jvm.Cond.code ({ cls := "SortedPost$Letter", name := "isFor", desc := "(I)Z" } : Jvm.MethodName) prog_11_method_3_code (2 : Nat) (Option.some Jvm.ClassFile.FieldType.boolean)) ∈ lw_all := lw_g (lw_at lw_m4 6 rfl) rfl
theorem q835 : (Jvm.Cond.instanceMethod ({ cls := "SortedPost$Letter", name := "hasWord", desc := "(I)Z" } : Jvm.MethodName)) ∈ lw_all := lw_g (lw_at lw_m4 47 rfl) rfl
theorem q836 : (Jvm.Cond.selects "SortedPost$Letter" ({ cls := "SortedPost$Letter", name := "hasWord", desc := "(I)Z" } : Jvm.MethodName) ({ cls := "SortedPost$Letter", name := "hasWord", desc := "(I)Z" } : Jvm.MethodName)) ∈ lw_all := lw_g (lw_at lw_m4 48 rfl) rfl
theorem q837 : (Jvm.Cond.code ({ cls := "SortedPost$Letter", name := "hasWord", desc := "(I)Z" } : Jvm.MethodName) prog_11_method_2_code (2 : Nat) (Option.some Jvm.ClassFile.FieldType.boolean)) ∈ lw_all := lw_g (lw_at lw_m4 49 rfl) rfl
theorem q1614 : (Jvm.Cond.castable "SortedPost$Letter" "java/lang/Object") ∈ lw_tbl := lw_at lw_m7 106 rfl
theorem in_X16 : ∀ w ∈ wsX160, w ∈ lw_all := lw_in wsX160 [768, 770, 772, 774, 776, 778, 780, 782, 784] (by decide +kernel) (by decide +kernel)

/-! SortedPost$Copy -/
set_option maxRecDepth 100000
def RX17 : String := "SortedPost$Copy"
def TX17 : u_T := fun k => match k with
  | 0 => ("SortedPost$Copy", "letter", "LSortedPost$Letter;", true)
  | 1 => ("SortedPost$Copy", "marked", "Z", true)
  | _ => ("SortedPost$Copy", "learnt", "I", false)
def tyX17 : Nat → FieldType := fun k => match k with
  | 0 => .object "SortedPost$Letter"
  | 1 => .boolean
  | _ => .int
abbrev wsX170 : List Cond := u_ws RX17 TX17 3
theorem nmX17 : ∀ a, a < 3 → ∀ b, b < 3 → a ≠ b → (TX17 a).2.1 ≠ (TX17 b).2.1 := by decide +kernel
theorem tyX17_ok : ∀ k, k < 3 → parseFieldDescriptor (TX17 k).2.2.1 = some (tyX17 k) := by decide +kernel
abbrev cX17_init : ByteArray := prog_8_method_1_code
def yX17_init : MethodName := ⟨RX17, "<init>", "(LSortedPost$Letter;Z)V"⟩
def dkwX17_init_0 : List UInt8 := [42, 183, 0, 1, 42, 43, 181, 0, 7, 42, 28, 181, 0, 13, 177]
abbrev dktX17_init_0 : List UInt8 := dkwX17_init_0 ++ []
theorem dksX17_init_0 : cX17_init.data.toList.drop 0 = dktX17_init_0 := by decide +kernel
theorem dX17_init_0 : decode cX17_init 0 = .ok (.aload_n 0, 1) := dk_42 (dk_at dksX17_init_0 0 rfl rfl)
theorem dX17_init_1 : decode cX17_init 1 = .ok (.invokespecial 1, 3) := dk_183 0 1 (dk_at dksX17_init_0 1 rfl rfl)
theorem dX17_init_4 : decode cX17_init 4 = .ok (.aload_n 0, 1) := dk_42 (dk_at dksX17_init_0 4 rfl rfl)
theorem dX17_init_5 : decode cX17_init 5 = .ok (.aload_n 1, 1) := dk_43 (dk_at dksX17_init_0 5 rfl rfl)
theorem dX17_init_6 : decode cX17_init 6 = .ok (.putfield 7, 3) := dk_181 0 7 (dk_at dksX17_init_0 6 rfl rfl)
theorem dX17_init_9 : decode cX17_init 9 = .ok (.aload_n 0, 1) := dk_42 (dk_at dksX17_init_0 9 rfl rfl)
theorem dX17_init_10 : decode cX17_init 10 = .ok (.iload_n 2, 1) := dk_28 (dk_at dksX17_init_0 10 rfl rfl)
theorem dX17_init_11 : decode cX17_init 11 = .ok (.putfield 13, 3) := dk_181 0 13 (dk_at dksX17_init_0 11 rfl rfl)
theorem dX17_init_14 : decode cX17_init 14 = .ok (.return_, 1) := dk_177 (dk_at dksX17_init_0 14 rfl rfl)
theorem q98 : (Jvm.Cond.initialized "SortedPost$Copy") ∈ lw_all := lw_g (lw_at lw_m1 30 rfl) rfl
theorem q350 : (Jvm.Cond.selects "SortedPost$Copy" ({ cls := "java/lang/Object", name := "getClass", desc := "()Ljava/lang/Class;" } : Jvm.MethodName) ({ cls := "java/lang/Object", name := "getClass", desc := "()Ljava/lang/Class;" } : Jvm.MethodName)) ∈ lw_all := lw_g (lw_at lw_m2 42 rfl) rfl
theorem q888 : (Jvm.Cond.instantiable "SortedPost$Copy" (3 : Nat)) ∈ lw_all := lw_g (lw_at lw_m4 100 rfl) rfl
theorem q890 : (Jvm.Cond.instanceMethod ({ cls := "SortedPost$Copy", name := "<init>", desc := "(LSortedPost$Letter;Z)V" } : Jvm.MethodName)) ∈ lw_all := lw_g (lw_at lw_m4 102 rfl) rfl
theorem q891 : (Jvm.Cond.code ({ cls := "SortedPost$Copy", name := "<init>", desc := "(LSortedPost$Letter;Z)V" } : Jvm.MethodName) prog_8_method_1_code (3 : Nat) (Option.none : Option Jvm.ClassFile.FieldType)) ∈ lw_all := lw_g (lw_at lw_m4 103 rfl) rfl
theorem q892 : (Jvm.Cond.methodLink "SortedPost$Copy" (1 : Nat) ({ cls := "java/lang/Object", name := "<init>", desc := "()V" } : Jvm.MethodName)) ∈ lw_all := lw_g (lw_at lw_m4 104 rfl) rfl
theorem q893 : (Jvm.Cond.fieldLink "SortedPost$Copy" (7 : Nat) "SortedPost$Copy" "letter" "LSortedPost$Letter;") ∈ lw_all := lw_g (lw_at lw_m4 105 rfl) rfl
theorem q895 : (Jvm.Cond.fieldLink "SortedPost$Copy" (13 : Nat) "SortedPost$Copy" "marked" "Z") ∈ lw_all := lw_g (lw_at lw_m4 107 rfl) rfl
theorem q898 : (Jvm.Cond.laysFinal "SortedPost$Copy" "SortedPost$Copy" "letter" "LSortedPost$Letter;") ∈ lw_all := lw_g (lw_at lw_m4 110 rfl) rfl
theorem q899 : (Jvm.Cond.soleField "SortedPost$Copy" "letter") ∈ lw_all := lw_g (lw_at lw_m4 111 rfl) rfl
theorem q900 : (Jvm.Cond.laysFinal "SortedPost$Copy" "SortedPost$Copy" "marked" "Z") ∈ lw_all := lw_g (lw_at lw_m4 112 rfl) rfl
theorem q901 : (Jvm.Cond.soleField "SortedPost$Copy" "marked") ∈ lw_all := lw_g (lw_at lw_m4 113 rfl) rfl
theorem q902 : (Jvm.Cond.lays "SortedPost$Copy" "SortedPost$Copy" "learnt" "I") ∈ lw_all := lw_g (lw_at lw_m4 114 rfl) rfl
theorem q903 : (Jvm.Cond.soleField "SortedPost$Copy" "learnt") ∈ lw_all := lw_g (lw_at lw_m4 115 rfl) rfl
theorem q904 : (Jvm.Cond.superclass "SortedPost$Copy" "java/lang/Object") ∈ lw_all := lw_g (lw_at lw_m4 116 rfl) rfl
theorem q1629 : (Jvm.Cond.castable "SortedPost$Copy" "java/lang/Object") ∈ lw_tbl := lw_at lw_m7 121 rfl
theorem in_X17 : ∀ w ∈ wsX170, w ∈ lw_all := lw_in wsX170 [898, 900, 902] (by decide +kernel) (by decide +kernel)

/-! SortedPost$Box -/
set_option maxRecDepth 100000
def RX2 : String := "SortedPost$Box"
def TX2 : u_T := fun k => match k with
  | 0 => ("SortedPost$Box", "number", "I", true)
  | 1 => ("SortedPost$Box", "trays", "[LSortedPost$Tray;", true)
  | 2 => ("SortedPost$Box", "had", "[Z", true)
  | 3 => ("SortedPost$Box", "answered", "[I", true)
  | 4 => ("SortedPost$Box", "days", "I", false)
  | _ => ("SortedPost$Box", "rules", "LSortedPost$Rules;", false)
def tyX2 : Nat → FieldType := fun k => match k with
  | 0 => .int
  | 1 => .array (.object "SortedPost$Tray")
  | 2 => .array .boolean
  | 3 => .array .int
  | 4 => .int
  | _ => .object "SortedPost$Rules"
abbrev wsX20 : List Cond := u_ws RX2 TX2 6
theorem nmX2 : ∀ a, a < 6 → ∀ b, b < 6 → a ≠ b → (TX2 a).2.1 ≠ (TX2 b).2.1 := by decide +kernel
theorem tyX2_ok : ∀ k, k < 6 → parseFieldDescriptor (TX2 k).2.2.1 = some (tyX2 k) := by decide +kernel
abbrev cX2_init : ByteArray := prog_6_method_1_code
def yX2_init : MethodName := ⟨RX2, "<init>", "(I)V"⟩
def dkwX2_init_4 : List UInt8 := [162, 0, 16, 42, 180, 0, 22, 28, 2, 79, 132, 2, 1, 167, 255, 240, 177]
abbrev dktX2_init_4 : List UInt8 := dkwX2_init_4 ++ []
def dkwX2_init_3 : List UInt8 := [181, 0, 26, 42, 187, 0, 30, 89, 183, 0, 32, 181, 0, 33, 42, 27, 181, 0, 37, 3, 61, 28, 16, 16]
abbrev dktX2_init_3 : List UInt8 := dkwX2_init_3 ++ dktX2_init_4
def dkwX2_init_2 : List UInt8 := [83, 181, 0, 12, 42, 17, 40, 60, 188, 4, 181, 0, 18, 42, 16, 16, 188, 10, 181, 0, 22, 42, 16, 7]
abbrev dktX2_init_2 : List UInt8 := dkwX2_init_2 ++ dktX2_init_3
def dkwX2_init_1 : List UInt8 := [89, 183, 0, 11, 83, 89, 5, 187, 0, 9, 89, 183, 0, 11, 83, 89, 6, 187, 0, 9, 89, 183, 0, 11]
abbrev dktX2_init_1 : List UInt8 := dkwX2_init_1 ++ dktX2_init_2
def dkwX2_init_0 : List UInt8 := [42, 183, 0, 3, 42, 7, 189, 0, 9, 89, 3, 187, 0, 9, 89, 183, 0, 11, 83, 89, 4, 187, 0, 9]
abbrev dktX2_init_0 : List UInt8 := dkwX2_init_0 ++ dktX2_init_1
theorem dksX2_init_0 : cX2_init.data.toList.drop 0 = dktX2_init_0 := by decide +kernel
theorem dksX2_init_1 : cX2_init.data.toList.drop 24 = dktX2_init_1 := dk_seg dksX2_init_0 24 rfl rfl
theorem dksX2_init_2 : cX2_init.data.toList.drop 48 = dktX2_init_2 := dk_seg dksX2_init_1 24 rfl rfl
theorem dksX2_init_3 : cX2_init.data.toList.drop 72 = dktX2_init_3 := dk_seg dksX2_init_2 24 rfl rfl
theorem dksX2_init_4 : cX2_init.data.toList.drop 96 = dktX2_init_4 := dk_seg dksX2_init_3 24 rfl rfl
theorem dX2_init_0 : decode cX2_init 0 = .ok (.aload_n 0, 1) := dk_42 (dk_at dksX2_init_0 0 rfl rfl)
theorem dX2_init_1 : decode cX2_init 1 = .ok (.invokespecial 3, 3) := dk_183 0 3 (dk_at dksX2_init_0 1 rfl rfl)
theorem dX2_init_4 : decode cX2_init 4 = .ok (.aload_n 0, 1) := dk_42 (dk_at dksX2_init_0 4 rfl rfl)
theorem dX2_init_5 : decode cX2_init 5 = .ok (.iconst 4, 1) := dk_7 (dk_at dksX2_init_0 5 rfl rfl)
theorem dX2_init_6 : decode cX2_init 6 = .ok (.anewarray 9, 3) := dk_189 0 9 (dk_at dksX2_init_0 6 rfl rfl)
theorem dX2_init_9 : decode cX2_init 9 = .ok (.dup, 1) := dk_89 (dk_at dksX2_init_0 9 rfl rfl)
theorem dX2_init_10 : decode cX2_init 10 = .ok (.iconst 0, 1) := dk_3 (dk_at dksX2_init_0 10 rfl rfl)
theorem dX2_init_11 : decode cX2_init 11 = .ok (.new 9, 3) := dk_187 0 9 (dk_at dksX2_init_0 11 rfl rfl)
theorem dX2_init_14 : decode cX2_init 14 = .ok (.dup, 1) := dk_89 (dk_at dksX2_init_0 14 rfl rfl)
theorem dX2_init_15 : decode cX2_init 15 = .ok (.invokespecial 11, 3) := dk_183 0 11 (dk_at dksX2_init_0 15 rfl rfl)
theorem dX2_init_18 : decode cX2_init 18 = .ok (.aastore, 1) := dk_83 (dk_at dksX2_init_0 18 rfl rfl)
theorem dX2_init_19 : decode cX2_init 19 = .ok (.dup, 1) := dk_89 (dk_at dksX2_init_0 19 rfl rfl)
theorem dX2_init_20 : decode cX2_init 20 = .ok (.iconst 1, 1) := dk_4 (dk_at dksX2_init_0 20 rfl rfl)
theorem dX2_init_21 : decode cX2_init 21 = .ok (.new 9, 3) := dk_187 0 9 (dk_at dksX2_init_0 21 rfl rfl)
theorem dX2_init_24 : decode cX2_init 24 = .ok (.dup, 1) := dk_89 (dk_at dksX2_init_1 0 rfl rfl)
theorem dX2_init_25 : decode cX2_init 25 = .ok (.invokespecial 11, 3) := dk_183 0 11 (dk_at dksX2_init_1 1 rfl rfl)
theorem dX2_init_28 : decode cX2_init 28 = .ok (.aastore, 1) := dk_83 (dk_at dksX2_init_1 4 rfl rfl)
theorem dX2_init_29 : decode cX2_init 29 = .ok (.dup, 1) := dk_89 (dk_at dksX2_init_1 5 rfl rfl)
theorem dX2_init_30 : decode cX2_init 30 = .ok (.iconst 2, 1) := dk_5 (dk_at dksX2_init_1 6 rfl rfl)
theorem dX2_init_31 : decode cX2_init 31 = .ok (.new 9, 3) := dk_187 0 9 (dk_at dksX2_init_1 7 rfl rfl)
theorem dX2_init_34 : decode cX2_init 34 = .ok (.dup, 1) := dk_89 (dk_at dksX2_init_1 10 rfl rfl)
theorem dX2_init_35 : decode cX2_init 35 = .ok (.invokespecial 11, 3) := dk_183 0 11 (dk_at dksX2_init_1 11 rfl rfl)
theorem dX2_init_38 : decode cX2_init 38 = .ok (.aastore, 1) := dk_83 (dk_at dksX2_init_1 14 rfl rfl)
theorem dX2_init_39 : decode cX2_init 39 = .ok (.dup, 1) := dk_89 (dk_at dksX2_init_1 15 rfl rfl)
theorem dX2_init_40 : decode cX2_init 40 = .ok (.iconst 3, 1) := dk_6 (dk_at dksX2_init_1 16 rfl rfl)
theorem dX2_init_41 : decode cX2_init 41 = .ok (.new 9, 3) := dk_187 0 9 (dk_at dksX2_init_1 17 rfl rfl)
theorem dX2_init_44 : decode cX2_init 44 = .ok (.dup, 1) := dk_89 (dk_at dksX2_init_1 20 rfl rfl)
theorem dX2_init_45 : decode cX2_init 45 = .ok (.invokespecial 11, 3) := dk_183 0 11 (dk_at dksX2_init_1 21 rfl rfl)
theorem dX2_init_48 : decode cX2_init 48 = .ok (.aastore, 1) := dk_83 (dk_at dksX2_init_2 0 rfl rfl)
theorem dX2_init_49 : decode cX2_init 49 = .ok (.putfield 12, 3) := dk_181 0 12 (dk_at dksX2_init_2 1 rfl rfl)
theorem dX2_init_52 : decode cX2_init 52 = .ok (.aload_n 0, 1) := dk_42 (dk_at dksX2_init_2 4 rfl rfl)
theorem dX2_init_53 : decode cX2_init 53 = .ok (.sipush 10300, 3) := dk_17 40 60 (dk_at dksX2_init_2 5 rfl rfl)
theorem dX2_init_56 : decode cX2_init 56 = .ok (.newarray .boolean, 2) := dk_188_4 (dk_at dksX2_init_2 8 rfl rfl)
theorem dX2_init_58 : decode cX2_init 58 = .ok (.putfield 18, 3) := dk_181 0 18 (dk_at dksX2_init_2 10 rfl rfl)
theorem dX2_init_61 : decode cX2_init 61 = .ok (.aload_n 0, 1) := dk_42 (dk_at dksX2_init_2 13 rfl rfl)
theorem dX2_init_62 : decode cX2_init 62 = .ok (.bipush 16, 2) := dk_16 16 (dk_at dksX2_init_2 14 rfl rfl)
theorem dX2_init_64 : decode cX2_init 64 = .ok (.newarray .int, 2) := dk_188_10 (dk_at dksX2_init_2 16 rfl rfl)
theorem dX2_init_66 : decode cX2_init 66 = .ok (.putfield 22, 3) := dk_181 0 22 (dk_at dksX2_init_2 18 rfl rfl)
theorem dX2_init_69 : decode cX2_init 69 = .ok (.aload_n 0, 1) := dk_42 (dk_at dksX2_init_2 21 rfl rfl)
theorem dX2_init_70 : decode cX2_init 70 = .ok (.bipush 7, 2) := dk_16 7 (dk_at dksX2_init_2 22 rfl rfl)
theorem dX2_init_72 : decode cX2_init 72 = .ok (.putfield 26, 3) := dk_181 0 26 (dk_at dksX2_init_3 0 rfl rfl)
theorem dX2_init_75 : decode cX2_init 75 = .ok (.aload_n 0, 1) := dk_42 (dk_at dksX2_init_3 3 rfl rfl)
theorem dX2_init_76 : decode cX2_init 76 = .ok (.new 30, 3) := dk_187 0 30 (dk_at dksX2_init_3 4 rfl rfl)
theorem dX2_init_79 : decode cX2_init 79 = .ok (.dup, 1) := dk_89 (dk_at dksX2_init_3 7 rfl rfl)
theorem dX2_init_80 : decode cX2_init 80 = .ok (.invokespecial 32, 3) := dk_183 0 32 (dk_at dksX2_init_3 8 rfl rfl)
theorem dX2_init_83 : decode cX2_init 83 = .ok (.putfield 33, 3) := dk_181 0 33 (dk_at dksX2_init_3 11 rfl rfl)
theorem dX2_init_86 : decode cX2_init 86 = .ok (.aload_n 0, 1) := dk_42 (dk_at dksX2_init_3 14 rfl rfl)
theorem dX2_init_87 : decode cX2_init 87 = .ok (.iload_n 1, 1) := dk_27 (dk_at dksX2_init_3 15 rfl rfl)
theorem dX2_init_88 : decode cX2_init 88 = .ok (.putfield 37, 3) := dk_181 0 37 (dk_at dksX2_init_3 16 rfl rfl)
theorem dX2_init_91 : decode cX2_init 91 = .ok (.iconst 0, 1) := dk_3 (dk_at dksX2_init_3 19 rfl rfl)
theorem dX2_init_92 : decode cX2_init 92 = .ok (.istore_n 2, 1) := dk_61 (dk_at dksX2_init_3 20 rfl rfl)
theorem dX2_init_93 : decode cX2_init 93 = .ok (.iload_n 2, 1) := dk_28 (dk_at dksX2_init_3 21 rfl rfl)
theorem dX2_init_94 : decode cX2_init 94 = .ok (.bipush 16, 2) := dk_16 16 (dk_at dksX2_init_3 22 rfl rfl)
theorem dX2_init_96 : decode cX2_init 96 = .ok (.if_icmp .ge 16, 3) := dk_162 0 16 (dk_at dksX2_init_4 0 rfl rfl)
theorem dX2_init_99 : decode cX2_init 99 = .ok (.aload_n 0, 1) := dk_42 (dk_at dksX2_init_4 3 rfl rfl)
theorem dX2_init_100 : decode cX2_init 100 = .ok (.getfield 22, 3) := dk_180 0 22 (dk_at dksX2_init_4 4 rfl rfl)
theorem dX2_init_103 : decode cX2_init 103 = .ok (.iload_n 2, 1) := dk_28 (dk_at dksX2_init_4 7 rfl rfl)
theorem dX2_init_104 : decode cX2_init 104 = .ok (.iconst (-1), 1) := dk_2 (dk_at dksX2_init_4 8 rfl rfl)
theorem dX2_init_105 : decode cX2_init 105 = .ok (.iastore, 1) := dk_79 (dk_at dksX2_init_4 9 rfl rfl)
theorem dX2_init_106 : decode cX2_init 106 = .ok (.iinc 2 1, 3) := dk_132 2 1 (dk_at dksX2_init_4 10 rfl rfl)
theorem dX2_init_109 : decode cX2_init 109 = .ok (.goto (-16), 3) := dk_167 255 240 (dk_at dksX2_init_4 13 rfl rfl)
theorem dX2_init_112 : decode cX2_init 112 = .ok (.return_, 1) := dk_177 (dk_at dksX2_init_4 16 rfl rfl)
theorem q76 : (Jvm.Cond.initialized "SortedPost$Box") ∈ lw_all := lw_g (lw_at lw_m1 8 rfl) rfl
theorem q348 : (Jvm.Cond.selects "SortedPost$Box" ({ cls := "java/lang/Object", name := "getClass", desc := "()Ljava/lang/Class;" } : Jvm.MethodName) ({ cls := "java/lang/Object", name := "getClass", desc := "()Ljava/lang/Class;" } : Jvm.MethodName)) ∈ lw_all := lw_g (lw_at lw_m2 40 rfl) rfl
theorem q504 : (Jvm.Cond.instantiable "SortedPost$Box" (6 : Nat)) ∈ lw_all := lw_g (lw_at lw_m2 196 rfl) rfl
theorem q506 : (Jvm.Cond.instanceMethod ({ cls := "SortedPost$Box", name := "<init>", desc := "(I)V" } : Jvm.MethodName)) ∈ lw_all := lw_g (lw_at lw_m2 198 rfl) rfl
theorem q507 : (Jvm.Cond.code ({ cls := "SortedPost$Box", name := "<init>", desc := "(I)V" } : Jvm.MethodName) prog_6_method_1_code (3 : Nat) (Option.none : Option Jvm.ClassFile.FieldType)) ∈ lw_all := lw_g (lw_at lw_m2 199 rfl) rfl
theorem q508 : (Jvm.Cond.methodLink "SortedPost$Box" (3 : Nat) ({ cls := "java/lang/Object", name := "<init>", desc := "()V" } : Jvm.MethodName)) ∈ lw_all := lw_g (lw_at lw_m2 200 rfl) rfl
theorem q509 : (Jvm.Cond.classLink "SortedPost$Box" (9 : Nat) "SortedPost$Tray") ∈ lw_all := lw_g (lw_at lw_m2 201 rfl) rfl
theorem q512 : (Jvm.Cond.methodLinkNest "SortedPost$Box" (11 : Nat) ({ cls := "SortedPost$Tray", name := "<init>", desc := "()V" } : Jvm.MethodName) "SortedPost") ∈ lw_tbl := lw_at lw_m2 204 rfl
theorem q528 : (Jvm.Cond.classLink "SortedPost$Box" (30 : Nat) "SortedPost$Rules") ∈ lw_all := lw_g (lw_at lw_m2 220 rfl) rfl
theorem q529 : (Jvm.Cond.methodLinkNest "SortedPost$Box" (32 : Nat) ({ cls := "SortedPost$Rules", name := "<init>", desc := "()V" } : Jvm.MethodName) "SortedPost") ∈ lw_tbl := lw_at lw_m2 221 rfl
theorem q530 : (Jvm.Cond.fieldLink "SortedPost$Box" (37 : Nat) "SortedPost$Box" "number" "I") ∈ lw_all := lw_g (lw_at lw_m2 222 rfl) rfl
theorem q533 : (Jvm.Cond.fieldLink "SortedPost$Box" (12 : Nat) "SortedPost$Box" "trays" "[LSortedPost$Tray;") ∈ lw_all := lw_g (lw_at lw_m2 225 rfl) rfl
theorem q535 : (Jvm.Cond.fieldLink "SortedPost$Box" (18 : Nat) "SortedPost$Box" "had" "[Z") ∈ lw_all := lw_g (lw_at lw_m2 227 rfl) rfl
theorem q538 : (Jvm.Cond.fieldLink "SortedPost$Box" (22 : Nat) "SortedPost$Box" "answered" "[I") ∈ lw_all := lw_g (lw_at lw_m2 230 rfl) rfl
theorem q540 : (Jvm.Cond.fieldLink "SortedPost$Box" (26 : Nat) "SortedPost$Box" "days" "I") ∈ lw_all := lw_g (lw_at lw_m2 232 rfl) rfl
theorem q543 : (Jvm.Cond.fieldLink "SortedPost$Box" (33 : Nat) "SortedPost$Box" "rules" "LSortedPost$Rules;") ∈ lw_all := lw_g (lw_at lw_m2 235 rfl) rfl
theorem q545 : (Jvm.Cond.laysFinal "SortedPost$Box" "SortedPost$Box" "number" "I") ∈ lw_all := lw_g (lw_at lw_m2 237 rfl) rfl
theorem q546 : (Jvm.Cond.soleField "SortedPost$Box" "number") ∈ lw_all := lw_g (lw_at lw_m2 238 rfl) rfl
theorem q547 : (Jvm.Cond.laysFinal "SortedPost$Box" "SortedPost$Box" "trays" "[LSortedPost$Tray;") ∈ lw_all := lw_g (lw_at lw_m2 239 rfl) rfl
theorem q548 : (Jvm.Cond.soleField "SortedPost$Box" "trays") ∈ lw_all := lw_g (lw_at lw_m3 0 rfl) rfl
theorem q549 : (Jvm.Cond.laysFinal "SortedPost$Box" "SortedPost$Box" "had" "[Z") ∈ lw_all := lw_g (lw_at lw_m3 1 rfl) rfl
theorem q550 : (Jvm.Cond.soleField "SortedPost$Box" "had") ∈ lw_all := lw_g (lw_at lw_m3 2 rfl) rfl
theorem q551 : (Jvm.Cond.laysFinal "SortedPost$Box" "SortedPost$Box" "answered" "[I") ∈ lw_all := lw_g (lw_at lw_m3 3 rfl) rfl
theorem q552 : (Jvm.Cond.soleField "SortedPost$Box" "answered") ∈ lw_all := lw_g (lw_at lw_m3 4 rfl) rfl
theorem q553 : (Jvm.Cond.lays "SortedPost$Box" "SortedPost$Box" "days" "I") ∈ lw_all := lw_g (lw_at lw_m3 5 rfl) rfl
theorem q554 : (Jvm.Cond.soleField "SortedPost$Box" "days") ∈ lw_all := lw_g (lw_at lw_m3 6 rfl) rfl
theorem q555 : (Jvm.Cond.lays "SortedPost$Box" "SortedPost$Box" "rules" "LSortedPost$Rules;") ∈ lw_all := lw_g (lw_at lw_m3 7 rfl) rfl
theorem q556 : (Jvm.Cond.soleField "SortedPost$Box" "rules") ∈ lw_all := lw_g (lw_at lw_m3 8 rfl) rfl
theorem q557 : (Jvm.Cond.superclass "SortedPost$Box" "java/lang/Object") ∈ lw_all := lw_g (lw_at lw_m3 9 rfl) rfl
theorem q1612 : (Jvm.Cond.castable "SortedPost$Box" "java/lang/Object") ∈ lw_tbl := lw_at lw_m7 104 rfl
theorem in_X2 : ∀ w ∈ wsX20, w ∈ lw_all := lw_in wsX20 [545, 547, 549, 551, 553, 555] (by decide +kernel) (by decide +kernel)

/-! SortedPost$Tray -/
set_option maxRecDepth 100000
def RX3 : String := "SortedPost$Tray"
def TX3 : u_T := fun k => match k with
  | 0 => ("SortedPost$Tray", "copies", "Ljava/util/List;", true)
  | _ => ("SortedPost$Tray", "quota", "I", false)
def tyX3 : Nat → FieldType := fun k => match k with
  | 0 => .object "java/util/List"
  | _ => .int
abbrev wsX30 : List Cond := u_ws RX3 TX3 2
theorem nmX3 : ∀ a, a < 2 → ∀ b, b < 2 → a ≠ b → (TX3 a).2.1 ≠ (TX3 b).2.1 := by decide +kernel
theorem tyX3_ok : ∀ k, k < 2 → parseFieldDescriptor (TX3 k).2.2.1 = some (tyX3 k) := by decide +kernel
abbrev cX3_init : ByteArray := prog_18_method_1_code
def yX3_init : MethodName := ⟨RX3, "<init>", "()V"⟩
def dkwX3_init_0 : List UInt8 := [42, 183, 0, 3, 42, 187, 0, 9, 89, 183, 0, 11, 181, 0, 12, 42, 16, 99, 181, 0, 18, 177]
abbrev dktX3_init_0 : List UInt8 := dkwX3_init_0 ++ []
theorem dksX3_init_0 : cX3_init.data.toList.drop 0 = dktX3_init_0 := by decide +kernel
theorem dX3_init_0 : decode cX3_init 0 = .ok (.aload_n 0, 1) := dk_42 (dk_at dksX3_init_0 0 rfl rfl)
theorem dX3_init_1 : decode cX3_init 1 = .ok (.invokespecial 3, 3) := dk_183 0 3 (dk_at dksX3_init_0 1 rfl rfl)
theorem dX3_init_4 : decode cX3_init 4 = .ok (.aload_n 0, 1) := dk_42 (dk_at dksX3_init_0 4 rfl rfl)
theorem dX3_init_5 : decode cX3_init 5 = .ok (.new 9, 3) := dk_187 0 9 (dk_at dksX3_init_0 5 rfl rfl)
theorem dX3_init_8 : decode cX3_init 8 = .ok (.dup, 1) := dk_89 (dk_at dksX3_init_0 8 rfl rfl)
theorem dX3_init_9 : decode cX3_init 9 = .ok (.invokespecial 11, 3) := dk_183 0 11 (dk_at dksX3_init_0 9 rfl rfl)
theorem dX3_init_12 : decode cX3_init 12 = .ok (.putfield 12, 3) := dk_181 0 12 (dk_at dksX3_init_0 12 rfl rfl)
theorem dX3_init_15 : decode cX3_init 15 = .ok (.aload_n 0, 1) := dk_42 (dk_at dksX3_init_0 15 rfl rfl)
theorem dX3_init_16 : decode cX3_init 16 = .ok (.bipush 99, 2) := dk_16 99 (dk_at dksX3_init_0 16 rfl rfl)
theorem dX3_init_18 : decode cX3_init 18 = .ok (.putfield 18, 3) := dk_181 0 18 (dk_at dksX3_init_0 18 rfl rfl)
theorem dX3_init_21 : decode cX3_init 21 = .ok (.return_, 1) := dk_177 (dk_at dksX3_init_0 21 rfl rfl)
theorem q77 : (Jvm.Cond.initialized "SortedPost$Tray") ∈ lw_all := lw_g (lw_at lw_m1 9 rfl) rfl
theorem q358 : (Jvm.Cond.selects "SortedPost$Tray" ({ cls := "java/lang/Object", name := "getClass", desc := "()Ljava/lang/Class;" } : Jvm.MethodName) ({ cls := "java/lang/Object", name := "getClass", desc := "()Ljava/lang/Class;" } : Jvm.MethodName)) ∈ lw_all := lw_g (lw_at lw_m2 50 rfl) rfl
theorem q511 : (Jvm.Cond.instantiable "SortedPost$Tray" (2 : Nat)) ∈ lw_all := lw_g (lw_at lw_m2 203 rfl) rfl
theorem q513 : (Jvm.Cond.instanceMethod ({ cls := "SortedPost$Tray", name := "<init>", desc := "()V" } : Jvm.MethodName)) ∈ lw_all := lw_g (lw_at lw_m2 205 rfl) rfl
theorem q514 : (Jvm.Cond.code ({ cls := "SortedPost$Tray", name := "<init>", desc := "()V" } : Jvm.MethodName) prog_18_method_1_code (1 : Nat) (Option.none : Option Jvm.ClassFile.FieldType)) ∈ lw_all := lw_g (lw_at lw_m2 206 rfl) rfl
theorem q515 : (Jvm.Cond.methodLink "SortedPost$Tray" (3 : Nat) ({ cls := "java/lang/Object", name := "<init>", desc := "()V" } : Jvm.MethodName)) ∈ lw_all := lw_g (lw_at lw_m2 207 rfl) rfl
theorem q516 : (Jvm.Cond.classLink "SortedPost$Tray" (9 : Nat) "java/util/ArrayList") ∈ lw_all := lw_g (lw_at lw_m2 208 rfl) rfl
theorem q517 : (Jvm.Cond.methodLink "SortedPost$Tray" (11 : Nat) ({ cls := "java/util/ArrayList", name := "<init>", desc := "()V" } : Jvm.MethodName)) ∈ lw_all := lw_g (lw_at lw_m2 209 rfl) rfl
theorem q518 : (Jvm.Cond.fieldLink "SortedPost$Tray" (12 : Nat) "SortedPost$Tray" "copies" "Ljava/util/List;") ∈ lw_all := lw_g (lw_at lw_m2 210 rfl) rfl
theorem q520 : (Jvm.Cond.fieldLink "SortedPost$Tray" (18 : Nat) "SortedPost$Tray" "quota" "I") ∈ lw_all := lw_g (lw_at lw_m2 212 rfl) rfl
theorem q522 : (Jvm.Cond.laysFinal "SortedPost$Tray" "SortedPost$Tray" "copies" "Ljava/util/List;") ∈ lw_all := lw_g (lw_at lw_m2 214 rfl) rfl
theorem q523 : (Jvm.Cond.soleField "SortedPost$Tray" "copies") ∈ lw_all := lw_g (lw_at lw_m2 215 rfl) rfl
theorem q524 : (Jvm.Cond.lays "SortedPost$Tray" "SortedPost$Tray" "quota" "I") ∈ lw_all := lw_g (lw_at lw_m2 216 rfl) rfl
theorem q525 : (Jvm.Cond.soleField "SortedPost$Tray" "quota") ∈ lw_all := lw_g (lw_at lw_m2 217 rfl) rfl
theorem q526 : (Jvm.Cond.superclass "SortedPost$Tray" "java/lang/Object") ∈ lw_all := lw_g (lw_at lw_m2 218 rfl) rfl
theorem q1613 : (Jvm.Cond.castable "SortedPost$Tray" "java/lang/Object") ∈ lw_tbl := lw_at lw_m7 105 rfl
theorem in_X3 : ∀ w ∈ wsX30, w ∈ lw_all := lw_in wsX30 [522, 524] (by decide +kernel) (by decide +kernel)

/-! SortedPost$Rules -/
set_option maxRecDepth 100000
def RX4 : String := "SortedPost$Rules"
def TX4 : u_T := fun k => match k with
  | 0 => ("SortedPost$Rules", "all", "Ljava/util/List;", true)
  | _ => ("SortedPost$Rules", "atoms", "Ljava/util/List;", true)
def tyX4 : Nat → FieldType := fun k => match k with
  | 0 => .object "java/util/List"
  | _ => .object "java/util/List"
abbrev wsX40 : List Cond := u_ws RX4 TX4 2
theorem nmX4 : ∀ a, a < 2 → ∀ b, b < 2 → a ≠ b → (TX4 a).2.1 ≠ (TX4 b).2.1 := by decide +kernel
theorem tyX4_ok : ∀ k, k < 2 → parseFieldDescriptor (TX4 k).2.2.1 = some (tyX4 k) := by decide +kernel
abbrev cX4_init : ByteArray := prog_15_method_1_code
def yX4_init : MethodName := ⟨RX4, "<init>", "()V"⟩
def dkwX4_init_1 : List UInt8 := [181, 0, 16, 177]
abbrev dktX4_init_1 : List UInt8 := dkwX4_init_1 ++ []
def dkwX4_init_0 : List UInt8 := [42, 183, 0, 1, 42, 187, 0, 7, 89, 183, 0, 9, 181, 0, 10, 42, 187, 0, 7, 89, 183, 0, 9]
abbrev dktX4_init_0 : List UInt8 := dkwX4_init_0 ++ dktX4_init_1
theorem dksX4_init_0 : cX4_init.data.toList.drop 0 = dktX4_init_0 := by decide +kernel
theorem dksX4_init_1 : cX4_init.data.toList.drop 23 = dktX4_init_1 := dk_seg dksX4_init_0 23 rfl rfl
theorem dX4_init_0 : decode cX4_init 0 = .ok (.aload_n 0, 1) := dk_42 (dk_at dksX4_init_0 0 rfl rfl)
theorem dX4_init_1 : decode cX4_init 1 = .ok (.invokespecial 1, 3) := dk_183 0 1 (dk_at dksX4_init_0 1 rfl rfl)
theorem dX4_init_4 : decode cX4_init 4 = .ok (.aload_n 0, 1) := dk_42 (dk_at dksX4_init_0 4 rfl rfl)
theorem dX4_init_5 : decode cX4_init 5 = .ok (.new 7, 3) := dk_187 0 7 (dk_at dksX4_init_0 5 rfl rfl)
theorem dX4_init_8 : decode cX4_init 8 = .ok (.dup, 1) := dk_89 (dk_at dksX4_init_0 8 rfl rfl)
theorem dX4_init_9 : decode cX4_init 9 = .ok (.invokespecial 9, 3) := dk_183 0 9 (dk_at dksX4_init_0 9 rfl rfl)
theorem dX4_init_12 : decode cX4_init 12 = .ok (.putfield 10, 3) := dk_181 0 10 (dk_at dksX4_init_0 12 rfl rfl)
theorem dX4_init_15 : decode cX4_init 15 = .ok (.aload_n 0, 1) := dk_42 (dk_at dksX4_init_0 15 rfl rfl)
theorem dX4_init_16 : decode cX4_init 16 = .ok (.new 7, 3) := dk_187 0 7 (dk_at dksX4_init_0 16 rfl rfl)
theorem dX4_init_19 : decode cX4_init 19 = .ok (.dup, 1) := dk_89 (dk_at dksX4_init_0 19 rfl rfl)
theorem dX4_init_20 : decode cX4_init 20 = .ok (.invokespecial 9, 3) := dk_183 0 9 (dk_at dksX4_init_0 20 rfl rfl)
theorem dX4_init_23 : decode cX4_init 23 = .ok (.putfield 16, 3) := dk_181 0 16 (dk_at dksX4_init_1 0 rfl rfl)
theorem dX4_init_26 : decode cX4_init 26 = .ok (.return_, 1) := dk_177 (dk_at dksX4_init_1 3 rfl rfl)
theorem q78 : (Jvm.Cond.initialized "SortedPost$Rules") ∈ lw_all := lw_g (lw_at lw_m1 10 rfl) rfl
theorem q128 : (Jvm.Cond.instantiable "SortedPost$Rules" (2 : Nat)) ∈ lw_all := lw_g (lw_at lw_m1 60 rfl) rfl
theorem q130 : (Jvm.Cond.instanceMethod ({ cls := "SortedPost$Rules", name := "<init>", desc := "()V" } : Jvm.MethodName)) ∈ lw_all := lw_g (lw_at lw_m1 62 rfl) rfl
theorem q131 : (Jvm.Cond.code ({ cls := "SortedPost$Rules", name := "<init>", desc := "()V" } : Jvm.MethodName) prog_15_method_1_code (1 : Nat) (Option.none : Option Jvm.ClassFile.FieldType)) ∈ lw_all := lw_g (lw_at lw_m1 63 rfl) rfl
theorem q132 : (Jvm.Cond.methodLink "SortedPost$Rules" (1 : Nat) ({ cls := "java/lang/Object", name := "<init>", desc := "()V" } : Jvm.MethodName)) ∈ lw_all := lw_g (lw_at lw_m1 64 rfl) rfl
theorem q135 : (Jvm.Cond.classLink "SortedPost$Rules" (7 : Nat) "java/util/ArrayList") ∈ lw_all := lw_g (lw_at lw_m1 67 rfl) rfl
theorem q137 : (Jvm.Cond.methodLink "SortedPost$Rules" (9 : Nat) ({ cls := "java/util/ArrayList", name := "<init>", desc := "()V" } : Jvm.MethodName)) ∈ lw_all := lw_g (lw_at lw_m1 69 rfl) rfl
theorem q161 : (Jvm.Cond.fieldLink "SortedPost$Rules" (10 : Nat) "SortedPost$Rules" "all" "Ljava/util/List;") ∈ lw_all := lw_g (lw_at lw_m1 93 rfl) rfl
theorem q163 : (Jvm.Cond.fieldLink "SortedPost$Rules" (16 : Nat) "SortedPost$Rules" "atoms" "Ljava/util/List;") ∈ lw_all := lw_g (lw_at lw_m1 95 rfl) rfl
theorem q165 : (Jvm.Cond.laysFinal "SortedPost$Rules" "SortedPost$Rules" "all" "Ljava/util/List;") ∈ lw_all := lw_g (lw_at lw_m1 97 rfl) rfl
theorem q166 : (Jvm.Cond.soleField "SortedPost$Rules" "all") ∈ lw_all := lw_g (lw_at lw_m1 98 rfl) rfl
theorem q167 : (Jvm.Cond.laysFinal "SortedPost$Rules" "SortedPost$Rules" "atoms" "Ljava/util/List;") ∈ lw_all := lw_g (lw_at lw_m1 99 rfl) rfl
theorem q168 : (Jvm.Cond.soleField "SortedPost$Rules" "atoms") ∈ lw_all := lw_g (lw_at lw_m1 100 rfl) rfl
theorem q169 : (Jvm.Cond.superclass "SortedPost$Rules" "java/lang/Object") ∈ lw_all := lw_g (lw_at lw_m1 101 rfl) rfl
theorem q356 : (Jvm.Cond.selects "SortedPost$Rules" ({ cls := "java/lang/Object", name := "getClass", desc := "()Ljava/lang/Class;" } : Jvm.MethodName) ({ cls := "java/lang/Object", name := "getClass", desc := "()Ljava/lang/Class;" } : Jvm.MethodName)) ∈ lw_all := lw_g (lw_at lw_m2 48 rfl) rfl
theorem q1619 : (Jvm.Cond.castable "SortedPost$Rules" "java/lang/Object") ∈ lw_tbl := lw_at lw_m7 111 rfl
theorem in_X4 : ∀ w ∈ wsX40, w ∈ lw_all := lw_in wsX40 [165, 167] (by decide +kernel) (by decide +kernel)

/-! SortedPost$Arrival -/
set_option maxRecDepth 100000
def RX5 : String := "SortedPost$Arrival"
def TX5 : u_T := fun k => match k with
  | 0 => ("SortedPost$Arrival", "post", "LSortedPost;", true)
  | 1 => ("SortedPost$Arrival", "letter", "LSortedPost$Letter;", false)
  | 2 => ("SortedPost$Arrival", "box", "LSortedPost$Box;", false)
  | 3 => ("SortedPost$Arrival", "trace", "I", false)
  | 4 => ("SortedPost$Arrival", "trays", "I", false)
  | 5 => ("SortedPost$Arrival", "sent", "I", false)
  | 6 => ("SortedPost$Arrival", "isDropped", "Z", false)
  | 7 => ("SortedPost$Arrival", "isMarked", "Z", false)
  | 8 => ("SortedPost$Arrival", "isAnswered", "Z", false)
  | _ => ("SortedPost$Arrival", "stops", "Z", false)
def tyX5 : Nat → FieldType := fun k => match k with
  | 0 => .object "SortedPost"
  | 1 => .object "SortedPost$Letter"
  | 2 => .object "SortedPost$Box"
  | 3 => .int
  | 4 => .int
  | 5 => .int
  | 6 => .boolean
  | 7 => .boolean
  | 8 => .boolean
  | _ => .boolean
abbrev wsX50 : List Cond := u_ws RX5 TX5 10
theorem nmX5 : ∀ a, a < 10 → ∀ b, b < 10 → a ≠ b → (TX5 a).2.1 ≠ (TX5 b).2.1 := by decide +kernel
theorem tyX5_ok : ∀ k, k < 10 → parseFieldDescriptor (TX5 k).2.2.1 = some (tyX5 k) := by decide +kernel
abbrev cX5_init : ByteArray := prog_3_method_1_code
def yX5_init : MethodName := ⟨RX5, "<init>", "(LSortedPost;)V"⟩
def dkwX5_init_0 : List UInt8 := [42, 183, 0, 3, 42, 43, 181, 0, 9, 177]
abbrev dktX5_init_0 : List UInt8 := dkwX5_init_0 ++ []
theorem dksX5_init_0 : cX5_init.data.toList.drop 0 = dktX5_init_0 := by decide +kernel
theorem dX5_init_0 : decode cX5_init 0 = .ok (.aload_n 0, 1) := dk_42 (dk_at dksX5_init_0 0 rfl rfl)
theorem dX5_init_1 : decode cX5_init 1 = .ok (.invokespecial 3, 3) := dk_183 0 3 (dk_at dksX5_init_0 1 rfl rfl)
theorem dX5_init_4 : decode cX5_init 4 = .ok (.aload_n 0, 1) := dk_42 (dk_at dksX5_init_0 4 rfl rfl)
theorem dX5_init_5 : decode cX5_init 5 = .ok (.aload_n 1, 1) := dk_43 (dk_at dksX5_init_0 5 rfl rfl)
theorem dX5_init_6 : decode cX5_init 6 = .ok (.putfield 9, 3) := dk_181 0 9 (dk_at dksX5_init_0 6 rfl rfl)
theorem dX5_init_9 : decode cX5_init 9 = .ok (.return_, 1) := dk_177 (dk_at dksX5_init_0 9 rfl rfl)
abbrev cX5_begin : ByteArray := prog_3_method_2_code
def yX5_begin : MethodName := ⟨RX5, "begin", "(LSortedPost$Letter;LSortedPost$Box;I)V"⟩
def dkwX5_begin_1 : List UInt8 := [181, 0, 30, 42, 3, 181, 0, 33, 42, 3, 181, 0, 37, 42, 3, 181, 0, 40, 42, 3, 181, 0, 43, 177]
abbrev dktX5_begin_1 : List UInt8 := dkwX5_begin_1 ++ []
def dkwX5_begin_0 : List UInt8 := [42, 43, 181, 0, 15, 42, 44, 181, 0, 19, 42, 29, 181, 0, 23, 42, 3, 181, 0, 27, 42, 3]
abbrev dktX5_begin_0 : List UInt8 := dkwX5_begin_0 ++ dktX5_begin_1
theorem dksX5_begin_0 : cX5_begin.data.toList.drop 0 = dktX5_begin_0 := by decide +kernel
theorem dksX5_begin_1 : cX5_begin.data.toList.drop 22 = dktX5_begin_1 := dk_seg dksX5_begin_0 22 rfl rfl
theorem dX5_begin_0 : decode cX5_begin 0 = .ok (.aload_n 0, 1) := dk_42 (dk_at dksX5_begin_0 0 rfl rfl)
theorem dX5_begin_1 : decode cX5_begin 1 = .ok (.aload_n 1, 1) := dk_43 (dk_at dksX5_begin_0 1 rfl rfl)
theorem dX5_begin_2 : decode cX5_begin 2 = .ok (.putfield 15, 3) := dk_181 0 15 (dk_at dksX5_begin_0 2 rfl rfl)
theorem dX5_begin_5 : decode cX5_begin 5 = .ok (.aload_n 0, 1) := dk_42 (dk_at dksX5_begin_0 5 rfl rfl)
theorem dX5_begin_6 : decode cX5_begin 6 = .ok (.aload_n 2, 1) := dk_44 (dk_at dksX5_begin_0 6 rfl rfl)
theorem dX5_begin_7 : decode cX5_begin 7 = .ok (.putfield 19, 3) := dk_181 0 19 (dk_at dksX5_begin_0 7 rfl rfl)
theorem dX5_begin_10 : decode cX5_begin 10 = .ok (.aload_n 0, 1) := dk_42 (dk_at dksX5_begin_0 10 rfl rfl)
theorem dX5_begin_11 : decode cX5_begin 11 = .ok (.iload_n 3, 1) := dk_29 (dk_at dksX5_begin_0 11 rfl rfl)
theorem dX5_begin_12 : decode cX5_begin 12 = .ok (.putfield 23, 3) := dk_181 0 23 (dk_at dksX5_begin_0 12 rfl rfl)
theorem dX5_begin_15 : decode cX5_begin 15 = .ok (.aload_n 0, 1) := dk_42 (dk_at dksX5_begin_0 15 rfl rfl)
theorem dX5_begin_16 : decode cX5_begin 16 = .ok (.iconst 0, 1) := dk_3 (dk_at dksX5_begin_0 16 rfl rfl)
theorem dX5_begin_17 : decode cX5_begin 17 = .ok (.putfield 27, 3) := dk_181 0 27 (dk_at dksX5_begin_0 17 rfl rfl)
theorem dX5_begin_20 : decode cX5_begin 20 = .ok (.aload_n 0, 1) := dk_42 (dk_at dksX5_begin_0 20 rfl rfl)
theorem dX5_begin_21 : decode cX5_begin 21 = .ok (.iconst 0, 1) := dk_3 (dk_at dksX5_begin_0 21 rfl rfl)
theorem dX5_begin_22 : decode cX5_begin 22 = .ok (.putfield 30, 3) := dk_181 0 30 (dk_at dksX5_begin_1 0 rfl rfl)
theorem dX5_begin_25 : decode cX5_begin 25 = .ok (.aload_n 0, 1) := dk_42 (dk_at dksX5_begin_1 3 rfl rfl)
theorem dX5_begin_26 : decode cX5_begin 26 = .ok (.iconst 0, 1) := dk_3 (dk_at dksX5_begin_1 4 rfl rfl)
theorem dX5_begin_27 : decode cX5_begin 27 = .ok (.putfield 33, 3) := dk_181 0 33 (dk_at dksX5_begin_1 5 rfl rfl)
theorem dX5_begin_30 : decode cX5_begin 30 = .ok (.aload_n 0, 1) := dk_42 (dk_at dksX5_begin_1 8 rfl rfl)
theorem dX5_begin_31 : decode cX5_begin 31 = .ok (.iconst 0, 1) := dk_3 (dk_at dksX5_begin_1 9 rfl rfl)
theorem dX5_begin_32 : decode cX5_begin 32 = .ok (.putfield 37, 3) := dk_181 0 37 (dk_at dksX5_begin_1 10 rfl rfl)
theorem dX5_begin_35 : decode cX5_begin 35 = .ok (.aload_n 0, 1) := dk_42 (dk_at dksX5_begin_1 13 rfl rfl)
theorem dX5_begin_36 : decode cX5_begin 36 = .ok (.iconst 0, 1) := dk_3 (dk_at dksX5_begin_1 14 rfl rfl)
theorem dX5_begin_37 : decode cX5_begin 37 = .ok (.putfield 40, 3) := dk_181 0 40 (dk_at dksX5_begin_1 15 rfl rfl)
theorem dX5_begin_40 : decode cX5_begin 40 = .ok (.aload_n 0, 1) := dk_42 (dk_at dksX5_begin_1 18 rfl rfl)
theorem dX5_begin_41 : decode cX5_begin 41 = .ok (.iconst 0, 1) := dk_3 (dk_at dksX5_begin_1 19 rfl rfl)
theorem dX5_begin_42 : decode cX5_begin 42 = .ok (.putfield 43, 3) := dk_181 0 43 (dk_at dksX5_begin_1 20 rfl rfl)
theorem dX5_begin_45 : decode cX5_begin 45 = .ok (.return_, 1) := dk_177 (dk_at dksX5_begin_1 23 rfl rfl)
abbrev cX5_isTrue : ByteArray := prog_3_method_3_code
def yX5_isTrue : MethodName := ⟨RX5, "isTrue", "(LSortedPost$Atom;)Z"⟩
def dkwX5_isTrue_8 : List UInt8 := [180, 0, 76, 42, 180, 0, 15, 180, 0, 85, 51, 153, 0, 7, 4, 167, 0, 4, 3, 172]
abbrev dktX5_isTrue_8 : List UInt8 := dkwX5_isTrue_8 ++ []
def dkwX5_isTrue_7 : List UInt8 := [42, 180, 0, 15, 180, 0, 82, 51, 172, 42, 180, 0, 15, 180, 0, 85, 155, 0, 25, 42, 180, 0, 19]
abbrev dktX5_isTrue_7 : List UInt8 := dkwX5_isTrue_7 ++ dktX5_isTrue_8
def dkwX5_isTrue_6 : List UInt8 := [167, 0, 4, 3, 172, 42, 180, 0, 9, 42, 180, 0, 15, 182, 0, 72, 172, 42, 180, 0, 19, 180, 0, 76]
abbrev dktX5_isTrue_6 : List UInt8 := dkwX5_isTrue_6 ++ dktX5_isTrue_7
def dkwX5_isTrue_5 : List UInt8 := [126, 153, 0, 7, 4, 167, 0, 4, 3, 172, 42, 180, 0, 15, 180, 0, 69, 5, 126, 153, 0, 7, 4]
abbrev dktX5_isTrue_5 : List UInt8 := dkwX5_isTrue_5 ++ dktX5_isTrue_6
def dkwX5_isTrue_4 : List UInt8 := [180, 0, 66, 43, 180, 0, 56, 164, 0, 7, 4, 167, 0, 4, 3, 172, 42, 180, 0, 15, 180, 0, 69, 4]
abbrev dktX5_isTrue_4 : List UInt8 := dkwX5_isTrue_4 ++ dktX5_isTrue_5
def dkwX5_isTrue_3 : List UInt8 := [43, 180, 0, 56, 182, 0, 59, 172, 42, 180, 0, 15, 43, 180, 0, 56, 182, 0, 63, 172, 42, 180, 0, 15]
abbrev dktX5_isTrue_3 : List UInt8 := dkwX5_isTrue_3 ++ dktX5_isTrue_4
def dkwX5_isTrue_2 : List UInt8 := [42, 180, 0, 15, 180, 0, 51, 43, 180, 0, 56, 160, 0, 7, 4, 167, 0, 4, 3, 172, 42, 180, 0, 15]
abbrev dktX5_isTrue_2 : List UInt8 := dkwX5_isTrue_2 ++ dktX5_isTrue_3
def dkwX5_isTrue_1 : List UInt8 := [171, 0, 0, 0, 0, 0, 0, 204, 0, 0, 0, 8, 0, 0, 0, 62, 0, 0, 0, 120, 0, 0, 0, 97, 0, 0, 0, 158, 0, 0, 0, 100, 0, 0, 0, 188, 0, 0, 0, 102, 0, 0, 0, 76, 0, 0, 0, 106, 0, 0, 0, 176, 0, 0, 0, 108, 0, 0, 0, 140, 0, 0, 0, 116, 0, 0, 0, 96, 0, 0, 0, 119, 0, 0, 0, 108]
abbrev dktX5_isTrue_1 : List UInt8 := dkwX5_isTrue_1 ++ dktX5_isTrue_2
def dkwX5_isTrue_0 : List UInt8 := [43, 180, 0, 46]
abbrev dktX5_isTrue_0 : List UInt8 := dkwX5_isTrue_0 ++ dktX5_isTrue_1
theorem dksX5_isTrue_0 : cX5_isTrue.data.toList.drop 0 = dktX5_isTrue_0 := by decide +kernel
theorem dksX5_isTrue_1 : cX5_isTrue.data.toList.drop 4 = dktX5_isTrue_1 := dk_seg dksX5_isTrue_0 4 rfl rfl
theorem dksX5_isTrue_2 : cX5_isTrue.data.toList.drop 80 = dktX5_isTrue_2 := dk_seg dksX5_isTrue_1 76 rfl rfl
theorem dksX5_isTrue_3 : cX5_isTrue.data.toList.drop 104 = dktX5_isTrue_3 := dk_seg dksX5_isTrue_2 24 rfl rfl
theorem dksX5_isTrue_4 : cX5_isTrue.data.toList.drop 128 = dktX5_isTrue_4 := dk_seg dksX5_isTrue_3 24 rfl rfl
theorem dksX5_isTrue_5 : cX5_isTrue.data.toList.drop 152 = dktX5_isTrue_5 := dk_seg dksX5_isTrue_4 24 rfl rfl
theorem dksX5_isTrue_6 : cX5_isTrue.data.toList.drop 175 = dktX5_isTrue_6 := dk_seg dksX5_isTrue_5 23 rfl rfl
theorem dksX5_isTrue_7 : cX5_isTrue.data.toList.drop 199 = dktX5_isTrue_7 := dk_seg dksX5_isTrue_6 24 rfl rfl
theorem dksX5_isTrue_8 : cX5_isTrue.data.toList.drop 222 = dktX5_isTrue_8 := dk_seg dksX5_isTrue_7 23 rfl rfl
theorem dX5_isTrue_0 : decode cX5_isTrue 0 = .ok (.aload_n 1, 1) := dk_43 (dk_at dksX5_isTrue_0 0 rfl rfl)
theorem dX5_isTrue_1 : decode cX5_isTrue 1 = .ok (.getfield 46, 3) := dk_180 0 46 (dk_at dksX5_isTrue_0 1 rfl rfl)
theorem dX5_isTrue_4 : decode cX5_isTrue 4 = .ok (.lookupswitch 204 #[(62, 120), (97, 158), (100, 188), (102, 76), (106, 176), (108, 140), (116, 96), (119, 108)], 76) := by decide +kernel
theorem dX5_isTrue_80 : decode cX5_isTrue 80 = .ok (.aload_n 0, 1) := dk_42 (dk_at dksX5_isTrue_2 0 rfl rfl)
theorem dX5_isTrue_81 : decode cX5_isTrue 81 = .ok (.getfield 15, 3) := dk_180 0 15 (dk_at dksX5_isTrue_2 1 rfl rfl)
theorem dX5_isTrue_84 : decode cX5_isTrue 84 = .ok (.getfield 51, 3) := dk_180 0 51 (dk_at dksX5_isTrue_2 4 rfl rfl)
theorem dX5_isTrue_87 : decode cX5_isTrue 87 = .ok (.aload_n 1, 1) := dk_43 (dk_at dksX5_isTrue_2 7 rfl rfl)
theorem dX5_isTrue_88 : decode cX5_isTrue 88 = .ok (.getfield 56, 3) := dk_180 0 56 (dk_at dksX5_isTrue_2 8 rfl rfl)
theorem dX5_isTrue_91 : decode cX5_isTrue 91 = .ok (.if_icmp .ne 7, 3) := dk_160 0 7 (dk_at dksX5_isTrue_2 11 rfl rfl)
theorem dX5_isTrue_94 : decode cX5_isTrue 94 = .ok (.iconst 1, 1) := dk_4 (dk_at dksX5_isTrue_2 14 rfl rfl)
theorem dX5_isTrue_95 : decode cX5_isTrue 95 = .ok (.goto 4, 3) := dk_167 0 4 (dk_at dksX5_isTrue_2 15 rfl rfl)
theorem dX5_isTrue_98 : decode cX5_isTrue 98 = .ok (.iconst 0, 1) := dk_3 (dk_at dksX5_isTrue_2 18 rfl rfl)
theorem dX5_isTrue_99 : decode cX5_isTrue 99 = .ok (.ireturn, 1) := dk_172 (dk_at dksX5_isTrue_2 19 rfl rfl)
theorem dX5_isTrue_100 : decode cX5_isTrue 100 = .ok (.aload_n 0, 1) := dk_42 (dk_at dksX5_isTrue_2 20 rfl rfl)
theorem dX5_isTrue_101 : decode cX5_isTrue 101 = .ok (.getfield 15, 3) := dk_180 0 15 (dk_at dksX5_isTrue_2 21 rfl rfl)
theorem dX5_isTrue_104 : decode cX5_isTrue 104 = .ok (.aload_n 1, 1) := dk_43 (dk_at dksX5_isTrue_3 0 rfl rfl)
theorem dX5_isTrue_105 : decode cX5_isTrue 105 = .ok (.getfield 56, 3) := dk_180 0 56 (dk_at dksX5_isTrue_3 1 rfl rfl)
theorem dX5_isTrue_108 : decode cX5_isTrue 108 = .ok (.invokevirtual 59, 3) := dk_182 0 59 (dk_at dksX5_isTrue_3 4 rfl rfl)
theorem dX5_isTrue_111 : decode cX5_isTrue 111 = .ok (.ireturn, 1) := dk_172 (dk_at dksX5_isTrue_3 7 rfl rfl)
theorem dX5_isTrue_112 : decode cX5_isTrue 112 = .ok (.aload_n 0, 1) := dk_42 (dk_at dksX5_isTrue_3 8 rfl rfl)
theorem dX5_isTrue_113 : decode cX5_isTrue 113 = .ok (.getfield 15, 3) := dk_180 0 15 (dk_at dksX5_isTrue_3 9 rfl rfl)
theorem dX5_isTrue_116 : decode cX5_isTrue 116 = .ok (.aload_n 1, 1) := dk_43 (dk_at dksX5_isTrue_3 12 rfl rfl)
theorem dX5_isTrue_117 : decode cX5_isTrue 117 = .ok (.getfield 56, 3) := dk_180 0 56 (dk_at dksX5_isTrue_3 13 rfl rfl)
theorem dX5_isTrue_120 : decode cX5_isTrue 120 = .ok (.invokevirtual 63, 3) := dk_182 0 63 (dk_at dksX5_isTrue_3 16 rfl rfl)
theorem dX5_isTrue_123 : decode cX5_isTrue 123 = .ok (.ireturn, 1) := dk_172 (dk_at dksX5_isTrue_3 19 rfl rfl)
theorem dX5_isTrue_124 : decode cX5_isTrue 124 = .ok (.aload_n 0, 1) := dk_42 (dk_at dksX5_isTrue_3 20 rfl rfl)
theorem dX5_isTrue_125 : decode cX5_isTrue 125 = .ok (.getfield 15, 3) := dk_180 0 15 (dk_at dksX5_isTrue_3 21 rfl rfl)
theorem dX5_isTrue_128 : decode cX5_isTrue 128 = .ok (.getfield 66, 3) := dk_180 0 66 (dk_at dksX5_isTrue_4 0 rfl rfl)
theorem dX5_isTrue_131 : decode cX5_isTrue 131 = .ok (.aload_n 1, 1) := dk_43 (dk_at dksX5_isTrue_4 3 rfl rfl)
theorem dX5_isTrue_132 : decode cX5_isTrue 132 = .ok (.getfield 56, 3) := dk_180 0 56 (dk_at dksX5_isTrue_4 4 rfl rfl)
theorem dX5_isTrue_135 : decode cX5_isTrue 135 = .ok (.if_icmp .le 7, 3) := dk_164 0 7 (dk_at dksX5_isTrue_4 7 rfl rfl)
theorem dX5_isTrue_138 : decode cX5_isTrue 138 = .ok (.iconst 1, 1) := dk_4 (dk_at dksX5_isTrue_4 10 rfl rfl)
theorem dX5_isTrue_139 : decode cX5_isTrue 139 = .ok (.goto 4, 3) := dk_167 0 4 (dk_at dksX5_isTrue_4 11 rfl rfl)
theorem dX5_isTrue_142 : decode cX5_isTrue 142 = .ok (.iconst 0, 1) := dk_3 (dk_at dksX5_isTrue_4 14 rfl rfl)
theorem dX5_isTrue_143 : decode cX5_isTrue 143 = .ok (.ireturn, 1) := dk_172 (dk_at dksX5_isTrue_4 15 rfl rfl)
theorem dX5_isTrue_144 : decode cX5_isTrue 144 = .ok (.aload_n 0, 1) := dk_42 (dk_at dksX5_isTrue_4 16 rfl rfl)
theorem dX5_isTrue_145 : decode cX5_isTrue 145 = .ok (.getfield 15, 3) := dk_180 0 15 (dk_at dksX5_isTrue_4 17 rfl rfl)
theorem dX5_isTrue_148 : decode cX5_isTrue 148 = .ok (.getfield 69, 3) := dk_180 0 69 (dk_at dksX5_isTrue_4 20 rfl rfl)
theorem dX5_isTrue_151 : decode cX5_isTrue 151 = .ok (.iconst 1, 1) := dk_4 (dk_at dksX5_isTrue_4 23 rfl rfl)
theorem dX5_isTrue_152 : decode cX5_isTrue 152 = .ok (.iand, 1) := dk_126 (dk_at dksX5_isTrue_5 0 rfl rfl)
theorem dX5_isTrue_153 : decode cX5_isTrue 153 = .ok (.ifCond .eq 7, 3) := dk_153 0 7 (dk_at dksX5_isTrue_5 1 rfl rfl)
theorem dX5_isTrue_156 : decode cX5_isTrue 156 = .ok (.iconst 1, 1) := dk_4 (dk_at dksX5_isTrue_5 4 rfl rfl)
theorem dX5_isTrue_157 : decode cX5_isTrue 157 = .ok (.goto 4, 3) := dk_167 0 4 (dk_at dksX5_isTrue_5 5 rfl rfl)
theorem dX5_isTrue_160 : decode cX5_isTrue 160 = .ok (.iconst 0, 1) := dk_3 (dk_at dksX5_isTrue_5 8 rfl rfl)
theorem dX5_isTrue_161 : decode cX5_isTrue 161 = .ok (.ireturn, 1) := dk_172 (dk_at dksX5_isTrue_5 9 rfl rfl)
theorem dX5_isTrue_162 : decode cX5_isTrue 162 = .ok (.aload_n 0, 1) := dk_42 (dk_at dksX5_isTrue_5 10 rfl rfl)
theorem dX5_isTrue_163 : decode cX5_isTrue 163 = .ok (.getfield 15, 3) := dk_180 0 15 (dk_at dksX5_isTrue_5 11 rfl rfl)
theorem dX5_isTrue_166 : decode cX5_isTrue 166 = .ok (.getfield 69, 3) := dk_180 0 69 (dk_at dksX5_isTrue_5 14 rfl rfl)
theorem dX5_isTrue_169 : decode cX5_isTrue 169 = .ok (.iconst 2, 1) := dk_5 (dk_at dksX5_isTrue_5 17 rfl rfl)
theorem dX5_isTrue_170 : decode cX5_isTrue 170 = .ok (.iand, 1) := dk_126 (dk_at dksX5_isTrue_5 18 rfl rfl)
theorem dX5_isTrue_171 : decode cX5_isTrue 171 = .ok (.ifCond .eq 7, 3) := dk_153 0 7 (dk_at dksX5_isTrue_5 19 rfl rfl)
theorem dX5_isTrue_174 : decode cX5_isTrue 174 = .ok (.iconst 1, 1) := dk_4 (dk_at dksX5_isTrue_5 22 rfl rfl)
theorem dX5_isTrue_175 : decode cX5_isTrue 175 = .ok (.goto 4, 3) := dk_167 0 4 (dk_at dksX5_isTrue_6 0 rfl rfl)
theorem dX5_isTrue_178 : decode cX5_isTrue 178 = .ok (.iconst 0, 1) := dk_3 (dk_at dksX5_isTrue_6 3 rfl rfl)
theorem dX5_isTrue_179 : decode cX5_isTrue 179 = .ok (.ireturn, 1) := dk_172 (dk_at dksX5_isTrue_6 4 rfl rfl)
theorem dX5_isTrue_180 : decode cX5_isTrue 180 = .ok (.aload_n 0, 1) := dk_42 (dk_at dksX5_isTrue_6 5 rfl rfl)
theorem dX5_isTrue_181 : decode cX5_isTrue 181 = .ok (.getfield 9, 3) := dk_180 0 9 (dk_at dksX5_isTrue_6 6 rfl rfl)
theorem dX5_isTrue_184 : decode cX5_isTrue 184 = .ok (.aload_n 0, 1) := dk_42 (dk_at dksX5_isTrue_6 9 rfl rfl)
theorem dX5_isTrue_185 : decode cX5_isTrue 185 = .ok (.getfield 15, 3) := dk_180 0 15 (dk_at dksX5_isTrue_6 10 rfl rfl)
theorem dX5_isTrue_188 : decode cX5_isTrue 188 = .ok (.invokevirtual 72, 3) := dk_182 0 72 (dk_at dksX5_isTrue_6 13 rfl rfl)
theorem dX5_isTrue_191 : decode cX5_isTrue 191 = .ok (.ireturn, 1) := dk_172 (dk_at dksX5_isTrue_6 16 rfl rfl)
theorem dX5_isTrue_192 : decode cX5_isTrue 192 = .ok (.aload_n 0, 1) := dk_42 (dk_at dksX5_isTrue_6 17 rfl rfl)
theorem dX5_isTrue_193 : decode cX5_isTrue 193 = .ok (.getfield 19, 3) := dk_180 0 19 (dk_at dksX5_isTrue_6 18 rfl rfl)
theorem dX5_isTrue_196 : decode cX5_isTrue 196 = .ok (.getfield 76, 3) := dk_180 0 76 (dk_at dksX5_isTrue_6 21 rfl rfl)
theorem dX5_isTrue_199 : decode cX5_isTrue 199 = .ok (.aload_n 0, 1) := dk_42 (dk_at dksX5_isTrue_7 0 rfl rfl)
theorem dX5_isTrue_200 : decode cX5_isTrue 200 = .ok (.getfield 15, 3) := dk_180 0 15 (dk_at dksX5_isTrue_7 1 rfl rfl)
theorem dX5_isTrue_203 : decode cX5_isTrue 203 = .ok (.getfield 82, 3) := dk_180 0 82 (dk_at dksX5_isTrue_7 4 rfl rfl)
theorem dX5_isTrue_206 : decode cX5_isTrue 206 = .ok (.baload, 1) := dk_51 (dk_at dksX5_isTrue_7 7 rfl rfl)
theorem dX5_isTrue_207 : decode cX5_isTrue 207 = .ok (.ireturn, 1) := dk_172 (dk_at dksX5_isTrue_7 8 rfl rfl)
theorem dX5_isTrue_208 : decode cX5_isTrue 208 = .ok (.aload_n 0, 1) := dk_42 (dk_at dksX5_isTrue_7 9 rfl rfl)
theorem dX5_isTrue_209 : decode cX5_isTrue 209 = .ok (.getfield 15, 3) := dk_180 0 15 (dk_at dksX5_isTrue_7 10 rfl rfl)
theorem dX5_isTrue_212 : decode cX5_isTrue 212 = .ok (.getfield 85, 3) := dk_180 0 85 (dk_at dksX5_isTrue_7 13 rfl rfl)
theorem dX5_isTrue_215 : decode cX5_isTrue 215 = .ok (.ifCond .lt 25, 3) := dk_155 0 25 (dk_at dksX5_isTrue_7 16 rfl rfl)
theorem dX5_isTrue_218 : decode cX5_isTrue 218 = .ok (.aload_n 0, 1) := dk_42 (dk_at dksX5_isTrue_7 19 rfl rfl)
theorem dX5_isTrue_219 : decode cX5_isTrue 219 = .ok (.getfield 19, 3) := dk_180 0 19 (dk_at dksX5_isTrue_7 20 rfl rfl)
theorem dX5_isTrue_222 : decode cX5_isTrue 222 = .ok (.getfield 76, 3) := dk_180 0 76 (dk_at dksX5_isTrue_8 0 rfl rfl)
theorem dX5_isTrue_225 : decode cX5_isTrue 225 = .ok (.aload_n 0, 1) := dk_42 (dk_at dksX5_isTrue_8 3 rfl rfl)
theorem dX5_isTrue_226 : decode cX5_isTrue 226 = .ok (.getfield 15, 3) := dk_180 0 15 (dk_at dksX5_isTrue_8 4 rfl rfl)
theorem dX5_isTrue_229 : decode cX5_isTrue 229 = .ok (.getfield 85, 3) := dk_180 0 85 (dk_at dksX5_isTrue_8 7 rfl rfl)
theorem dX5_isTrue_232 : decode cX5_isTrue 232 = .ok (.baload, 1) := dk_51 (dk_at dksX5_isTrue_8 10 rfl rfl)
theorem dX5_isTrue_233 : decode cX5_isTrue 233 = .ok (.ifCond .eq 7, 3) := dk_153 0 7 (dk_at dksX5_isTrue_8 11 rfl rfl)
theorem dX5_isTrue_236 : decode cX5_isTrue 236 = .ok (.iconst 1, 1) := dk_4 (dk_at dksX5_isTrue_8 14 rfl rfl)
theorem dX5_isTrue_237 : decode cX5_isTrue 237 = .ok (.goto 4, 3) := dk_167 0 4 (dk_at dksX5_isTrue_8 15 rfl rfl)
theorem dX5_isTrue_240 : decode cX5_isTrue 240 = .ok (.iconst 0, 1) := dk_3 (dk_at dksX5_isTrue_8 18 rfl rfl)
theorem dX5_isTrue_241 : decode cX5_isTrue 241 = .ok (.ireturn, 1) := dk_172 (dk_at dksX5_isTrue_8 19 rfl rfl)
abbrev cX5_act : ByteArray := prog_3_method_4_code
def yX5_act : MethodName := ⟨RX5, "act", "(II)V"⟩
def dkwX5_act_8 : List UInt8 := [182, 0, 96, 167, 0, 16, 42, 4, 181, 0, 37, 167, 0, 8, 42, 4, 181, 0, 43, 177]
abbrev dktX5_act_8 : List UInt8 := dkwX5_act_8 ++ []
def dkwX5_act_7 : List UInt8 := [180, 0, 9, 89, 180, 0, 93, 4, 96, 181, 0, 93, 167, 0, 31, 42, 4, 181, 0, 33, 167, 0, 23, 42]
abbrev dktX5_act_7 : List UInt8 := dkwX5_act_7 ++ dktX5_act_8
def dkwX5_act_6 : List UInt8 := [180, 0, 15, 28, 42, 180, 0, 23, 4, 42, 180, 0, 19, 180, 0, 88, 120, 128, 182, 0, 89, 42]
abbrev dktX5_act_6 : List UInt8 := dkwX5_act_6 ++ dktX5_act_7
def dkwX5_act_5 : List UInt8 := [153, 0, 9, 4, 28, 120, 167, 0, 4, 3, 128, 181, 0, 30, 29, 153, 0, 73, 42, 180, 0, 9, 42]
abbrev dktX5_act_5 : List UInt8 := dkwX5_act_5 ++ dktX5_act_6
def dkwX5_act_4 : List UInt8 := [180, 0, 30, 128, 28, 122, 4, 126, 154, 0, 7, 4, 167, 0, 4, 3, 62, 42, 89, 180, 0, 30, 29]
abbrev dktX5_act_4 : List UInt8 := dkwX5_act_4 ++ dktX5_act_5
def dkwX5_act_3 : List UInt8 := [181, 0, 27, 167, 0, 130, 28, 42, 180, 0, 19, 180, 0, 88, 159, 0, 23, 42, 180, 0, 23, 42]
abbrev dktX5_act_3 : List UInt8 := dkwX5_act_3 ++ dktX5_act_4
def dkwX5_act_2 : List UInt8 := [42, 89, 180, 0, 27, 4, 28, 120, 128, 181, 0, 27, 167, 0, 143, 42, 89, 180, 0, 27, 4, 128]
abbrev dktX5_act_2 : List UInt8 := dkwX5_act_2 ++ dktX5_act_3
def dkwX5_act_1 : List UInt8 := [170, 0, 0, 0, 0, 0, 241, 0, 0, 0, 70, 0, 0, 0, 88, 0, 0, 0, 91, 0, 0, 0, 119, 0, 0, 0, 241, 0, 0, 0, 241, 0, 0, 0, 241, 0, 0, 0, 106, 0, 0, 0, 241, 0, 0, 0, 233, 0, 0, 0, 241, 0, 0, 0, 241, 0, 0, 0, 241, 0, 0, 0, 241, 0, 0, 0, 241, 0, 0, 0, 241, 0, 0, 0, 241, 0, 0, 0, 241, 0, 0, 0, 226, 0, 0, 0, 241, 0, 0, 0, 218]
abbrev dktX5_act_1 : List UInt8 := dkwX5_act_1 ++ dktX5_act_2
def dkwX5_act_0 : List UInt8 := [27]
abbrev dktX5_act_0 : List UInt8 := dkwX5_act_0 ++ dktX5_act_1
theorem dksX5_act_0 : cX5_act.data.toList.drop 0 = dktX5_act_0 := by decide +kernel
theorem dksX5_act_1 : cX5_act.data.toList.drop 1 = dktX5_act_1 := dk_seg dksX5_act_0 1 rfl rfl
theorem dksX5_act_2 : cX5_act.data.toList.drop 92 = dktX5_act_2 := dk_seg dksX5_act_1 91 rfl rfl
theorem dksX5_act_3 : cX5_act.data.toList.drop 114 = dktX5_act_3 := dk_seg dksX5_act_2 22 rfl rfl
theorem dksX5_act_4 : cX5_act.data.toList.drop 136 = dktX5_act_4 := dk_seg dksX5_act_3 22 rfl rfl
theorem dksX5_act_5 : cX5_act.data.toList.drop 159 = dktX5_act_5 := dk_seg dksX5_act_4 23 rfl rfl
theorem dksX5_act_6 : cX5_act.data.toList.drop 182 = dktX5_act_6 := dk_seg dksX5_act_5 23 rfl rfl
theorem dksX5_act_7 : cX5_act.data.toList.drop 204 = dktX5_act_7 := dk_seg dksX5_act_6 22 rfl rfl
theorem dksX5_act_8 : cX5_act.data.toList.drop 228 = dktX5_act_8 := dk_seg dksX5_act_7 24 rfl rfl
theorem dX5_act_0 : decode cX5_act 0 = .ok (.iload_n 1, 1) := dk_27 (dk_at dksX5_act_0 0 rfl rfl)
theorem dX5_act_1 : decode cX5_act 1 = .ok (.tableswitch 241 70 88 #[91, 119, 241, 241, 241, 106, 241, 233, 241, 241, 241, 241, 241, 241, 241, 241, 226, 241, 218], 91) := by decide +kernel
theorem dX5_act_92 : decode cX5_act 92 = .ok (.aload_n 0, 1) := dk_42 (dk_at dksX5_act_2 0 rfl rfl)
theorem dX5_act_93 : decode cX5_act 93 = .ok (.dup, 1) := dk_89 (dk_at dksX5_act_2 1 rfl rfl)
theorem dX5_act_94 : decode cX5_act 94 = .ok (.getfield 27, 3) := dk_180 0 27 (dk_at dksX5_act_2 2 rfl rfl)
theorem dX5_act_97 : decode cX5_act 97 = .ok (.iconst 1, 1) := dk_4 (dk_at dksX5_act_2 5 rfl rfl)
theorem dX5_act_98 : decode cX5_act 98 = .ok (.iload_n 2, 1) := dk_28 (dk_at dksX5_act_2 6 rfl rfl)
theorem dX5_act_99 : decode cX5_act 99 = .ok (.ishl, 1) := dk_120 (dk_at dksX5_act_2 7 rfl rfl)
theorem dX5_act_100 : decode cX5_act 100 = .ok (.ior, 1) := dk_128 (dk_at dksX5_act_2 8 rfl rfl)
theorem dX5_act_101 : decode cX5_act 101 = .ok (.putfield 27, 3) := dk_181 0 27 (dk_at dksX5_act_2 9 rfl rfl)
theorem dX5_act_104 : decode cX5_act 104 = .ok (.goto 143, 3) := dk_167 0 143 (dk_at dksX5_act_2 12 rfl rfl)
theorem dX5_act_107 : decode cX5_act 107 = .ok (.aload_n 0, 1) := dk_42 (dk_at dksX5_act_2 15 rfl rfl)
theorem dX5_act_108 : decode cX5_act 108 = .ok (.dup, 1) := dk_89 (dk_at dksX5_act_2 16 rfl rfl)
theorem dX5_act_109 : decode cX5_act 109 = .ok (.getfield 27, 3) := dk_180 0 27 (dk_at dksX5_act_2 17 rfl rfl)
theorem dX5_act_112 : decode cX5_act 112 = .ok (.iconst 1, 1) := dk_4 (dk_at dksX5_act_2 20 rfl rfl)
theorem dX5_act_113 : decode cX5_act 113 = .ok (.ior, 1) := dk_128 (dk_at dksX5_act_2 21 rfl rfl)
theorem dX5_act_114 : decode cX5_act 114 = .ok (.putfield 27, 3) := dk_181 0 27 (dk_at dksX5_act_3 0 rfl rfl)
theorem dX5_act_117 : decode cX5_act 117 = .ok (.goto 130, 3) := dk_167 0 130 (dk_at dksX5_act_3 3 rfl rfl)
theorem dX5_act_120 : decode cX5_act 120 = .ok (.iload_n 2, 1) := dk_28 (dk_at dksX5_act_3 6 rfl rfl)
theorem dX5_act_121 : decode cX5_act 121 = .ok (.aload_n 0, 1) := dk_42 (dk_at dksX5_act_3 7 rfl rfl)
theorem dX5_act_122 : decode cX5_act 122 = .ok (.getfield 19, 3) := dk_180 0 19 (dk_at dksX5_act_3 8 rfl rfl)
theorem dX5_act_125 : decode cX5_act 125 = .ok (.getfield 88, 3) := dk_180 0 88 (dk_at dksX5_act_3 11 rfl rfl)
theorem dX5_act_128 : decode cX5_act 128 = .ok (.if_icmp .eq 23, 3) := dk_159 0 23 (dk_at dksX5_act_3 14 rfl rfl)
theorem dX5_act_131 : decode cX5_act 131 = .ok (.aload_n 0, 1) := dk_42 (dk_at dksX5_act_3 17 rfl rfl)
theorem dX5_act_132 : decode cX5_act 132 = .ok (.getfield 23, 3) := dk_180 0 23 (dk_at dksX5_act_3 18 rfl rfl)
theorem dX5_act_135 : decode cX5_act 135 = .ok (.aload_n 0, 1) := dk_42 (dk_at dksX5_act_3 21 rfl rfl)
theorem dX5_act_136 : decode cX5_act 136 = .ok (.getfield 30, 3) := dk_180 0 30 (dk_at dksX5_act_4 0 rfl rfl)
theorem dX5_act_139 : decode cX5_act 139 = .ok (.ior, 1) := dk_128 (dk_at dksX5_act_4 3 rfl rfl)
theorem dX5_act_140 : decode cX5_act 140 = .ok (.iload_n 2, 1) := dk_28 (dk_at dksX5_act_4 4 rfl rfl)
theorem dX5_act_141 : decode cX5_act 141 = .ok (.ishr, 1) := dk_122 (dk_at dksX5_act_4 5 rfl rfl)
theorem dX5_act_142 : decode cX5_act 142 = .ok (.iconst 1, 1) := dk_4 (dk_at dksX5_act_4 6 rfl rfl)
theorem dX5_act_143 : decode cX5_act 143 = .ok (.iand, 1) := dk_126 (dk_at dksX5_act_4 7 rfl rfl)
theorem dX5_act_144 : decode cX5_act 144 = .ok (.ifCond .ne 7, 3) := dk_154 0 7 (dk_at dksX5_act_4 8 rfl rfl)
theorem dX5_act_147 : decode cX5_act 147 = .ok (.iconst 1, 1) := dk_4 (dk_at dksX5_act_4 11 rfl rfl)
theorem dX5_act_148 : decode cX5_act 148 = .ok (.goto 4, 3) := dk_167 0 4 (dk_at dksX5_act_4 12 rfl rfl)
theorem dX5_act_151 : decode cX5_act 151 = .ok (.iconst 0, 1) := dk_3 (dk_at dksX5_act_4 15 rfl rfl)
theorem dX5_act_152 : decode cX5_act 152 = .ok (.istore_n 3, 1) := dk_62 (dk_at dksX5_act_4 16 rfl rfl)
theorem dX5_act_153 : decode cX5_act 153 = .ok (.aload_n 0, 1) := dk_42 (dk_at dksX5_act_4 17 rfl rfl)
theorem dX5_act_154 : decode cX5_act 154 = .ok (.dup, 1) := dk_89 (dk_at dksX5_act_4 18 rfl rfl)
theorem dX5_act_155 : decode cX5_act 155 = .ok (.getfield 30, 3) := dk_180 0 30 (dk_at dksX5_act_4 19 rfl rfl)
theorem dX5_act_158 : decode cX5_act 158 = .ok (.iload_n 3, 1) := dk_29 (dk_at dksX5_act_4 22 rfl rfl)
theorem dX5_act_159 : decode cX5_act 159 = .ok (.ifCond .eq 9, 3) := dk_153 0 9 (dk_at dksX5_act_5 0 rfl rfl)
theorem dX5_act_162 : decode cX5_act 162 = .ok (.iconst 1, 1) := dk_4 (dk_at dksX5_act_5 3 rfl rfl)
theorem dX5_act_163 : decode cX5_act 163 = .ok (.iload_n 2, 1) := dk_28 (dk_at dksX5_act_5 4 rfl rfl)
theorem dX5_act_164 : decode cX5_act 164 = .ok (.ishl, 1) := dk_120 (dk_at dksX5_act_5 5 rfl rfl)
theorem dX5_act_165 : decode cX5_act 165 = .ok (.goto 4, 3) := dk_167 0 4 (dk_at dksX5_act_5 6 rfl rfl)
theorem dX5_act_168 : decode cX5_act 168 = .ok (.iconst 0, 1) := dk_3 (dk_at dksX5_act_5 9 rfl rfl)
theorem dX5_act_169 : decode cX5_act 169 = .ok (.ior, 1) := dk_128 (dk_at dksX5_act_5 10 rfl rfl)
theorem dX5_act_170 : decode cX5_act 170 = .ok (.putfield 30, 3) := dk_181 0 30 (dk_at dksX5_act_5 11 rfl rfl)
theorem dX5_act_173 : decode cX5_act 173 = .ok (.iload_n 3, 1) := dk_29 (dk_at dksX5_act_5 14 rfl rfl)
theorem dX5_act_174 : decode cX5_act 174 = .ok (.ifCond .eq 73, 3) := dk_153 0 73 (dk_at dksX5_act_5 15 rfl rfl)
theorem dX5_act_177 : decode cX5_act 177 = .ok (.aload_n 0, 1) := dk_42 (dk_at dksX5_act_5 18 rfl rfl)
theorem dX5_act_178 : decode cX5_act 178 = .ok (.getfield 9, 3) := dk_180 0 9 (dk_at dksX5_act_5 19 rfl rfl)
theorem dX5_act_181 : decode cX5_act 181 = .ok (.aload_n 0, 1) := dk_42 (dk_at dksX5_act_5 22 rfl rfl)
theorem dX5_act_182 : decode cX5_act 182 = .ok (.getfield 15, 3) := dk_180 0 15 (dk_at dksX5_act_6 0 rfl rfl)
theorem dX5_act_185 : decode cX5_act 185 = .ok (.iload_n 2, 1) := dk_28 (dk_at dksX5_act_6 3 rfl rfl)
theorem dX5_act_186 : decode cX5_act 186 = .ok (.aload_n 0, 1) := dk_42 (dk_at dksX5_act_6 4 rfl rfl)
theorem dX5_act_187 : decode cX5_act 187 = .ok (.getfield 23, 3) := dk_180 0 23 (dk_at dksX5_act_6 5 rfl rfl)
theorem dX5_act_190 : decode cX5_act 190 = .ok (.iconst 1, 1) := dk_4 (dk_at dksX5_act_6 8 rfl rfl)
theorem dX5_act_191 : decode cX5_act 191 = .ok (.aload_n 0, 1) := dk_42 (dk_at dksX5_act_6 9 rfl rfl)
theorem dX5_act_192 : decode cX5_act 192 = .ok (.getfield 19, 3) := dk_180 0 19 (dk_at dksX5_act_6 10 rfl rfl)
theorem dX5_act_195 : decode cX5_act 195 = .ok (.getfield 88, 3) := dk_180 0 88 (dk_at dksX5_act_6 13 rfl rfl)
theorem dX5_act_198 : decode cX5_act 198 = .ok (.ishl, 1) := dk_120 (dk_at dksX5_act_6 16 rfl rfl)
theorem dX5_act_199 : decode cX5_act 199 = .ok (.ior, 1) := dk_128 (dk_at dksX5_act_6 17 rfl rfl)
theorem dX5_act_200 : decode cX5_act 200 = .ok (.invokevirtual 89, 3) := dk_182 0 89 (dk_at dksX5_act_6 18 rfl rfl)
theorem dX5_act_203 : decode cX5_act 203 = .ok (.aload_n 0, 1) := dk_42 (dk_at dksX5_act_6 21 rfl rfl)
theorem dX5_act_204 : decode cX5_act 204 = .ok (.getfield 9, 3) := dk_180 0 9 (dk_at dksX5_act_7 0 rfl rfl)
theorem dX5_act_207 : decode cX5_act 207 = .ok (.dup, 1) := dk_89 (dk_at dksX5_act_7 3 rfl rfl)
theorem dX5_act_208 : decode cX5_act 208 = .ok (.getfield 93, 3) := dk_180 0 93 (dk_at dksX5_act_7 4 rfl rfl)
theorem dX5_act_211 : decode cX5_act 211 = .ok (.iconst 1, 1) := dk_4 (dk_at dksX5_act_7 7 rfl rfl)
theorem dX5_act_212 : decode cX5_act 212 = .ok (.iadd, 1) := dk_96 (dk_at dksX5_act_7 8 rfl rfl)
theorem dX5_act_213 : decode cX5_act 213 = .ok (.putfield 93, 3) := dk_181 0 93 (dk_at dksX5_act_7 9 rfl rfl)
theorem dX5_act_216 : decode cX5_act 216 = .ok (.goto 31, 3) := dk_167 0 31 (dk_at dksX5_act_7 12 rfl rfl)
theorem dX5_act_219 : decode cX5_act 219 = .ok (.aload_n 0, 1) := dk_42 (dk_at dksX5_act_7 15 rfl rfl)
theorem dX5_act_220 : decode cX5_act 220 = .ok (.iconst 1, 1) := dk_4 (dk_at dksX5_act_7 16 rfl rfl)
theorem dX5_act_221 : decode cX5_act 221 = .ok (.putfield 33, 3) := dk_181 0 33 (dk_at dksX5_act_7 17 rfl rfl)
theorem dX5_act_224 : decode cX5_act 224 = .ok (.goto 23, 3) := dk_167 0 23 (dk_at dksX5_act_7 20 rfl rfl)
theorem dX5_act_227 : decode cX5_act 227 = .ok (.aload_n 0, 1) := dk_42 (dk_at dksX5_act_7 23 rfl rfl)
theorem dX5_act_228 : decode cX5_act 228 = .ok (.invokevirtual 96, 3) := dk_182 0 96 (dk_at dksX5_act_8 0 rfl rfl)
theorem dX5_act_231 : decode cX5_act 231 = .ok (.goto 16, 3) := dk_167 0 16 (dk_at dksX5_act_8 3 rfl rfl)
theorem dX5_act_234 : decode cX5_act 234 = .ok (.aload_n 0, 1) := dk_42 (dk_at dksX5_act_8 6 rfl rfl)
theorem dX5_act_235 : decode cX5_act 235 = .ok (.iconst 1, 1) := dk_4 (dk_at dksX5_act_8 7 rfl rfl)
theorem dX5_act_236 : decode cX5_act 236 = .ok (.putfield 37, 3) := dk_181 0 37 (dk_at dksX5_act_8 8 rfl rfl)
theorem dX5_act_239 : decode cX5_act 239 = .ok (.goto 8, 3) := dk_167 0 8 (dk_at dksX5_act_8 11 rfl rfl)
theorem dX5_act_242 : decode cX5_act 242 = .ok (.aload_n 0, 1) := dk_42 (dk_at dksX5_act_8 14 rfl rfl)
theorem dX5_act_243 : decode cX5_act 243 = .ok (.iconst 1, 1) := dk_4 (dk_at dksX5_act_8 15 rfl rfl)
theorem dX5_act_244 : decode cX5_act 244 = .ok (.putfield 43, 3) := dk_181 0 43 (dk_at dksX5_act_8 16 rfl rfl)
theorem dX5_act_247 : decode cX5_act 247 = .ok (.return_, 1) := dk_177 (dk_at dksX5_act_8 19 rfl rfl)
abbrev cX5_answer : ByteArray := prog_3_method_5_code
def yX5_answer : MethodName := ⟨RX5, "answer", "()V"⟩
def dkwX5_answer_5 : List UInt8 := [181, 0, 40, 177]
abbrev dktX5_answer_5 : List UInt8 := dkwX5_answer_5 ++ []
def dkwX5_answer_4 : List UInt8 := [42, 180, 0, 19, 180, 0, 99, 42, 180, 0, 15, 180, 0, 51, 42, 180, 0, 15, 180, 0, 103, 79, 42, 4]
abbrev dktX5_answer_4 : List UInt8 := dkwX5_answer_4 ++ dktX5_answer_5
def dkwX5_answer_3 : List UInt8 := [153, 0, 51, 42, 180, 0, 15, 180, 0, 51, 42, 180, 0, 19, 180, 0, 88, 159, 0, 34, 28, 153, 0, 30]
abbrev dktX5_answer_3 : List UInt8 := dkwX5_answer_3 ++ dktX5_answer_4
def dkwX5_answer_2 : List UInt8 := [180, 0, 15, 180, 0, 69, 154, 0, 68, 42, 180, 0, 15, 42, 180, 0, 19, 180, 0, 88, 182, 0, 59]
abbrev dktX5_answer_2 : List UInt8 := dkwX5_answer_2 ++ dktX5_answer_3
def dkwX5_answer_1 : List UInt8 := [180, 0, 103, 27, 100, 42, 180, 0, 19, 180, 0, 106, 161, 0, 7, 4, 167, 0, 4, 3, 61, 42]
abbrev dktX5_answer_1 : List UInt8 := dkwX5_answer_1 ++ dktX5_answer_2
def dkwX5_answer_0 : List UInt8 := [42, 180, 0, 19, 180, 0, 99, 42, 180, 0, 15, 180, 0, 51, 46, 60, 27, 155, 0, 22, 42, 180, 0, 15]
abbrev dktX5_answer_0 : List UInt8 := dkwX5_answer_0 ++ dktX5_answer_1
theorem dksX5_answer_0 : cX5_answer.data.toList.drop 0 = dktX5_answer_0 := by decide +kernel
theorem dksX5_answer_1 : cX5_answer.data.toList.drop 24 = dktX5_answer_1 := dk_seg dksX5_answer_0 24 rfl rfl
theorem dksX5_answer_2 : cX5_answer.data.toList.drop 46 = dktX5_answer_2 := dk_seg dksX5_answer_1 22 rfl rfl
theorem dksX5_answer_3 : cX5_answer.data.toList.drop 69 = dktX5_answer_3 := dk_seg dksX5_answer_2 23 rfl rfl
theorem dksX5_answer_4 : cX5_answer.data.toList.drop 93 = dktX5_answer_4 := dk_seg dksX5_answer_3 24 rfl rfl
theorem dksX5_answer_5 : cX5_answer.data.toList.drop 117 = dktX5_answer_5 := dk_seg dksX5_answer_4 24 rfl rfl
theorem dX5_answer_0 : decode cX5_answer 0 = .ok (.aload_n 0, 1) := dk_42 (dk_at dksX5_answer_0 0 rfl rfl)
theorem dX5_answer_1 : decode cX5_answer 1 = .ok (.getfield 19, 3) := dk_180 0 19 (dk_at dksX5_answer_0 1 rfl rfl)
theorem dX5_answer_4 : decode cX5_answer 4 = .ok (.getfield 99, 3) := dk_180 0 99 (dk_at dksX5_answer_0 4 rfl rfl)
theorem dX5_answer_7 : decode cX5_answer 7 = .ok (.aload_n 0, 1) := dk_42 (dk_at dksX5_answer_0 7 rfl rfl)
theorem dX5_answer_8 : decode cX5_answer 8 = .ok (.getfield 15, 3) := dk_180 0 15 (dk_at dksX5_answer_0 8 rfl rfl)
theorem dX5_answer_11 : decode cX5_answer 11 = .ok (.getfield 51, 3) := dk_180 0 51 (dk_at dksX5_answer_0 11 rfl rfl)
theorem dX5_answer_14 : decode cX5_answer 14 = .ok (.iaload, 1) := dk_46 (dk_at dksX5_answer_0 14 rfl rfl)
theorem dX5_answer_15 : decode cX5_answer 15 = .ok (.istore_n 1, 1) := dk_60 (dk_at dksX5_answer_0 15 rfl rfl)
theorem dX5_answer_16 : decode cX5_answer 16 = .ok (.iload_n 1, 1) := dk_27 (dk_at dksX5_answer_0 16 rfl rfl)
theorem dX5_answer_17 : decode cX5_answer 17 = .ok (.ifCond .lt 22, 3) := dk_155 0 22 (dk_at dksX5_answer_0 17 rfl rfl)
theorem dX5_answer_20 : decode cX5_answer 20 = .ok (.aload_n 0, 1) := dk_42 (dk_at dksX5_answer_0 20 rfl rfl)
theorem dX5_answer_21 : decode cX5_answer 21 = .ok (.getfield 15, 3) := dk_180 0 15 (dk_at dksX5_answer_0 21 rfl rfl)
theorem dX5_answer_24 : decode cX5_answer 24 = .ok (.getfield 103, 3) := dk_180 0 103 (dk_at dksX5_answer_1 0 rfl rfl)
theorem dX5_answer_27 : decode cX5_answer 27 = .ok (.iload_n 1, 1) := dk_27 (dk_at dksX5_answer_1 3 rfl rfl)
theorem dX5_answer_28 : decode cX5_answer 28 = .ok (.isub, 1) := dk_100 (dk_at dksX5_answer_1 4 rfl rfl)
theorem dX5_answer_29 : decode cX5_answer 29 = .ok (.aload_n 0, 1) := dk_42 (dk_at dksX5_answer_1 5 rfl rfl)
theorem dX5_answer_30 : decode cX5_answer 30 = .ok (.getfield 19, 3) := dk_180 0 19 (dk_at dksX5_answer_1 6 rfl rfl)
theorem dX5_answer_33 : decode cX5_answer 33 = .ok (.getfield 106, 3) := dk_180 0 106 (dk_at dksX5_answer_1 9 rfl rfl)
theorem dX5_answer_36 : decode cX5_answer 36 = .ok (.if_icmp .lt 7, 3) := dk_161 0 7 (dk_at dksX5_answer_1 12 rfl rfl)
theorem dX5_answer_39 : decode cX5_answer 39 = .ok (.iconst 1, 1) := dk_4 (dk_at dksX5_answer_1 15 rfl rfl)
theorem dX5_answer_40 : decode cX5_answer 40 = .ok (.goto 4, 3) := dk_167 0 4 (dk_at dksX5_answer_1 16 rfl rfl)
theorem dX5_answer_43 : decode cX5_answer 43 = .ok (.iconst 0, 1) := dk_3 (dk_at dksX5_answer_1 19 rfl rfl)
theorem dX5_answer_44 : decode cX5_answer 44 = .ok (.istore_n 2, 1) := dk_61 (dk_at dksX5_answer_1 20 rfl rfl)
theorem dX5_answer_45 : decode cX5_answer 45 = .ok (.aload_n 0, 1) := dk_42 (dk_at dksX5_answer_1 21 rfl rfl)
theorem dX5_answer_46 : decode cX5_answer 46 = .ok (.getfield 15, 3) := dk_180 0 15 (dk_at dksX5_answer_2 0 rfl rfl)
theorem dX5_answer_49 : decode cX5_answer 49 = .ok (.getfield 69, 3) := dk_180 0 69 (dk_at dksX5_answer_2 3 rfl rfl)
theorem dX5_answer_52 : decode cX5_answer 52 = .ok (.ifCond .ne 68, 3) := dk_154 0 68 (dk_at dksX5_answer_2 6 rfl rfl)
theorem dX5_answer_55 : decode cX5_answer 55 = .ok (.aload_n 0, 1) := dk_42 (dk_at dksX5_answer_2 9 rfl rfl)
theorem dX5_answer_56 : decode cX5_answer 56 = .ok (.getfield 15, 3) := dk_180 0 15 (dk_at dksX5_answer_2 10 rfl rfl)
theorem dX5_answer_59 : decode cX5_answer 59 = .ok (.aload_n 0, 1) := dk_42 (dk_at dksX5_answer_2 13 rfl rfl)
theorem dX5_answer_60 : decode cX5_answer 60 = .ok (.getfield 19, 3) := dk_180 0 19 (dk_at dksX5_answer_2 14 rfl rfl)
theorem dX5_answer_63 : decode cX5_answer 63 = .ok (.getfield 88, 3) := dk_180 0 88 (dk_at dksX5_answer_2 17 rfl rfl)
theorem dX5_answer_66 : decode cX5_answer 66 = .ok (.invokevirtual 59, 3) := dk_182 0 59 (dk_at dksX5_answer_2 20 rfl rfl)
theorem dX5_answer_69 : decode cX5_answer 69 = .ok (.ifCond .eq 51, 3) := dk_153 0 51 (dk_at dksX5_answer_3 0 rfl rfl)
theorem dX5_answer_72 : decode cX5_answer 72 = .ok (.aload_n 0, 1) := dk_42 (dk_at dksX5_answer_3 3 rfl rfl)
theorem dX5_answer_73 : decode cX5_answer 73 = .ok (.getfield 15, 3) := dk_180 0 15 (dk_at dksX5_answer_3 4 rfl rfl)
theorem dX5_answer_76 : decode cX5_answer 76 = .ok (.getfield 51, 3) := dk_180 0 51 (dk_at dksX5_answer_3 7 rfl rfl)
theorem dX5_answer_79 : decode cX5_answer 79 = .ok (.aload_n 0, 1) := dk_42 (dk_at dksX5_answer_3 10 rfl rfl)
theorem dX5_answer_80 : decode cX5_answer 80 = .ok (.getfield 19, 3) := dk_180 0 19 (dk_at dksX5_answer_3 11 rfl rfl)
theorem dX5_answer_83 : decode cX5_answer 83 = .ok (.getfield 88, 3) := dk_180 0 88 (dk_at dksX5_answer_3 14 rfl rfl)
theorem dX5_answer_86 : decode cX5_answer 86 = .ok (.if_icmp .eq 34, 3) := dk_159 0 34 (dk_at dksX5_answer_3 17 rfl rfl)
theorem dX5_answer_89 : decode cX5_answer 89 = .ok (.iload_n 2, 1) := dk_28 (dk_at dksX5_answer_3 20 rfl rfl)
theorem dX5_answer_90 : decode cX5_answer 90 = .ok (.ifCond .eq 30, 3) := dk_153 0 30 (dk_at dksX5_answer_3 21 rfl rfl)
theorem dX5_answer_93 : decode cX5_answer 93 = .ok (.aload_n 0, 1) := dk_42 (dk_at dksX5_answer_4 0 rfl rfl)
theorem dX5_answer_94 : decode cX5_answer 94 = .ok (.getfield 19, 3) := dk_180 0 19 (dk_at dksX5_answer_4 1 rfl rfl)
theorem dX5_answer_97 : decode cX5_answer 97 = .ok (.getfield 99, 3) := dk_180 0 99 (dk_at dksX5_answer_4 4 rfl rfl)
theorem dX5_answer_100 : decode cX5_answer 100 = .ok (.aload_n 0, 1) := dk_42 (dk_at dksX5_answer_4 7 rfl rfl)
theorem dX5_answer_101 : decode cX5_answer 101 = .ok (.getfield 15, 3) := dk_180 0 15 (dk_at dksX5_answer_4 8 rfl rfl)
theorem dX5_answer_104 : decode cX5_answer 104 = .ok (.getfield 51, 3) := dk_180 0 51 (dk_at dksX5_answer_4 11 rfl rfl)
theorem dX5_answer_107 : decode cX5_answer 107 = .ok (.aload_n 0, 1) := dk_42 (dk_at dksX5_answer_4 14 rfl rfl)
theorem dX5_answer_108 : decode cX5_answer 108 = .ok (.getfield 15, 3) := dk_180 0 15 (dk_at dksX5_answer_4 15 rfl rfl)
theorem dX5_answer_111 : decode cX5_answer 111 = .ok (.getfield 103, 3) := dk_180 0 103 (dk_at dksX5_answer_4 18 rfl rfl)
theorem dX5_answer_114 : decode cX5_answer 114 = .ok (.iastore, 1) := dk_79 (dk_at dksX5_answer_4 21 rfl rfl)
theorem dX5_answer_115 : decode cX5_answer 115 = .ok (.aload_n 0, 1) := dk_42 (dk_at dksX5_answer_4 22 rfl rfl)
theorem dX5_answer_116 : decode cX5_answer 116 = .ok (.iconst 1, 1) := dk_4 (dk_at dksX5_answer_4 23 rfl rfl)
theorem dX5_answer_117 : decode cX5_answer 117 = .ok (.putfield 40, 3) := dk_181 0 40 (dk_at dksX5_answer_5 0 rfl rfl)
theorem dX5_answer_120 : decode cX5_answer 120 = .ok (.return_, 1) := dk_177 (dk_at dksX5_answer_5 3 rfl rfl)
theorem q79 : (Jvm.Cond.initialized "SortedPost$Arrival") ∈ lw_all := lw_g (lw_at lw_m1 11 rfl) rfl
theorem q258 : (Jvm.Cond.fieldLinkNest "SortedPost$Arrival" (46 : Nat) "SortedPost$Atom" "kind" "I" "SortedPost") ∈ lw_tbl := lw_at lw_m1 190 rfl
theorem q261 : (Jvm.Cond.fieldLinkNest "SortedPost$Arrival" (56 : Nat) "SortedPost$Atom" "number" "I" "SortedPost") ∈ lw_tbl := lw_at lw_m1 193 rfl
theorem q345 : (Jvm.Cond.selects "SortedPost$Arrival" ({ cls := "java/lang/Object", name := "getClass", desc := "()Ljava/lang/Class;" } : Jvm.MethodName) ({ cls := "java/lang/Object", name := "getClass", desc := "()Ljava/lang/Class;" } : Jvm.MethodName)) ∈ lw_all := lw_g (lw_at lw_m2 37 rfl) rfl
theorem q531 : (Jvm.Cond.fieldLinkNest "SortedPost$Arrival" (88 : Nat) "SortedPost$Box" "number" "I" "SortedPost") ∈ lw_tbl := lw_at lw_m2 223 rfl
theorem q536 : (Jvm.Cond.fieldLinkNest "SortedPost$Arrival" (76 : Nat) "SortedPost$Box" "had" "[Z" "SortedPost") ∈ lw_tbl := lw_at lw_m2 228 rfl
theorem q539 : (Jvm.Cond.fieldLinkNest "SortedPost$Arrival" (99 : Nat) "SortedPost$Box" "answered" "[I" "SortedPost") ∈ lw_tbl := lw_at lw_m2 231 rfl
theorem q541 : (Jvm.Cond.fieldLinkNest "SortedPost$Arrival" (106 : Nat) "SortedPost$Box" "days" "I" "SortedPost") ∈ lw_tbl := lw_at lw_m2 233 rfl
theorem q562 : (Jvm.Cond.instantiable "SortedPost$Arrival" (10 : Nat)) ∈ lw_all := lw_g (lw_at lw_m3 14 rfl) rfl
theorem q564 : (Jvm.Cond.instanceMethod ({ cls := "SortedPost$Arrival", name := "<init>", desc := "(LSortedPost;)V" } : Jvm.MethodName)) ∈ lw_all := lw_g (lw_at lw_m3 16 rfl) rfl
theorem q565 : (Jvm.Cond.code ({ cls := "SortedPost$Arrival", name := "<init>", desc := "(LSortedPost;)V" } : Jvm.MethodName) prog_3_method_1_code (2 : Nat) (Option.none : Option Jvm.ClassFile.FieldType)) ∈ lw_all := lw_g (lw_at lw_m3 17 rfl) rfl
theorem q566 : (Jvm.Cond.methodLink "SortedPost$Arrival" (3 : Nat) ({ cls := "java/lang/Object", name := "<init>", desc := "()V" } : Jvm.MethodName)) ∈ lw_all := lw_g (lw_at lw_m3 18 rfl) rfl
theorem q567 : (Jvm.Cond.fieldLink "SortedPost$Arrival" (9 : Nat) "SortedPost$Arrival" "post" "LSortedPost;") ∈ lw_all := lw_g (lw_at lw_m3 19 rfl) rfl
theorem q568 : (Jvm.Cond.fieldLink "SortedPost$Arrival" (15 : Nat) "SortedPost$Arrival" "letter" "LSortedPost$Letter;") ∈ lw_all := lw_g (lw_at lw_m3 20 rfl) rfl
theorem q570 : (Jvm.Cond.fieldLink "SortedPost$Arrival" (19 : Nat) "SortedPost$Arrival" "box" "LSortedPost$Box;") ∈ lw_all := lw_g (lw_at lw_m3 22 rfl) rfl
theorem q572 : (Jvm.Cond.fieldLink "SortedPost$Arrival" (23 : Nat) "SortedPost$Arrival" "trace" "I") ∈ lw_all := lw_g (lw_at lw_m3 24 rfl) rfl
theorem q573 : (Jvm.Cond.fieldLink "SortedPost$Arrival" (27 : Nat) "SortedPost$Arrival" "trays" "I") ∈ lw_all := lw_g (lw_at lw_m3 25 rfl) rfl
theorem q575 : (Jvm.Cond.fieldLink "SortedPost$Arrival" (30 : Nat) "SortedPost$Arrival" "sent" "I") ∈ lw_all := lw_g (lw_at lw_m3 27 rfl) rfl
theorem q577 : (Jvm.Cond.fieldLink "SortedPost$Arrival" (33 : Nat) "SortedPost$Arrival" "isDropped" "Z") ∈ lw_all := lw_g (lw_at lw_m3 29 rfl) rfl
theorem q579 : (Jvm.Cond.fieldLink "SortedPost$Arrival" (37 : Nat) "SortedPost$Arrival" "isMarked" "Z") ∈ lw_all := lw_g (lw_at lw_m3 31 rfl) rfl
theorem q581 : (Jvm.Cond.fieldLink "SortedPost$Arrival" (40 : Nat) "SortedPost$Arrival" "isAnswered" "Z") ∈ lw_all := lw_g (lw_at lw_m3 33 rfl) rfl
theorem q583 : (Jvm.Cond.fieldLink "SortedPost$Arrival" (43 : Nat) "SortedPost$Arrival" "stops" "Z") ∈ lw_all := lw_g (lw_at lw_m3 35 rfl) rfl
theorem q585 : (Jvm.Cond.laysFinal "SortedPost$Arrival" "SortedPost$Arrival" "post" "LSortedPost;") ∈ lw_all := lw_g (lw_at lw_m3 37 rfl) rfl
theorem q586 : (Jvm.Cond.soleField "SortedPost$Arrival" "post") ∈ lw_all := lw_g (lw_at lw_m3 38 rfl) rfl
theorem q587 : (Jvm.Cond.lays "SortedPost$Arrival" "SortedPost$Arrival" "letter" "LSortedPost$Letter;") ∈ lw_all := lw_g (lw_at lw_m3 39 rfl) rfl
theorem q588 : (Jvm.Cond.soleField "SortedPost$Arrival" "letter") ∈ lw_all := lw_g (lw_at lw_m3 40 rfl) rfl
theorem q589 : (Jvm.Cond.lays "SortedPost$Arrival" "SortedPost$Arrival" "box" "LSortedPost$Box;") ∈ lw_all := lw_g (lw_at lw_m3 41 rfl) rfl
theorem q590 : (Jvm.Cond.soleField "SortedPost$Arrival" "box") ∈ lw_all := lw_g (lw_at lw_m3 42 rfl) rfl
theorem q591 : (Jvm.Cond.lays "SortedPost$Arrival" "SortedPost$Arrival" "trace" "I") ∈ lw_all := lw_g (lw_at lw_m3 43 rfl) rfl
theorem q592 : (Jvm.Cond.soleField "SortedPost$Arrival" "trace") ∈ lw_all := lw_g (lw_at lw_m3 44 rfl) rfl
theorem q593 : (Jvm.Cond.lays "SortedPost$Arrival" "SortedPost$Arrival" "trays" "I") ∈ lw_all := lw_g (lw_at lw_m3 45 rfl) rfl
theorem q594 : (Jvm.Cond.soleField "SortedPost$Arrival" "trays") ∈ lw_all := lw_g (lw_at lw_m3 46 rfl) rfl
theorem q595 : (Jvm.Cond.lays "SortedPost$Arrival" "SortedPost$Arrival" "sent" "I") ∈ lw_all := lw_g (lw_at lw_m3 47 rfl) rfl
theorem q596 : (Jvm.Cond.soleField "SortedPost$Arrival" "sent") ∈ lw_all := lw_g (lw_at lw_m3 48 rfl) rfl
theorem q597 : (Jvm.Cond.lays "SortedPost$Arrival" "SortedPost$Arrival" "isDropped" "Z") ∈ lw_all := lw_g (lw_at lw_m3 49 rfl) rfl
theorem q598 : (Jvm.Cond.soleField "SortedPost$Arrival" "isDropped") ∈ lw_all := lw_g (lw_at lw_m3 50 rfl) rfl
theorem q599 : (Jvm.Cond.lays "SortedPost$Arrival" "SortedPost$Arrival" "isMarked" "Z") ∈ lw_all := lw_g (lw_at lw_m3 51 rfl) rfl
theorem q600 : (Jvm.Cond.soleField "SortedPost$Arrival" "isMarked") ∈ lw_all := lw_g (lw_at lw_m3 52 rfl) rfl
theorem q601 : (Jvm.Cond.lays "SortedPost$Arrival" "SortedPost$Arrival" "isAnswered" "Z") ∈ lw_all := lw_g (lw_at lw_m3 53 rfl) rfl
theorem q602 : (Jvm.Cond.soleField "SortedPost$Arrival" "isAnswered") ∈ lw_all := lw_g (lw_at lw_m3 54 rfl) rfl
theorem q603 : (Jvm.Cond.lays "SortedPost$Arrival" "SortedPost$Arrival" "stops" "Z") ∈ lw_all := lw_g (lw_at lw_m3 55 rfl) rfl
theorem q604 : (Jvm.Cond.soleField "SortedPost$Arrival" "stops") ∈ lw_all := lw_g (lw_at lw_m3 56 rfl) rfl
theorem q605 : (Jvm.Cond.superclass "SortedPost$Arrival" "java/lang/Object") ∈ lw_all := lw_g (lw_at lw_m3 57 rfl) rfl
theorem q642 : (Jvm.Cond.fieldLinkNest "SortedPost$Arrival" (93 : Nat) "SortedPost" "sentOn" "I" "SortedPost") ∈ lw_tbl := lw_at lw_m3 94 rfl
theorem q747 : (Jvm.Cond.fieldLinkNest "SortedPost$Arrival" (51 : Nat) "SortedPost$Letter" "from" "I" "SortedPost") ∈ lw_tbl := lw_at lw_m3 199 rfl
theorem q754 : (Jvm.Cond.fieldLinkNest "SortedPost$Arrival" (66 : Nat) "SortedPost$Letter" "size" "I" "SortedPost") ∈ lw_tbl := lw_at lw_m3 206 rfl
theorem q757 : (Jvm.Cond.fieldLinkNest "SortedPost$Arrival" (69 : Nat) "SortedPost$Letter" "flags" "I" "SortedPost") ∈ lw_tbl := lw_at lw_m3 209 rfl
theorem q760 : (Jvm.Cond.fieldLinkNest "SortedPost$Arrival" (82 : Nat) "SortedPost$Letter" "id" "I" "SortedPost") ∈ lw_tbl := lw_at lw_m3 212 rfl
theorem q763 : (Jvm.Cond.fieldLinkNest "SortedPost$Arrival" (85 : Nat) "SortedPost$Letter" "ref" "I" "SortedPost") ∈ lw_tbl := lw_at lw_m3 215 rfl
theorem q766 : (Jvm.Cond.fieldLinkNest "SortedPost$Arrival" (103 : Nat) "SortedPost$Letter" "day" "I" "SortedPost") ∈ lw_tbl := lw_at lw_m3 218 rfl
theorem q804 : (Jvm.Cond.instanceMethod ({ cls := "SortedPost$Arrival", name := "begin", desc := "(LSortedPost$Letter;LSortedPost$Box;I)V" } : Jvm.MethodName)) ∈ lw_all := lw_g (lw_at lw_m4 16 rfl) rfl
theorem q805 : (Jvm.Cond.selects "SortedPost$Arrival" ({ cls := "SortedPost$Arrival", name := "begin", desc := "(LSortedPost$Letter;LSortedPost$Box;I)V" } : Jvm.MethodName) ({ cls := "SortedPost$Arrival", name := "begin", desc := "(LSortedPost$Letter;LSortedPost$Box;I)V" } : Jvm.MethodName)) ∈ lw_all := lw_g (lw_at lw_m4 17 rfl) rfl
theorem q806 : (Jvm.Cond.code ({ cls := "SortedPost$Arrival", name := "begin", desc := "(LSortedPost$Letter;LSortedPost$Box;I)V" } : Jvm.MethodName) prog_3_method_2_code (4 : Nat) (Option.none : Option Jvm.ClassFile.FieldType)) ∈ lw_all := lw_g (lw_at lw_m4 18 rfl) rfl
theorem q827 : (Jvm.Cond.castable "SortedPost$Arrival" "SortedPost$Truths") ∈ lw_tbl := lw_at lw_m4 39 rfl
theorem q828 : (Jvm.Cond.selects "SortedPost$Arrival" ({ cls := "SortedPost$Truths", name := "isTrue", desc := "(LSortedPost$Atom;)Z" } : Jvm.MethodName) ({ cls := "SortedPost$Arrival", name := "isTrue", desc := "(LSortedPost$Atom;)Z" } : Jvm.MethodName)) ∈ lw_all := lw_g (lw_at lw_m4 40 rfl) rfl
theorem q829 : (Jvm.Cond.unhidden "SortedPost$Arrival" "isTrue" "(LSortedPost$Atom;)Z") ∈ lw_tbl := lw_at lw_m4 41 rfl
theorem q830 : (Jvm.Cond.instanceMethod ({ cls := "SortedPost$Arrival", name := "isTrue", desc := "(LSortedPost$Atom;)Z" } : Jvm.MethodName)) ∈ lw_all := lw_g (lw_at lw_m4 42 rfl) rfl
theorem q831 : (Jvm.Cond.publicMethod ({ cls := "SortedPost$Arrival", name := "isTrue", desc := "(LSortedPost$Atom;)Z" } : Jvm.MethodName)) ∈ lw_tbl := lw_at lw_m4 43 rfl
theorem q832 : (Jvm.Cond.code ({ cls := "SortedPost$Arrival", name := "isTrue", desc := "(LSortedPost$Atom;)Z" } : Jvm.MethodName) prog_3_method_3_code (2 : Nat) (Option.some Jvm.ClassFile.FieldType.boolean)) ∈ lw_all := lw_g (lw_at lw_m4 44 rfl) rfl
theorem q833 : (Jvm.Cond.methodLink "SortedPost$Arrival" (59 : Nat) ({ cls := "SortedPost$Letter", name := "isFor", desc := "(I)Z" } : Jvm.MethodName)) ∈ lw_all := lw_g (lw_at lw_m4 45 rfl) rfl
theorem q834 : (Jvm.Cond.methodLink "SortedPost$Arrival" (63 : Nat) ({ cls := "SortedPost$Letter", name := "hasWord", desc := "(I)Z" } : Jvm.MethodName)) ∈ lw_all := lw_g (lw_at lw_m4 46 rfl) rfl
theorem q838 : (Jvm.Cond.methodLinkNest "SortedPost$Arrival" (72 : Nat) ({ cls := "SortedPost", name := "isJunk", desc := "(LSortedPost$Letter;)Z" } : Jvm.MethodName) "SortedPost") ∈ lw_tbl := lw_at lw_m4 50 rfl
theorem q875 : (Jvm.Cond.instanceMethod ({ cls := "SortedPost$Arrival", name := "act", desc := "(II)V" } : Jvm.MethodName)) ∈ lw_all := lw_g (lw_at lw_m4 87 rfl) rfl
theorem q876 : (Jvm.Cond.selects "SortedPost$Arrival" ({ cls := "SortedPost$Arrival", name := "act", desc := "(II)V" } : Jvm.MethodName) ({ cls := "SortedPost$Arrival", name := "act", desc := "(II)V" } : Jvm.MethodName)) ∈ lw_all := lw_g (lw_at lw_m4 88 rfl) rfl
theorem q877 : (Jvm.Cond.code ({ cls := "SortedPost$Arrival", name := "act", desc := "(II)V" } : Jvm.MethodName) prog_3_method_4_code (4 : Nat) (Option.none : Option Jvm.ClassFile.FieldType)) ∈ lw_all := lw_g (lw_at lw_m4 89 rfl) rfl
theorem q878 : (Jvm.Cond.methodLinkNest "SortedPost$Arrival" (89 : Nat) ({ cls := "SortedPost", name := "willCome", desc := "(LSortedPost$Letter;II)V" } : Jvm.MethodName) "SortedPost") ∈ lw_tbl := lw_at lw_m4 90 rfl
theorem q879 : (Jvm.Cond.methodLink "SortedPost$Arrival" (96 : Nat) ({ cls := "SortedPost$Arrival", name := "answer", desc := "()V" } : Jvm.MethodName)) ∈ lw_all := lw_g (lw_at lw_m4 91 rfl) rfl
theorem q880 : (Jvm.Cond.privateMethod ({ cls := "SortedPost$Arrival", name := "answer", desc := "()V" } : Jvm.MethodName)) ∈ lw_tbl := lw_at lw_m4 92 rfl
theorem q881 : (Jvm.Cond.instanceMethod ({ cls := "SortedPost$Arrival", name := "answer", desc := "()V" } : Jvm.MethodName)) ∈ lw_all := lw_g (lw_at lw_m4 93 rfl) rfl
theorem q882 : (Jvm.Cond.code ({ cls := "SortedPost$Arrival", name := "answer", desc := "()V" } : Jvm.MethodName) prog_3_method_5_code (3 : Nat) (Option.none : Option Jvm.ClassFile.FieldType)) ∈ lw_all := lw_g (lw_at lw_m4 94 rfl) rfl
theorem q1620 : (Jvm.Cond.castable "SortedPost$Arrival" "java/lang/Object") ∈ lw_tbl := lw_at lw_m7 112 rfl
theorem in_X5 : ∀ w ∈ wsX50, w ∈ lw_all := lw_in wsX50 [585, 587, 589, 591, 593, 595, 597, 599, 601, 603] (by decide +kernel) (by decide +kernel)

/-! SortedPost$Case -/
set_option maxRecDepth 100000
def RX6 : String := "SortedPost$Case"
def TX6 : u_T := fun k => match k with
  | _ => ("SortedPost$Case", "bits", "I", false)
def tyX6 : Nat → FieldType := fun k => match k with
  | _ => .int
abbrev wsX60 : List Cond := u_ws RX6 TX6 1
theorem nmX6 : ∀ a, a < 1 → ∀ b, b < 1 → a ≠ b → (TX6 a).2.1 ≠ (TX6 b).2.1 := by decide +kernel
theorem tyX6_ok : ∀ k, k < 1 → parseFieldDescriptor (TX6 k).2.2.1 = some (tyX6 k) := by decide +kernel
abbrev cX6_init : ByteArray := prog_7_method_1_code
def yX6_init : MethodName := ⟨RX6, "<init>", "()V"⟩
theorem dX6_init_0 : decode cX6_init 0 = .ok (.aload_n 0, 1) := by decide +kernel
theorem dX6_init_1 : decode cX6_init 1 = .ok (.invokespecial 1, 3) := by decide +kernel
theorem dX6_init_4 : decode cX6_init 4 = .ok (.return_, 1) := by decide +kernel
abbrev cX6_isTrue : ByteArray := prog_7_method_2_code
def yX6_isTrue : MethodName := ⟨RX6, "isTrue", "(LSortedPost$Atom;)Z"⟩
def dkwX6_isTrue_0 : List UInt8 := [42, 180, 0, 7, 43, 180, 0, 13, 122, 4, 126, 4, 160, 0, 7, 4, 167, 0, 4, 3, 172]
abbrev dktX6_isTrue_0 : List UInt8 := dkwX6_isTrue_0 ++ []
theorem dksX6_isTrue_0 : cX6_isTrue.data.toList.drop 0 = dktX6_isTrue_0 := by decide +kernel
theorem dX6_isTrue_0 : decode cX6_isTrue 0 = .ok (.aload_n 0, 1) := dk_42 (dk_at dksX6_isTrue_0 0 rfl rfl)
theorem dX6_isTrue_1 : decode cX6_isTrue 1 = .ok (.getfield 7, 3) := dk_180 0 7 (dk_at dksX6_isTrue_0 1 rfl rfl)
theorem dX6_isTrue_4 : decode cX6_isTrue 4 = .ok (.aload_n 1, 1) := dk_43 (dk_at dksX6_isTrue_0 4 rfl rfl)
theorem dX6_isTrue_5 : decode cX6_isTrue 5 = .ok (.getfield 13, 3) := dk_180 0 13 (dk_at dksX6_isTrue_0 5 rfl rfl)
theorem dX6_isTrue_8 : decode cX6_isTrue 8 = .ok (.ishr, 1) := dk_122 (dk_at dksX6_isTrue_0 8 rfl rfl)
theorem dX6_isTrue_9 : decode cX6_isTrue 9 = .ok (.iconst 1, 1) := dk_4 (dk_at dksX6_isTrue_0 9 rfl rfl)
theorem dX6_isTrue_10 : decode cX6_isTrue 10 = .ok (.iand, 1) := dk_126 (dk_at dksX6_isTrue_0 10 rfl rfl)
theorem dX6_isTrue_11 : decode cX6_isTrue 11 = .ok (.iconst 1, 1) := dk_4 (dk_at dksX6_isTrue_0 11 rfl rfl)
theorem dX6_isTrue_12 : decode cX6_isTrue 12 = .ok (.if_icmp .ne 7, 3) := dk_160 0 7 (dk_at dksX6_isTrue_0 12 rfl rfl)
theorem dX6_isTrue_15 : decode cX6_isTrue 15 = .ok (.iconst 1, 1) := dk_4 (dk_at dksX6_isTrue_0 15 rfl rfl)
theorem dX6_isTrue_16 : decode cX6_isTrue 16 = .ok (.goto 4, 3) := dk_167 0 4 (dk_at dksX6_isTrue_0 16 rfl rfl)
theorem dX6_isTrue_19 : decode cX6_isTrue 19 = .ok (.iconst 0, 1) := dk_3 (dk_at dksX6_isTrue_0 19 rfl rfl)
theorem dX6_isTrue_20 : decode cX6_isTrue 20 = .ok (.ireturn, 1) := dk_172 (dk_at dksX6_isTrue_0 20 rfl rfl)
abbrev cX6_canBe : ByteArray := prog_7_method_3_code
def yX6_canBe : MethodName := ⟨RX6, "canBe", "(Ljava/util/List;)Z"⟩
def dkwX6_canBe_6 : List UInt8 := [3, 172, 132, 4, 1, 167, 255, 133, 132, 2, 1, 167, 255, 103, 4, 172]
abbrev dktX6_canBe_6 : List UInt8 := dkwX6_canBe_6 ++ []
def dkwX6_canBe_5 : List UInt8 := [160, 0, 26, 25, 5, 180, 0, 35, 45, 180, 0, 35, 162, 0, 14, 42, 25, 5, 182, 0, 28, 154, 0, 5]
abbrev dktX6_canBe_5 : List UInt8 := dkwX6_canBe_5 ++ dktX6_canBe_6
def dkwX6_canBe_4 : List UInt8 := [3, 54, 6, 21, 6, 154, 0, 43, 45, 180, 0, 32, 16, 62, 160, 0, 36, 25, 5, 180, 0, 32, 16, 62]
abbrev dktX6_canBe_4 : List UInt8 := dkwX6_canBe_4 ++ dktX6_canBe_5
def dkwX6_canBe_3 : List UInt8 := [16, 102, 160, 0, 22, 21, 4, 28, 159, 0, 16, 42, 25, 5, 182, 0, 28, 153, 0, 7, 4, 167, 0, 4]
abbrev dktX6_canBe_3 : List UInt8 := dkwX6_canBe_3 ++ dktX6_canBe_4
def dkwX6_canBe_2 : List UInt8 := [185, 0, 24, 2, 0, 192, 0, 14, 58, 5, 45, 180, 0, 32, 16, 102, 160, 0, 32, 25, 5, 180, 0, 32]
abbrev dktX6_canBe_2 : List UInt8 := dkwX6_canBe_2 ++ dktX6_canBe_3
def dkwX6_canBe_1 : List UInt8 := [54, 4, 21, 4, 43, 185, 0, 18, 1, 0, 162, 0, 118, 42, 45, 182, 0, 28, 153, 0, 110, 43, 21, 4]
abbrev dktX6_canBe_1 : List UInt8 := dkwX6_canBe_1 ++ dktX6_canBe_2
def dkwX6_canBe_0 : List UInt8 := [3, 61, 28, 43, 185, 0, 18, 1, 0, 162, 0, 149, 43, 28, 185, 0, 24, 2, 0, 192, 0, 14, 78, 3]
abbrev dktX6_canBe_0 : List UInt8 := dkwX6_canBe_0 ++ dktX6_canBe_1
theorem dksX6_canBe_0 : cX6_canBe.data.toList.drop 0 = dktX6_canBe_0 := by decide +kernel
theorem dksX6_canBe_1 : cX6_canBe.data.toList.drop 24 = dktX6_canBe_1 := dk_seg dksX6_canBe_0 24 rfl rfl
theorem dksX6_canBe_2 : cX6_canBe.data.toList.drop 48 = dktX6_canBe_2 := dk_seg dksX6_canBe_1 24 rfl rfl
theorem dksX6_canBe_3 : cX6_canBe.data.toList.drop 72 = dktX6_canBe_3 := dk_seg dksX6_canBe_2 24 rfl rfl
theorem dksX6_canBe_4 : cX6_canBe.data.toList.drop 96 = dktX6_canBe_4 := dk_seg dksX6_canBe_3 24 rfl rfl
theorem dksX6_canBe_5 : cX6_canBe.data.toList.drop 120 = dktX6_canBe_5 := dk_seg dksX6_canBe_4 24 rfl rfl
theorem dksX6_canBe_6 : cX6_canBe.data.toList.drop 144 = dktX6_canBe_6 := dk_seg dksX6_canBe_5 24 rfl rfl
theorem dX6_canBe_0 : decode cX6_canBe 0 = .ok (.iconst 0, 1) := dk_3 (dk_at dksX6_canBe_0 0 rfl rfl)
theorem dX6_canBe_1 : decode cX6_canBe 1 = .ok (.istore_n 2, 1) := dk_61 (dk_at dksX6_canBe_0 1 rfl rfl)
theorem dX6_canBe_2 : decode cX6_canBe 2 = .ok (.iload_n 2, 1) := dk_28 (dk_at dksX6_canBe_0 2 rfl rfl)
theorem dX6_canBe_3 : decode cX6_canBe 3 = .ok (.aload_n 1, 1) := dk_43 (dk_at dksX6_canBe_0 3 rfl rfl)
theorem dX6_canBe_4 : decode cX6_canBe 4 = .ok (.invokeinterface 18 1, 5) := by decide +kernel
theorem dX6_canBe_9 : decode cX6_canBe 9 = .ok (.if_icmp .ge 149, 3) := dk_162 0 149 (dk_at dksX6_canBe_0 9 rfl rfl)
theorem dX6_canBe_12 : decode cX6_canBe 12 = .ok (.aload_n 1, 1) := dk_43 (dk_at dksX6_canBe_0 12 rfl rfl)
theorem dX6_canBe_13 : decode cX6_canBe 13 = .ok (.iload_n 2, 1) := dk_28 (dk_at dksX6_canBe_0 13 rfl rfl)
theorem dX6_canBe_14 : decode cX6_canBe 14 = .ok (.invokeinterface 24 2, 5) := by decide +kernel
theorem dX6_canBe_19 : decode cX6_canBe 19 = .ok (.checkcast 14, 3) := dk_192 0 14 (dk_at dksX6_canBe_0 19 rfl rfl)
theorem dX6_canBe_22 : decode cX6_canBe 22 = .ok (.astore_n 3, 1) := dk_78 (dk_at dksX6_canBe_0 22 rfl rfl)
theorem dX6_canBe_23 : decode cX6_canBe 23 = .ok (.iconst 0, 1) := dk_3 (dk_at dksX6_canBe_0 23 rfl rfl)
theorem dX6_canBe_24 : decode cX6_canBe 24 = .ok (.istore 4, 2) := dk_54 4 (dk_at dksX6_canBe_1 0 rfl rfl)
theorem dX6_canBe_26 : decode cX6_canBe 26 = .ok (.iload 4, 2) := dk_21 4 (dk_at dksX6_canBe_1 2 rfl rfl)
theorem dX6_canBe_28 : decode cX6_canBe 28 = .ok (.aload_n 1, 1) := dk_43 (dk_at dksX6_canBe_1 4 rfl rfl)
theorem dX6_canBe_29 : decode cX6_canBe 29 = .ok (.invokeinterface 18 1, 5) := by decide +kernel
theorem dX6_canBe_34 : decode cX6_canBe 34 = .ok (.if_icmp .ge 118, 3) := dk_162 0 118 (dk_at dksX6_canBe_1 10 rfl rfl)
theorem dX6_canBe_37 : decode cX6_canBe 37 = .ok (.aload_n 0, 1) := dk_42 (dk_at dksX6_canBe_1 13 rfl rfl)
theorem dX6_canBe_38 : decode cX6_canBe 38 = .ok (.aload_n 3, 1) := dk_45 (dk_at dksX6_canBe_1 14 rfl rfl)
theorem dX6_canBe_39 : decode cX6_canBe 39 = .ok (.invokevirtual 28, 3) := dk_182 0 28 (dk_at dksX6_canBe_1 15 rfl rfl)
theorem dX6_canBe_42 : decode cX6_canBe 42 = .ok (.ifCond .eq 110, 3) := dk_153 0 110 (dk_at dksX6_canBe_1 18 rfl rfl)
theorem dX6_canBe_45 : decode cX6_canBe 45 = .ok (.aload_n 1, 1) := dk_43 (dk_at dksX6_canBe_1 21 rfl rfl)
theorem dX6_canBe_46 : decode cX6_canBe 46 = .ok (.iload 4, 2) := dk_21 4 (dk_at dksX6_canBe_1 22 rfl rfl)
theorem dX6_canBe_48 : decode cX6_canBe 48 = .ok (.invokeinterface 24 2, 5) := by decide +kernel
theorem dX6_canBe_53 : decode cX6_canBe 53 = .ok (.checkcast 14, 3) := dk_192 0 14 (dk_at dksX6_canBe_2 5 rfl rfl)
theorem dX6_canBe_56 : decode cX6_canBe 56 = .ok (.astore 5, 2) := dk_58 5 (dk_at dksX6_canBe_2 8 rfl rfl)
theorem dX6_canBe_58 : decode cX6_canBe 58 = .ok (.aload_n 3, 1) := dk_45 (dk_at dksX6_canBe_2 10 rfl rfl)
theorem dX6_canBe_59 : decode cX6_canBe 59 = .ok (.getfield 32, 3) := dk_180 0 32 (dk_at dksX6_canBe_2 11 rfl rfl)
theorem dX6_canBe_62 : decode cX6_canBe 62 = .ok (.bipush 102, 2) := dk_16 102 (dk_at dksX6_canBe_2 14 rfl rfl)
theorem dX6_canBe_64 : decode cX6_canBe 64 = .ok (.if_icmp .ne 32, 3) := dk_160 0 32 (dk_at dksX6_canBe_2 16 rfl rfl)
theorem dX6_canBe_67 : decode cX6_canBe 67 = .ok (.aload 5, 2) := dk_25 5 (dk_at dksX6_canBe_2 19 rfl rfl)
theorem dX6_canBe_69 : decode cX6_canBe 69 = .ok (.getfield 32, 3) := dk_180 0 32 (dk_at dksX6_canBe_2 21 rfl rfl)
theorem dX6_canBe_72 : decode cX6_canBe 72 = .ok (.bipush 102, 2) := dk_16 102 (dk_at dksX6_canBe_3 0 rfl rfl)
theorem dX6_canBe_74 : decode cX6_canBe 74 = .ok (.if_icmp .ne 22, 3) := dk_160 0 22 (dk_at dksX6_canBe_3 2 rfl rfl)
theorem dX6_canBe_77 : decode cX6_canBe 77 = .ok (.iload 4, 2) := dk_21 4 (dk_at dksX6_canBe_3 5 rfl rfl)
theorem dX6_canBe_79 : decode cX6_canBe 79 = .ok (.iload_n 2, 1) := dk_28 (dk_at dksX6_canBe_3 7 rfl rfl)
theorem dX6_canBe_80 : decode cX6_canBe 80 = .ok (.if_icmp .eq 16, 3) := dk_159 0 16 (dk_at dksX6_canBe_3 8 rfl rfl)
theorem dX6_canBe_83 : decode cX6_canBe 83 = .ok (.aload_n 0, 1) := dk_42 (dk_at dksX6_canBe_3 11 rfl rfl)
theorem dX6_canBe_84 : decode cX6_canBe 84 = .ok (.aload 5, 2) := dk_25 5 (dk_at dksX6_canBe_3 12 rfl rfl)
theorem dX6_canBe_86 : decode cX6_canBe 86 = .ok (.invokevirtual 28, 3) := dk_182 0 28 (dk_at dksX6_canBe_3 14 rfl rfl)
theorem dX6_canBe_89 : decode cX6_canBe 89 = .ok (.ifCond .eq 7, 3) := dk_153 0 7 (dk_at dksX6_canBe_3 17 rfl rfl)
theorem dX6_canBe_92 : decode cX6_canBe 92 = .ok (.iconst 1, 1) := dk_4 (dk_at dksX6_canBe_3 20 rfl rfl)
theorem dX6_canBe_93 : decode cX6_canBe 93 = .ok (.goto 4, 3) := dk_167 0 4 (dk_at dksX6_canBe_3 21 rfl rfl)
theorem dX6_canBe_96 : decode cX6_canBe 96 = .ok (.iconst 0, 1) := dk_3 (dk_at dksX6_canBe_4 0 rfl rfl)
theorem dX6_canBe_97 : decode cX6_canBe 97 = .ok (.istore 6, 2) := dk_54 6 (dk_at dksX6_canBe_4 1 rfl rfl)
theorem dX6_canBe_99 : decode cX6_canBe 99 = .ok (.iload 6, 2) := dk_21 6 (dk_at dksX6_canBe_4 3 rfl rfl)
theorem dX6_canBe_101 : decode cX6_canBe 101 = .ok (.ifCond .ne 43, 3) := dk_154 0 43 (dk_at dksX6_canBe_4 5 rfl rfl)
theorem dX6_canBe_104 : decode cX6_canBe 104 = .ok (.aload_n 3, 1) := dk_45 (dk_at dksX6_canBe_4 8 rfl rfl)
theorem dX6_canBe_105 : decode cX6_canBe 105 = .ok (.getfield 32, 3) := dk_180 0 32 (dk_at dksX6_canBe_4 9 rfl rfl)
theorem dX6_canBe_108 : decode cX6_canBe 108 = .ok (.bipush 62, 2) := dk_16 62 (dk_at dksX6_canBe_4 12 rfl rfl)
theorem dX6_canBe_110 : decode cX6_canBe 110 = .ok (.if_icmp .ne 36, 3) := dk_160 0 36 (dk_at dksX6_canBe_4 14 rfl rfl)
theorem dX6_canBe_113 : decode cX6_canBe 113 = .ok (.aload 5, 2) := dk_25 5 (dk_at dksX6_canBe_4 17 rfl rfl)
theorem dX6_canBe_115 : decode cX6_canBe 115 = .ok (.getfield 32, 3) := dk_180 0 32 (dk_at dksX6_canBe_4 19 rfl rfl)
theorem dX6_canBe_118 : decode cX6_canBe 118 = .ok (.bipush 62, 2) := dk_16 62 (dk_at dksX6_canBe_4 22 rfl rfl)
theorem dX6_canBe_120 : decode cX6_canBe 120 = .ok (.if_icmp .ne 26, 3) := dk_160 0 26 (dk_at dksX6_canBe_5 0 rfl rfl)
theorem dX6_canBe_123 : decode cX6_canBe 123 = .ok (.aload 5, 2) := dk_25 5 (dk_at dksX6_canBe_5 3 rfl rfl)
theorem dX6_canBe_125 : decode cX6_canBe 125 = .ok (.getfield 35, 3) := dk_180 0 35 (dk_at dksX6_canBe_5 5 rfl rfl)
theorem dX6_canBe_128 : decode cX6_canBe 128 = .ok (.aload_n 3, 1) := dk_45 (dk_at dksX6_canBe_5 8 rfl rfl)
theorem dX6_canBe_129 : decode cX6_canBe 129 = .ok (.getfield 35, 3) := dk_180 0 35 (dk_at dksX6_canBe_5 9 rfl rfl)
theorem dX6_canBe_132 : decode cX6_canBe 132 = .ok (.if_icmp .ge 14, 3) := dk_162 0 14 (dk_at dksX6_canBe_5 12 rfl rfl)
theorem dX6_canBe_135 : decode cX6_canBe 135 = .ok (.aload_n 0, 1) := dk_42 (dk_at dksX6_canBe_5 15 rfl rfl)
theorem dX6_canBe_136 : decode cX6_canBe 136 = .ok (.aload 5, 2) := dk_25 5 (dk_at dksX6_canBe_5 16 rfl rfl)
theorem dX6_canBe_138 : decode cX6_canBe 138 = .ok (.invokevirtual 28, 3) := dk_182 0 28 (dk_at dksX6_canBe_5 18 rfl rfl)
theorem dX6_canBe_141 : decode cX6_canBe 141 = .ok (.ifCond .ne 5, 3) := dk_154 0 5 (dk_at dksX6_canBe_5 21 rfl rfl)
theorem dX6_canBe_144 : decode cX6_canBe 144 = .ok (.iconst 0, 1) := dk_3 (dk_at dksX6_canBe_6 0 rfl rfl)
theorem dX6_canBe_145 : decode cX6_canBe 145 = .ok (.ireturn, 1) := dk_172 (dk_at dksX6_canBe_6 1 rfl rfl)
theorem dX6_canBe_146 : decode cX6_canBe 146 = .ok (.iinc 4 1, 3) := dk_132 4 1 (dk_at dksX6_canBe_6 2 rfl rfl)
theorem dX6_canBe_149 : decode cX6_canBe 149 = .ok (.goto (-123), 3) := dk_167 255 133 (dk_at dksX6_canBe_6 5 rfl rfl)
theorem dX6_canBe_152 : decode cX6_canBe 152 = .ok (.iinc 2 1, 3) := dk_132 2 1 (dk_at dksX6_canBe_6 8 rfl rfl)
theorem dX6_canBe_155 : decode cX6_canBe 155 = .ok (.goto (-153), 3) := dk_167 255 103 (dk_at dksX6_canBe_6 11 rfl rfl)
theorem dX6_canBe_158 : decode cX6_canBe 158 = .ok (.iconst 1, 1) := dk_4 (dk_at dksX6_canBe_6 14 rfl rfl)
theorem dX6_canBe_159 : decode cX6_canBe 159 = .ok (.ireturn, 1) := dk_172 (dk_at dksX6_canBe_6 15 rfl rfl)
theorem q80 : (Jvm.Cond.initialized "SortedPost$Case") ∈ lw_all := lw_g (lw_at lw_m1 12 rfl) rfl
theorem q259 : (Jvm.Cond.fieldLinkNest "SortedPost$Case" (32 : Nat) "SortedPost$Atom" "kind" "I" "SortedPost") ∈ lw_tbl := lw_at lw_m1 191 rfl
theorem q262 : (Jvm.Cond.fieldLinkNest "SortedPost$Case" (35 : Nat) "SortedPost$Atom" "number" "I" "SortedPost") ∈ lw_tbl := lw_at lw_m1 194 rfl
theorem q263 : (Jvm.Cond.fieldLinkNest "SortedPost$Case" (13 : Nat) "SortedPost$Atom" "place" "I" "SortedPost") ∈ lw_tbl := lw_at lw_m1 195 rfl
theorem q349 : (Jvm.Cond.selects "SortedPost$Case" ({ cls := "java/lang/Object", name := "getClass", desc := "()Ljava/lang/Class;" } : Jvm.MethodName) ({ cls := "java/lang/Object", name := "getClass", desc := "()Ljava/lang/Class;" } : Jvm.MethodName)) ∈ lw_all := lw_g (lw_at lw_m2 41 rfl) rfl
theorem q607 : (Jvm.Cond.instantiable "SortedPost$Case" (1 : Nat)) ∈ lw_all := lw_g (lw_at lw_m3 59 rfl) rfl
theorem q609 : (Jvm.Cond.instanceMethod ({ cls := "SortedPost$Case", name := "<init>", desc := "()V" } : Jvm.MethodName)) ∈ lw_all := lw_g (lw_at lw_m3 61 rfl) rfl
theorem q610 : (Jvm.Cond.code ({ cls := "SortedPost$Case", name := "<init>", desc := "()V" } : Jvm.MethodName) prog_7_method_1_code (1 : Nat) (Option.none : Option Jvm.ClassFile.FieldType)) ∈ lw_all := lw_g (lw_at lw_m3 62 rfl) rfl
theorem q611 : (Jvm.Cond.methodLink "SortedPost$Case" (1 : Nat) ({ cls := "java/lang/Object", name := "<init>", desc := "()V" } : Jvm.MethodName)) ∈ lw_all := lw_g (lw_at lw_m3 63 rfl) rfl
theorem q612 : (Jvm.Cond.fieldLink "SortedPost$Case" (7 : Nat) "SortedPost$Case" "bits" "I") ∈ lw_all := lw_g (lw_at lw_m3 64 rfl) rfl
theorem q614 : (Jvm.Cond.lays "SortedPost$Case" "SortedPost$Case" "bits" "I") ∈ lw_all := lw_g (lw_at lw_m3 66 rfl) rfl
theorem q615 : (Jvm.Cond.soleField "SortedPost$Case" "bits") ∈ lw_all := lw_g (lw_at lw_m3 67 rfl) rfl
theorem q616 : (Jvm.Cond.superclass "SortedPost$Case" "java/lang/Object") ∈ lw_all := lw_g (lw_at lw_m3 68 rfl) rfl
theorem q844 : (Jvm.Cond.castable "SortedPost$Case" "SortedPost$Truths") ∈ lw_tbl := lw_at lw_m4 56 rfl
theorem q845 : (Jvm.Cond.selects "SortedPost$Case" ({ cls := "SortedPost$Truths", name := "isTrue", desc := "(LSortedPost$Atom;)Z" } : Jvm.MethodName) ({ cls := "SortedPost$Case", name := "isTrue", desc := "(LSortedPost$Atom;)Z" } : Jvm.MethodName)) ∈ lw_all := lw_g (lw_at lw_m4 57 rfl) rfl
theorem q846 : (Jvm.Cond.unhidden "SortedPost$Case" "isTrue" "(LSortedPost$Atom;)Z") ∈ lw_tbl := lw_at lw_m4 58 rfl
theorem q847 : (Jvm.Cond.instanceMethod ({ cls := "SortedPost$Case", name := "isTrue", desc := "(LSortedPost$Atom;)Z" } : Jvm.MethodName)) ∈ lw_all := lw_g (lw_at lw_m4 59 rfl) rfl
theorem q848 : (Jvm.Cond.publicMethod ({ cls := "SortedPost$Case", name := "isTrue", desc := "(LSortedPost$Atom;)Z" } : Jvm.MethodName)) ∈ lw_tbl := lw_at lw_m4 60 rfl
theorem q849 : (Jvm.Cond.code ({ cls := "SortedPost$Case", name := "isTrue", desc := "(LSortedPost$Atom;)Z" } : Jvm.MethodName) prog_7_method_2_code (2 : Nat) (Option.some Jvm.ClassFile.FieldType.boolean)) ∈ lw_all := lw_g (lw_at lw_m4 61 rfl) rfl
theorem q1026 : (Jvm.Cond.instanceMethod ({ cls := "SortedPost$Case", name := "canBe", desc := "(Ljava/util/List;)Z" } : Jvm.MethodName)) ∈ lw_all := lw_g (lw_at lw_m4 238 rfl) rfl
theorem q1027 : (Jvm.Cond.selects "SortedPost$Case" ({ cls := "SortedPost$Case", name := "canBe", desc := "(Ljava/util/List;)Z" } : Jvm.MethodName) ({ cls := "SortedPost$Case", name := "canBe", desc := "(Ljava/util/List;)Z" } : Jvm.MethodName)) ∈ lw_all := lw_g (lw_at lw_m4 239 rfl) rfl
theorem q1028 : (Jvm.Cond.code ({ cls := "SortedPost$Case", name := "canBe", desc := "(Ljava/util/List;)Z" } : Jvm.MethodName) prog_7_method_3_code (7 : Nat) (Option.some Jvm.ClassFile.FieldType.boolean)) ∈ lw_all := lw_g (lw_at lw_m5 0 rfl) rfl
theorem q1029 : (Jvm.Cond.interfaceEntry "SortedPost$Case" (18 : Nat)) ∈ lw_tbl := lw_at lw_m5 1 rfl
theorem q1030 : (Jvm.Cond.methodLink "SortedPost$Case" (18 : Nat) ({ cls := "java/util/List", name := "size", desc := "()I" } : Jvm.MethodName)) ∈ lw_all := lw_g (lw_at lw_m5 2 rfl) rfl
theorem q1031 : (Jvm.Cond.interfaceEntry "SortedPost$Case" (24 : Nat)) ∈ lw_tbl := lw_at lw_m5 3 rfl
theorem q1032 : (Jvm.Cond.methodLink "SortedPost$Case" (24 : Nat) ({ cls := "java/util/List", name := "get", desc := "(I)Ljava/lang/Object;" } : Jvm.MethodName)) ∈ lw_all := lw_g (lw_at lw_m5 4 rfl) rfl
theorem q1033 : (Jvm.Cond.classLink "SortedPost$Case" (14 : Nat) "SortedPost$Atom") ∈ lw_all := lw_g (lw_at lw_m5 5 rfl) rfl
theorem q1034 : (Jvm.Cond.methodLink "SortedPost$Case" (28 : Nat) ({ cls := "SortedPost$Case", name := "isTrue", desc := "(LSortedPost$Atom;)Z" } : Jvm.MethodName)) ∈ lw_all := lw_g (lw_at lw_m5 6 rfl) rfl
theorem q1611 : (Jvm.Cond.selects "SortedPost$Case" ({ cls := "SortedPost$Case", name := "isTrue", desc := "(LSortedPost$Atom;)Z" } : Jvm.MethodName) ({ cls := "SortedPost$Case", name := "isTrue", desc := "(LSortedPost$Atom;)Z" } : Jvm.MethodName)) ∈ lw_all := lw_g (lw_at lw_m7 103 rfl) rfl
theorem q1621 : (Jvm.Cond.castable "SortedPost$Case" "java/lang/Object") ∈ lw_tbl := lw_at lw_m7 113 rfl
theorem in_X6 : ∀ w ∈ wsX60, w ∈ lw_all := lw_in wsX60 [614] (by decide +kernel) (by decide +kernel)

/-! SortedPost$Sheet -/
set_option maxRecDepth 100000
def RX7 : String := "SortedPost$Sheet"
def TX7 : u_T := fun k => match k with
  | _ => ("SortedPost$Sheet", "row", "Ljava/lang/Object;", false)
def tyX7 : Nat → FieldType := fun k => match k with
  | _ => .object "java/lang/Object"
abbrev wsX70 : List Cond := u_ws RX7 TX7 1
theorem nmX7 : ∀ a, a < 1 → ∀ b, b < 1 → a ≠ b → (TX7 a).2.1 ≠ (TX7 b).2.1 := by decide +kernel
theorem tyX7_ok : ∀ k, k < 1 → parseFieldDescriptor (TX7 k).2.2.1 = some (tyX7 k) := by decide +kernel
abbrev cX7_init : ByteArray := prog_16_method_1_code
def yX7_init : MethodName := ⟨RX7, "<init>", "()V"⟩
theorem dX7_init_0 : decode cX7_init 0 = .ok (.aload_n 0, 1) := by decide +kernel
theorem dX7_init_1 : decode cX7_init 1 = .ok (.invokespecial 1, 3) := by decide +kernel
theorem dX7_init_4 : decode cX7_init 4 = .ok (.return_, 1) := by decide +kernel
abbrev cX7_lane : ByteArray := prog_16_method_2_code
def yX7_lane : MethodName := ⟨RX7, "lane", "()I"⟩
def dkwX7_lane_0 : List UInt8 := [42, 180, 0, 7, 193, 0, 13, 153, 0, 7, 3, 167, 0, 4, 4, 172]
abbrev dktX7_lane_0 : List UInt8 := dkwX7_lane_0 ++ []
theorem dksX7_lane_0 : cX7_lane.data.toList.drop 0 = dktX7_lane_0 := by decide +kernel
theorem dX7_lane_0 : decode cX7_lane 0 = .ok (.aload_n 0, 1) := dk_42 (dk_at dksX7_lane_0 0 rfl rfl)
theorem dX7_lane_1 : decode cX7_lane 1 = .ok (.getfield 7, 3) := dk_180 0 7 (dk_at dksX7_lane_0 1 rfl rfl)
theorem dX7_lane_4 : decode cX7_lane 4 = .ok (.instanceof 13, 3) := dk_193 0 13 (dk_at dksX7_lane_0 4 rfl rfl)
theorem dX7_lane_7 : decode cX7_lane 7 = .ok (.ifCond .eq 7, 3) := dk_153 0 7 (dk_at dksX7_lane_0 7 rfl rfl)
theorem dX7_lane_10 : decode cX7_lane 10 = .ok (.iconst 0, 1) := dk_3 (dk_at dksX7_lane_0 10 rfl rfl)
theorem dX7_lane_11 : decode cX7_lane 11 = .ok (.goto 4, 3) := dk_167 0 4 (dk_at dksX7_lane_0 11 rfl rfl)
theorem dX7_lane_14 : decode cX7_lane 14 = .ok (.iconst 1, 1) := dk_4 (dk_at dksX7_lane_0 14 rfl rfl)
theorem dX7_lane_15 : decode cX7_lane 15 = .ok (.ireturn, 1) := dk_172 (dk_at dksX7_lane_0 15 rfl rfl)
abbrev cX7_size : ByteArray := prog_16_method_3_code
def yX7_size : MethodName := ⟨RX7, "size", "()I"⟩
def dkwX7_size_1 : List UInt8 := [180, 0, 7, 192, 0, 15, 190, 172]
abbrev dktX7_size_1 : List UInt8 := dkwX7_size_1 ++ []
def dkwX7_size_0 : List UInt8 := [42, 180, 0, 7, 77, 44, 193, 0, 13, 153, 0, 13, 44, 192, 0, 13, 76, 43, 190, 167, 0, 11, 42]
abbrev dktX7_size_0 : List UInt8 := dkwX7_size_0 ++ dktX7_size_1
theorem dksX7_size_0 : cX7_size.data.toList.drop 0 = dktX7_size_0 := by decide +kernel
theorem dksX7_size_1 : cX7_size.data.toList.drop 23 = dktX7_size_1 := dk_seg dksX7_size_0 23 rfl rfl
theorem dX7_size_0 : decode cX7_size 0 = .ok (.aload_n 0, 1) := dk_42 (dk_at dksX7_size_0 0 rfl rfl)
theorem dX7_size_1 : decode cX7_size 1 = .ok (.getfield 7, 3) := dk_180 0 7 (dk_at dksX7_size_0 1 rfl rfl)
theorem dX7_size_4 : decode cX7_size 4 = .ok (.astore_n 2, 1) := dk_77 (dk_at dksX7_size_0 4 rfl rfl)
theorem dX7_size_5 : decode cX7_size 5 = .ok (.aload_n 2, 1) := dk_44 (dk_at dksX7_size_0 5 rfl rfl)
theorem dX7_size_6 : decode cX7_size 6 = .ok (.instanceof 13, 3) := dk_193 0 13 (dk_at dksX7_size_0 6 rfl rfl)
theorem dX7_size_9 : decode cX7_size 9 = .ok (.ifCond .eq 13, 3) := dk_153 0 13 (dk_at dksX7_size_0 9 rfl rfl)
theorem dX7_size_12 : decode cX7_size 12 = .ok (.aload_n 2, 1) := dk_44 (dk_at dksX7_size_0 12 rfl rfl)
theorem dX7_size_13 : decode cX7_size 13 = .ok (.checkcast 13, 3) := dk_192 0 13 (dk_at dksX7_size_0 13 rfl rfl)
theorem dX7_size_16 : decode cX7_size 16 = .ok (.astore_n 1, 1) := dk_76 (dk_at dksX7_size_0 16 rfl rfl)
theorem dX7_size_17 : decode cX7_size 17 = .ok (.aload_n 1, 1) := dk_43 (dk_at dksX7_size_0 17 rfl rfl)
theorem dX7_size_18 : decode cX7_size 18 = .ok (.arraylength, 1) := dk_190 (dk_at dksX7_size_0 18 rfl rfl)
theorem dX7_size_19 : decode cX7_size 19 = .ok (.goto 11, 3) := dk_167 0 11 (dk_at dksX7_size_0 19 rfl rfl)
theorem dX7_size_22 : decode cX7_size 22 = .ok (.aload_n 0, 1) := dk_42 (dk_at dksX7_size_0 22 rfl rfl)
theorem dX7_size_23 : decode cX7_size 23 = .ok (.getfield 7, 3) := dk_180 0 7 (dk_at dksX7_size_1 0 rfl rfl)
theorem dX7_size_26 : decode cX7_size 26 = .ok (.checkcast 15, 3) := dk_192 0 15 (dk_at dksX7_size_1 3 rfl rfl)
theorem dX7_size_29 : decode cX7_size 29 = .ok (.arraylength, 1) := dk_190 (dk_at dksX7_size_1 6 rfl rfl)
theorem dX7_size_30 : decode cX7_size 30 = .ok (.ireturn, 1) := dk_172 (dk_at dksX7_size_1 7 rfl rfl)
abbrev cX7_get : ByteArray := prog_16_method_4_code
def yX7_get : MethodName := ⟨RX7, "get", "(I)I"⟩
def dkwX7_get_1 : List UInt8 := [180, 0, 7, 192, 0, 15, 27, 46, 172]
abbrev dktX7_get_1 : List UInt8 := dkwX7_get_1 ++ []
def dkwX7_get_0 : List UInt8 := [42, 180, 0, 7, 78, 45, 193, 0, 13, 153, 0, 14, 45, 192, 0, 13, 77, 44, 27, 53, 167, 0, 12, 42]
abbrev dktX7_get_0 : List UInt8 := dkwX7_get_0 ++ dktX7_get_1
theorem dksX7_get_0 : cX7_get.data.toList.drop 0 = dktX7_get_0 := by decide +kernel
theorem dksX7_get_1 : cX7_get.data.toList.drop 24 = dktX7_get_1 := dk_seg dksX7_get_0 24 rfl rfl
theorem dX7_get_0 : decode cX7_get 0 = .ok (.aload_n 0, 1) := dk_42 (dk_at dksX7_get_0 0 rfl rfl)
theorem dX7_get_1 : decode cX7_get 1 = .ok (.getfield 7, 3) := dk_180 0 7 (dk_at dksX7_get_0 1 rfl rfl)
theorem dX7_get_4 : decode cX7_get 4 = .ok (.astore_n 3, 1) := dk_78 (dk_at dksX7_get_0 4 rfl rfl)
theorem dX7_get_5 : decode cX7_get 5 = .ok (.aload_n 3, 1) := dk_45 (dk_at dksX7_get_0 5 rfl rfl)
theorem dX7_get_6 : decode cX7_get 6 = .ok (.instanceof 13, 3) := dk_193 0 13 (dk_at dksX7_get_0 6 rfl rfl)
theorem dX7_get_9 : decode cX7_get 9 = .ok (.ifCond .eq 14, 3) := dk_153 0 14 (dk_at dksX7_get_0 9 rfl rfl)
theorem dX7_get_12 : decode cX7_get 12 = .ok (.aload_n 3, 1) := dk_45 (dk_at dksX7_get_0 12 rfl rfl)
theorem dX7_get_13 : decode cX7_get 13 = .ok (.checkcast 13, 3) := dk_192 0 13 (dk_at dksX7_get_0 13 rfl rfl)
theorem dX7_get_16 : decode cX7_get 16 = .ok (.astore_n 2, 1) := dk_77 (dk_at dksX7_get_0 16 rfl rfl)
theorem dX7_get_17 : decode cX7_get 17 = .ok (.aload_n 2, 1) := dk_44 (dk_at dksX7_get_0 17 rfl rfl)
theorem dX7_get_18 : decode cX7_get 18 = .ok (.iload_n 1, 1) := dk_27 (dk_at dksX7_get_0 18 rfl rfl)
theorem dX7_get_19 : decode cX7_get 19 = .ok (.saload, 1) := dk_53 (dk_at dksX7_get_0 19 rfl rfl)
theorem dX7_get_20 : decode cX7_get 20 = .ok (.goto 12, 3) := dk_167 0 12 (dk_at dksX7_get_0 20 rfl rfl)
theorem dX7_get_23 : decode cX7_get 23 = .ok (.aload_n 0, 1) := dk_42 (dk_at dksX7_get_0 23 rfl rfl)
theorem dX7_get_24 : decode cX7_get 24 = .ok (.getfield 7, 3) := dk_180 0 7 (dk_at dksX7_get_1 0 rfl rfl)
theorem dX7_get_27 : decode cX7_get 27 = .ok (.checkcast 15, 3) := dk_192 0 15 (dk_at dksX7_get_1 3 rfl rfl)
theorem dX7_get_30 : decode cX7_get 30 = .ok (.iload_n 1, 1) := dk_27 (dk_at dksX7_get_1 6 rfl rfl)
theorem dX7_get_31 : decode cX7_get 31 = .ok (.iaload, 1) := dk_46 (dk_at dksX7_get_1 7 rfl rfl)
theorem dX7_get_32 : decode cX7_get 32 = .ok (.ireturn, 1) := dk_172 (dk_at dksX7_get_1 8 rfl rfl)
theorem q81 : (Jvm.Cond.initialized "SortedPost$Sheet") ∈ lw_all := lw_g (lw_at lw_m1 13 rfl) rfl
theorem q357 : (Jvm.Cond.selects "SortedPost$Sheet" ({ cls := "java/lang/Object", name := "getClass", desc := "()Ljava/lang/Class;" } : Jvm.MethodName) ({ cls := "java/lang/Object", name := "getClass", desc := "()Ljava/lang/Class;" } : Jvm.MethodName)) ∈ lw_all := lw_g (lw_at lw_m2 49 rfl) rfl
theorem q619 : (Jvm.Cond.instantiable "SortedPost$Sheet" (1 : Nat)) ∈ lw_all := lw_g (lw_at lw_m3 71 rfl) rfl
theorem q621 : (Jvm.Cond.instanceMethod ({ cls := "SortedPost$Sheet", name := "<init>", desc := "()V" } : Jvm.MethodName)) ∈ lw_all := lw_g (lw_at lw_m3 73 rfl) rfl
theorem q622 : (Jvm.Cond.code ({ cls := "SortedPost$Sheet", name := "<init>", desc := "()V" } : Jvm.MethodName) prog_16_method_1_code (1 : Nat) (Option.none : Option Jvm.ClassFile.FieldType)) ∈ lw_all := lw_g (lw_at lw_m3 74 rfl) rfl
theorem q623 : (Jvm.Cond.methodLink "SortedPost$Sheet" (1 : Nat) ({ cls := "java/lang/Object", name := "<init>", desc := "()V" } : Jvm.MethodName)) ∈ lw_all := lw_g (lw_at lw_m3 75 rfl) rfl
theorem q624 : (Jvm.Cond.fieldLink "SortedPost$Sheet" (7 : Nat) "SortedPost$Sheet" "row" "Ljava/lang/Object;") ∈ lw_all := lw_g (lw_at lw_m3 76 rfl) rfl
theorem q626 : (Jvm.Cond.lays "SortedPost$Sheet" "SortedPost$Sheet" "row" "Ljava/lang/Object;") ∈ lw_all := lw_g (lw_at lw_m3 78 rfl) rfl
theorem q627 : (Jvm.Cond.soleField "SortedPost$Sheet" "row") ∈ lw_all := lw_g (lw_at lw_m3 79 rfl) rfl
theorem q628 : (Jvm.Cond.superclass "SortedPost$Sheet" "java/lang/Object") ∈ lw_all := lw_g (lw_at lw_m3 80 rfl) rfl
theorem q920 : (Jvm.Cond.instanceMethod ({ cls := "SortedPost$Sheet", name := "lane", desc := "()I" } : Jvm.MethodName)) ∈ lw_all := lw_g (lw_at lw_m4 132 rfl) rfl
theorem q921 : (Jvm.Cond.selects "SortedPost$Sheet" ({ cls := "SortedPost$Sheet", name := "lane", desc := "()I" } : Jvm.MethodName) ({ cls := "SortedPost$Sheet", name := "lane", desc := "()I" } : Jvm.MethodName)) ∈ lw_all := lw_g (lw_at lw_m4 133 rfl) rfl
theorem q922 : (Jvm.Cond.code ({ cls := "SortedPost$Sheet", name := "lane", desc := "()I" } : Jvm.MethodName) prog_16_method_2_code (1 : Nat) (Option.some Jvm.ClassFile.FieldType.int)) ∈ lw_all := lw_g (lw_at lw_m4 134 rfl) rfl
theorem q923 : (Jvm.Cond.classLink "SortedPost$Sheet" (13 : Nat) "[S") ∈ lw_all := lw_g (lw_at lw_m4 135 rfl) rfl
theorem q925 : (Jvm.Cond.instanceMethod ({ cls := "SortedPost$Sheet", name := "size", desc := "()I" } : Jvm.MethodName)) ∈ lw_all := lw_g (lw_at lw_m4 137 rfl) rfl
theorem q926 : (Jvm.Cond.selects "SortedPost$Sheet" ({ cls := "SortedPost$Sheet", name := "size", desc := "()I" } : Jvm.MethodName) ({ cls := "SortedPost$Sheet", name := "size", desc := "()I" } : Jvm.MethodName)) ∈ lw_all := lw_g (lw_at lw_m4 138 rfl) rfl
theorem q927 : (Jvm.Cond.code ({ cls := "SortedPost$Sheet", name := "size", desc := "()I" } : Jvm.MethodName) prog_16_method_3_code (3 : Nat) (Option.some Jvm.ClassFile.FieldType.int)) ∈ lw_all := lw_g (lw_at lw_m4 139 rfl) rfl
theorem q928 : (Jvm.Cond.classLink "SortedPost$Sheet" (15 : Nat) "[I") ∈ lw_all := lw_g (lw_at lw_m4 140 rfl) rfl
theorem q930 : (Jvm.Cond.instanceMethod ({ cls := "SortedPost$Sheet", name := "get", desc := "(I)I" } : Jvm.MethodName)) ∈ lw_all := lw_g (lw_at lw_m4 142 rfl) rfl
theorem q931 : (Jvm.Cond.selects "SortedPost$Sheet" ({ cls := "SortedPost$Sheet", name := "get", desc := "(I)I" } : Jvm.MethodName) ({ cls := "SortedPost$Sheet", name := "get", desc := "(I)I" } : Jvm.MethodName)) ∈ lw_all := lw_g (lw_at lw_m4 143 rfl) rfl
theorem q932 : (Jvm.Cond.code ({ cls := "SortedPost$Sheet", name := "get", desc := "(I)I" } : Jvm.MethodName) prog_16_method_4_code (4 : Nat) (Option.some Jvm.ClassFile.FieldType.int)) ∈ lw_all := lw_g (lw_at lw_m4 144 rfl) rfl
theorem q1615 : (Jvm.Cond.castable "SortedPost$Sheet" "java/lang/Object") ∈ lw_tbl := lw_at lw_m7 107 rfl
theorem in_X7 : ∀ w ∈ wsX70, w ∈ lw_all := lw_in wsX70 [626] (by decide +kernel) (by decide +kernel)

/-! SortedPost$Rule -/
set_option maxRecDepth 100000
def RX9 : String := "SortedPost$Rule"
def TX9 : u_T := fun k => match k with
  | 0 => ("SortedPost$Rule", "test", "LSortedPost$Test;", false)
  | 1 => ("SortedPost$Rule", "acts", "[I", true)
  | 2 => ("SortedPost$Rule", "numbers", "[I", true)
  | _ => ("SortedPost$Rule", "many", "I", false)
def tyX9 : Nat → FieldType := fun k => match k with
  | 0 => .object "SortedPost$Test"
  | 1 => .array .int
  | 2 => .array .int
  | _ => .int
abbrev wsX90 : List Cond := u_ws RX9 TX9 4
theorem nmX9 : ∀ a, a < 4 → ∀ b, b < 4 → a ≠ b → (TX9 a).2.1 ≠ (TX9 b).2.1 := by decide +kernel
theorem tyX9_ok : ∀ k, k < 4 → parseFieldDescriptor (TX9 k).2.2.1 = some (tyX9 k) := by decide +kernel
abbrev cX9_init : ByteArray := prog_14_method_1_code
def yX9_init : MethodName := ⟨RX9, "<init>", "()V"⟩
def dkwX9_init_0 : List UInt8 := [42, 183, 0, 3, 42, 7, 188, 10, 181, 0, 9, 42, 7, 188, 10, 181, 0, 15, 177]
abbrev dktX9_init_0 : List UInt8 := dkwX9_init_0 ++ []
theorem dksX9_init_0 : cX9_init.data.toList.drop 0 = dktX9_init_0 := by decide +kernel
theorem dX9_init_0 : decode cX9_init 0 = .ok (.aload_n 0, 1) := dk_42 (dk_at dksX9_init_0 0 rfl rfl)
theorem dX9_init_1 : decode cX9_init 1 = .ok (.invokespecial 3, 3) := dk_183 0 3 (dk_at dksX9_init_0 1 rfl rfl)
theorem dX9_init_4 : decode cX9_init 4 = .ok (.aload_n 0, 1) := dk_42 (dk_at dksX9_init_0 4 rfl rfl)
theorem dX9_init_5 : decode cX9_init 5 = .ok (.iconst 4, 1) := dk_7 (dk_at dksX9_init_0 5 rfl rfl)
theorem dX9_init_6 : decode cX9_init 6 = .ok (.newarray .int, 2) := dk_188_10 (dk_at dksX9_init_0 6 rfl rfl)
theorem dX9_init_8 : decode cX9_init 8 = .ok (.putfield 9, 3) := dk_181 0 9 (dk_at dksX9_init_0 8 rfl rfl)
theorem dX9_init_11 : decode cX9_init 11 = .ok (.aload_n 0, 1) := dk_42 (dk_at dksX9_init_0 11 rfl rfl)
theorem dX9_init_12 : decode cX9_init 12 = .ok (.iconst 4, 1) := dk_7 (dk_at dksX9_init_0 12 rfl rfl)
theorem dX9_init_13 : decode cX9_init 13 = .ok (.newarray .int, 2) := dk_188_10 (dk_at dksX9_init_0 13 rfl rfl)
theorem dX9_init_15 : decode cX9_init 15 = .ok (.putfield 15, 3) := dk_181 0 15 (dk_at dksX9_init_0 15 rfl rfl)
theorem dX9_init_18 : decode cX9_init 18 = .ok (.return_, 1) := dk_177 (dk_at dksX9_init_0 18 rfl rfl)
abbrev cX9_stops : ByteArray := prog_14_method_2_code
def yX9_stops : MethodName := ⟨RX9, "stops", "()Z"⟩
def dkwX9_stops_1 : List UInt8 := [4, 167, 0, 4, 3, 128, 60, 132, 2, 1, 167, 255, 226, 27, 172]
abbrev dktX9_stops_1 : List UInt8 := dkwX9_stops_1 ++ []
def dkwX9_stops_0 : List UInt8 := [3, 60, 3, 61, 28, 42, 180, 0, 18, 162, 0, 28, 27, 42, 180, 0, 9, 28, 46, 16, 83, 160, 0, 7]
abbrev dktX9_stops_0 : List UInt8 := dkwX9_stops_0 ++ dktX9_stops_1
theorem dksX9_stops_0 : cX9_stops.data.toList.drop 0 = dktX9_stops_0 := by decide +kernel
theorem dksX9_stops_1 : cX9_stops.data.toList.drop 24 = dktX9_stops_1 := dk_seg dksX9_stops_0 24 rfl rfl
theorem dX9_stops_0 : decode cX9_stops 0 = .ok (.iconst 0, 1) := dk_3 (dk_at dksX9_stops_0 0 rfl rfl)
theorem dX9_stops_1 : decode cX9_stops 1 = .ok (.istore_n 1, 1) := dk_60 (dk_at dksX9_stops_0 1 rfl rfl)
theorem dX9_stops_2 : decode cX9_stops 2 = .ok (.iconst 0, 1) := dk_3 (dk_at dksX9_stops_0 2 rfl rfl)
theorem dX9_stops_3 : decode cX9_stops 3 = .ok (.istore_n 2, 1) := dk_61 (dk_at dksX9_stops_0 3 rfl rfl)
theorem dX9_stops_4 : decode cX9_stops 4 = .ok (.iload_n 2, 1) := dk_28 (dk_at dksX9_stops_0 4 rfl rfl)
theorem dX9_stops_5 : decode cX9_stops 5 = .ok (.aload_n 0, 1) := dk_42 (dk_at dksX9_stops_0 5 rfl rfl)
theorem dX9_stops_6 : decode cX9_stops 6 = .ok (.getfield 18, 3) := dk_180 0 18 (dk_at dksX9_stops_0 6 rfl rfl)
theorem dX9_stops_9 : decode cX9_stops 9 = .ok (.if_icmp .ge 28, 3) := dk_162 0 28 (dk_at dksX9_stops_0 9 rfl rfl)
theorem dX9_stops_12 : decode cX9_stops 12 = .ok (.iload_n 1, 1) := dk_27 (dk_at dksX9_stops_0 12 rfl rfl)
theorem dX9_stops_13 : decode cX9_stops 13 = .ok (.aload_n 0, 1) := dk_42 (dk_at dksX9_stops_0 13 rfl rfl)
theorem dX9_stops_14 : decode cX9_stops 14 = .ok (.getfield 9, 3) := dk_180 0 9 (dk_at dksX9_stops_0 14 rfl rfl)
theorem dX9_stops_17 : decode cX9_stops 17 = .ok (.iload_n 2, 1) := dk_28 (dk_at dksX9_stops_0 17 rfl rfl)
theorem dX9_stops_18 : decode cX9_stops 18 = .ok (.iaload, 1) := dk_46 (dk_at dksX9_stops_0 18 rfl rfl)
theorem dX9_stops_19 : decode cX9_stops 19 = .ok (.bipush 83, 2) := dk_16 83 (dk_at dksX9_stops_0 19 rfl rfl)
theorem dX9_stops_21 : decode cX9_stops 21 = .ok (.if_icmp .ne 7, 3) := dk_160 0 7 (dk_at dksX9_stops_0 21 rfl rfl)
theorem dX9_stops_24 : decode cX9_stops 24 = .ok (.iconst 1, 1) := dk_4 (dk_at dksX9_stops_1 0 rfl rfl)
theorem dX9_stops_25 : decode cX9_stops 25 = .ok (.goto 4, 3) := dk_167 0 4 (dk_at dksX9_stops_1 1 rfl rfl)
theorem dX9_stops_28 : decode cX9_stops 28 = .ok (.iconst 0, 1) := dk_3 (dk_at dksX9_stops_1 4 rfl rfl)
theorem dX9_stops_29 : decode cX9_stops 29 = .ok (.ior, 1) := dk_128 (dk_at dksX9_stops_1 5 rfl rfl)
theorem dX9_stops_30 : decode cX9_stops 30 = .ok (.istore_n 1, 1) := dk_60 (dk_at dksX9_stops_1 6 rfl rfl)
theorem dX9_stops_31 : decode cX9_stops 31 = .ok (.iinc 2 1, 3) := dk_132 2 1 (dk_at dksX9_stops_1 7 rfl rfl)
theorem dX9_stops_34 : decode cX9_stops 34 = .ok (.goto (-30), 3) := dk_167 255 226 (dk_at dksX9_stops_1 10 rfl rfl)
theorem dX9_stops_37 : decode cX9_stops 37 = .ok (.iload_n 1, 1) := dk_27 (dk_at dksX9_stops_1 13 rfl rfl)
theorem dX9_stops_38 : decode cX9_stops 38 = .ok (.ireturn, 1) := dk_172 (dk_at dksX9_stops_1 14 rfl rfl)
abbrev cX9_files : ByteArray := prog_14_method_3_code
def yX9_files : MethodName := ⟨RX9, "files", "()I"⟩
def dkwX9_files_3 : List UInt8 := [172]
abbrev dktX9_files_3 : List UInt8 := dkwX9_files_3 ++ []
def dkwX9_files_2 : List UInt8 := [180, 0, 9, 28, 46, 16, 75, 160, 0, 7, 4, 167, 0, 4, 3, 128, 60, 132, 2, 1, 167, 255, 193, 27]
abbrev dktX9_files_2 : List UInt8 := dkwX9_files_2 ++ dktX9_files_3
def dkwX9_files_1 : List UInt8 := [42, 180, 0, 9, 28, 46, 16, 70, 160, 0, 14, 4, 42, 180, 0, 15, 28, 46, 120, 167, 0, 19, 42]
abbrev dktX9_files_1 : List UInt8 := dkwX9_files_1 ++ dktX9_files_2
def dkwX9_files_0 : List UInt8 := [3, 60, 3, 61, 28, 42, 180, 0, 18, 162, 0, 61, 42, 180, 0, 9, 28, 46, 16, 83, 159, 0, 50, 27]
abbrev dktX9_files_0 : List UInt8 := dkwX9_files_0 ++ dktX9_files_1
theorem dksX9_files_0 : cX9_files.data.toList.drop 0 = dktX9_files_0 := by decide +kernel
theorem dksX9_files_1 : cX9_files.data.toList.drop 24 = dktX9_files_1 := dk_seg dksX9_files_0 24 rfl rfl
theorem dksX9_files_2 : cX9_files.data.toList.drop 47 = dktX9_files_2 := dk_seg dksX9_files_1 23 rfl rfl
theorem dksX9_files_3 : cX9_files.data.toList.drop 71 = dktX9_files_3 := dk_seg dksX9_files_2 24 rfl rfl
theorem dX9_files_0 : decode cX9_files 0 = .ok (.iconst 0, 1) := dk_3 (dk_at dksX9_files_0 0 rfl rfl)
theorem dX9_files_1 : decode cX9_files 1 = .ok (.istore_n 1, 1) := dk_60 (dk_at dksX9_files_0 1 rfl rfl)
theorem dX9_files_2 : decode cX9_files 2 = .ok (.iconst 0, 1) := dk_3 (dk_at dksX9_files_0 2 rfl rfl)
theorem dX9_files_3 : decode cX9_files 3 = .ok (.istore_n 2, 1) := dk_61 (dk_at dksX9_files_0 3 rfl rfl)
theorem dX9_files_4 : decode cX9_files 4 = .ok (.iload_n 2, 1) := dk_28 (dk_at dksX9_files_0 4 rfl rfl)
theorem dX9_files_5 : decode cX9_files 5 = .ok (.aload_n 0, 1) := dk_42 (dk_at dksX9_files_0 5 rfl rfl)
theorem dX9_files_6 : decode cX9_files 6 = .ok (.getfield 18, 3) := dk_180 0 18 (dk_at dksX9_files_0 6 rfl rfl)
theorem dX9_files_9 : decode cX9_files 9 = .ok (.if_icmp .ge 61, 3) := dk_162 0 61 (dk_at dksX9_files_0 9 rfl rfl)
theorem dX9_files_12 : decode cX9_files 12 = .ok (.aload_n 0, 1) := dk_42 (dk_at dksX9_files_0 12 rfl rfl)
theorem dX9_files_13 : decode cX9_files 13 = .ok (.getfield 9, 3) := dk_180 0 9 (dk_at dksX9_files_0 13 rfl rfl)
theorem dX9_files_16 : decode cX9_files 16 = .ok (.iload_n 2, 1) := dk_28 (dk_at dksX9_files_0 16 rfl rfl)
theorem dX9_files_17 : decode cX9_files 17 = .ok (.iaload, 1) := dk_46 (dk_at dksX9_files_0 17 rfl rfl)
theorem dX9_files_18 : decode cX9_files 18 = .ok (.bipush 83, 2) := dk_16 83 (dk_at dksX9_files_0 18 rfl rfl)
theorem dX9_files_20 : decode cX9_files 20 = .ok (.if_icmp .eq 50, 3) := dk_159 0 50 (dk_at dksX9_files_0 20 rfl rfl)
theorem dX9_files_23 : decode cX9_files 23 = .ok (.iload_n 1, 1) := dk_27 (dk_at dksX9_files_0 23 rfl rfl)
theorem dX9_files_24 : decode cX9_files 24 = .ok (.aload_n 0, 1) := dk_42 (dk_at dksX9_files_1 0 rfl rfl)
theorem dX9_files_25 : decode cX9_files 25 = .ok (.getfield 9, 3) := dk_180 0 9 (dk_at dksX9_files_1 1 rfl rfl)
theorem dX9_files_28 : decode cX9_files 28 = .ok (.iload_n 2, 1) := dk_28 (dk_at dksX9_files_1 4 rfl rfl)
theorem dX9_files_29 : decode cX9_files 29 = .ok (.iaload, 1) := dk_46 (dk_at dksX9_files_1 5 rfl rfl)
theorem dX9_files_30 : decode cX9_files 30 = .ok (.bipush 70, 2) := dk_16 70 (dk_at dksX9_files_1 6 rfl rfl)
theorem dX9_files_32 : decode cX9_files 32 = .ok (.if_icmp .ne 14, 3) := dk_160 0 14 (dk_at dksX9_files_1 8 rfl rfl)
theorem dX9_files_35 : decode cX9_files 35 = .ok (.iconst 1, 1) := dk_4 (dk_at dksX9_files_1 11 rfl rfl)
theorem dX9_files_36 : decode cX9_files 36 = .ok (.aload_n 0, 1) := dk_42 (dk_at dksX9_files_1 12 rfl rfl)
theorem dX9_files_37 : decode cX9_files 37 = .ok (.getfield 15, 3) := dk_180 0 15 (dk_at dksX9_files_1 13 rfl rfl)
theorem dX9_files_40 : decode cX9_files 40 = .ok (.iload_n 2, 1) := dk_28 (dk_at dksX9_files_1 16 rfl rfl)
theorem dX9_files_41 : decode cX9_files 41 = .ok (.iaload, 1) := dk_46 (dk_at dksX9_files_1 17 rfl rfl)
theorem dX9_files_42 : decode cX9_files 42 = .ok (.ishl, 1) := dk_120 (dk_at dksX9_files_1 18 rfl rfl)
theorem dX9_files_43 : decode cX9_files 43 = .ok (.goto 19, 3) := dk_167 0 19 (dk_at dksX9_files_1 19 rfl rfl)
theorem dX9_files_46 : decode cX9_files 46 = .ok (.aload_n 0, 1) := dk_42 (dk_at dksX9_files_1 22 rfl rfl)
theorem dX9_files_47 : decode cX9_files 47 = .ok (.getfield 9, 3) := dk_180 0 9 (dk_at dksX9_files_2 0 rfl rfl)
theorem dX9_files_50 : decode cX9_files 50 = .ok (.iload_n 2, 1) := dk_28 (dk_at dksX9_files_2 3 rfl rfl)
theorem dX9_files_51 : decode cX9_files 51 = .ok (.iaload, 1) := dk_46 (dk_at dksX9_files_2 4 rfl rfl)
theorem dX9_files_52 : decode cX9_files 52 = .ok (.bipush 75, 2) := dk_16 75 (dk_at dksX9_files_2 5 rfl rfl)
theorem dX9_files_54 : decode cX9_files 54 = .ok (.if_icmp .ne 7, 3) := dk_160 0 7 (dk_at dksX9_files_2 7 rfl rfl)
theorem dX9_files_57 : decode cX9_files 57 = .ok (.iconst 1, 1) := dk_4 (dk_at dksX9_files_2 10 rfl rfl)
theorem dX9_files_58 : decode cX9_files 58 = .ok (.goto 4, 3) := dk_167 0 4 (dk_at dksX9_files_2 11 rfl rfl)
theorem dX9_files_61 : decode cX9_files 61 = .ok (.iconst 0, 1) := dk_3 (dk_at dksX9_files_2 14 rfl rfl)
theorem dX9_files_62 : decode cX9_files 62 = .ok (.ior, 1) := dk_128 (dk_at dksX9_files_2 15 rfl rfl)
theorem dX9_files_63 : decode cX9_files 63 = .ok (.istore_n 1, 1) := dk_60 (dk_at dksX9_files_2 16 rfl rfl)
theorem dX9_files_64 : decode cX9_files 64 = .ok (.iinc 2 1, 3) := dk_132 2 1 (dk_at dksX9_files_2 17 rfl rfl)
theorem dX9_files_67 : decode cX9_files 67 = .ok (.goto (-63), 3) := dk_167 255 193 (dk_at dksX9_files_2 20 rfl rfl)
theorem dX9_files_70 : decode cX9_files 70 = .ok (.iload_n 1, 1) := dk_27 (dk_at dksX9_files_2 23 rfl rfl)
theorem dX9_files_71 : decode cX9_files 71 = .ok (.ireturn, 1) := dk_172 (dk_at dksX9_files_3 0 rfl rfl)
theorem q83 : (Jvm.Cond.initialized "SortedPost$Rule") ∈ lw_all := lw_g (lw_at lw_m1 15 rfl) rfl
theorem q175 : (Jvm.Cond.instantiable "SortedPost$Rule" (4 : Nat)) ∈ lw_all := lw_g (lw_at lw_m1 107 rfl) rfl
theorem q177 : (Jvm.Cond.instanceMethod ({ cls := "SortedPost$Rule", name := "<init>", desc := "()V" } : Jvm.MethodName)) ∈ lw_all := lw_g (lw_at lw_m1 109 rfl) rfl
theorem q178 : (Jvm.Cond.code ({ cls := "SortedPost$Rule", name := "<init>", desc := "()V" } : Jvm.MethodName) prog_14_method_1_code (1 : Nat) (Option.none : Option Jvm.ClassFile.FieldType)) ∈ lw_all := lw_g (lw_at lw_m1 110 rfl) rfl
theorem q179 : (Jvm.Cond.methodLink "SortedPost$Rule" (3 : Nat) ({ cls := "java/lang/Object", name := "<init>", desc := "()V" } : Jvm.MethodName)) ∈ lw_all := lw_g (lw_at lw_m1 111 rfl) rfl
theorem q181 : (Jvm.Cond.fieldLink "SortedPost$Rule" (9 : Nat) "SortedPost$Rule" "acts" "[I") ∈ lw_all := lw_g (lw_at lw_m1 113 rfl) rfl
theorem q183 : (Jvm.Cond.fieldLink "SortedPost$Rule" (15 : Nat) "SortedPost$Rule" "numbers" "[I") ∈ lw_all := lw_g (lw_at lw_m1 115 rfl) rfl
theorem q185 : (Jvm.Cond.fieldLink "SortedPost$Rule" (18 : Nat) "SortedPost$Rule" "many" "I") ∈ lw_all := lw_g (lw_at lw_m1 117 rfl) rfl
theorem q187 : (Jvm.Cond.lays "SortedPost$Rule" "SortedPost$Rule" "test" "LSortedPost$Test;") ∈ lw_all := lw_g (lw_at lw_m1 119 rfl) rfl
theorem q188 : (Jvm.Cond.soleField "SortedPost$Rule" "test") ∈ lw_all := lw_g (lw_at lw_m1 120 rfl) rfl
theorem q189 : (Jvm.Cond.laysFinal "SortedPost$Rule" "SortedPost$Rule" "acts" "[I") ∈ lw_all := lw_g (lw_at lw_m1 121 rfl) rfl
theorem q190 : (Jvm.Cond.soleField "SortedPost$Rule" "acts") ∈ lw_all := lw_g (lw_at lw_m1 122 rfl) rfl
theorem q191 : (Jvm.Cond.laysFinal "SortedPost$Rule" "SortedPost$Rule" "numbers" "[I") ∈ lw_all := lw_g (lw_at lw_m1 123 rfl) rfl
theorem q192 : (Jvm.Cond.soleField "SortedPost$Rule" "numbers") ∈ lw_all := lw_g (lw_at lw_m1 124 rfl) rfl
theorem q193 : (Jvm.Cond.lays "SortedPost$Rule" "SortedPost$Rule" "many" "I") ∈ lw_all := lw_g (lw_at lw_m1 125 rfl) rfl
theorem q194 : (Jvm.Cond.soleField "SortedPost$Rule" "many") ∈ lw_all := lw_g (lw_at lw_m1 126 rfl) rfl
theorem q195 : (Jvm.Cond.superclass "SortedPost$Rule" "java/lang/Object") ∈ lw_all := lw_g (lw_at lw_m1 127 rfl) rfl
theorem q355 : (Jvm.Cond.selects "SortedPost$Rule" ({ cls := "java/lang/Object", name := "getClass", desc := "()Ljava/lang/Class;" } : Jvm.MethodName) ({ cls := "java/lang/Object", name := "getClass", desc := "()Ljava/lang/Class;" } : Jvm.MethodName)) ∈ lw_all := lw_g (lw_at lw_m2 47 rfl) rfl
theorem q1040 : (Jvm.Cond.instanceMethod ({ cls := "SortedPost$Rule", name := "stops", desc := "()Z" } : Jvm.MethodName)) ∈ lw_all := lw_g (lw_at lw_m5 12 rfl) rfl
theorem q1041 : (Jvm.Cond.selects "SortedPost$Rule" ({ cls := "SortedPost$Rule", name := "stops", desc := "()Z" } : Jvm.MethodName) ({ cls := "SortedPost$Rule", name := "stops", desc := "()Z" } : Jvm.MethodName)) ∈ lw_all := lw_g (lw_at lw_m5 13 rfl) rfl
theorem q1042 : (Jvm.Cond.code ({ cls := "SortedPost$Rule", name := "stops", desc := "()Z" } : Jvm.MethodName) prog_14_method_2_code (3 : Nat) (Option.some Jvm.ClassFile.FieldType.boolean)) ∈ lw_all := lw_g (lw_at lw_m5 14 rfl) rfl
theorem q1052 : (Jvm.Cond.instanceMethod ({ cls := "SortedPost$Rule", name := "files", desc := "()I" } : Jvm.MethodName)) ∈ lw_all := lw_g (lw_at lw_m5 24 rfl) rfl
theorem q1053 : (Jvm.Cond.selects "SortedPost$Rule" ({ cls := "SortedPost$Rule", name := "files", desc := "()I" } : Jvm.MethodName) ({ cls := "SortedPost$Rule", name := "files", desc := "()I" } : Jvm.MethodName)) ∈ lw_all := lw_g (lw_at lw_m5 25 rfl) rfl
theorem q1054 : (Jvm.Cond.code ({ cls := "SortedPost$Rule", name := "files", desc := "()I" } : Jvm.MethodName) prog_14_method_3_code (3 : Nat) (Option.some Jvm.ClassFile.FieldType.int)) ∈ lw_all := lw_g (lw_at lw_m5 26 rfl) rfl
theorem q1623 : (Jvm.Cond.castable "SortedPost$Rule" "java/lang/Object") ∈ lw_tbl := lw_at lw_m7 115 rfl
theorem in_X9 : ∀ w ∈ wsX90, w ∈ lw_all := lw_in wsX90 [187, 189, 191, 193] (by decide +kernel) (by decide +kernel)

