/-! java/lang/Throwable -/
set_option maxRecDepth 100000
def RJ0 : String := "java/lang/Throwable"
def TJ0 : u_T := fun k => match k with
  | 0 => ("java/lang/Throwable", "cause", "Ljava/lang/Throwable;", false)
  | 1 => ("java/lang/Throwable", "stackTrace", "[Ljava/lang/StackTraceElement;", false)
  | 2 => ("java/lang/Throwable", "suppressedExceptions", "Ljava/util/List;", false)
  | 3 => ("java/lang/Throwable", "detailMessage", "Ljava/lang/String;", false)
  | _ => ("java/lang/Throwable", "backtrace", "Ljava/lang/Object;", false)
def tyJ0 : Nat → FieldType := fun k => match k with
  | 0 => .object "java/lang/Throwable"
  | 1 => .array (.object "java/lang/StackTraceElement")
  | 2 => .object "java/util/List"
  | 3 => .object "java/lang/String"
  | _ => .object "java/lang/Object"
abbrev wsJ00 : List Cond := u_ws RJ0 TJ0 5
theorem nmJ0 : ∀ a, a < 5 → ∀ b, b < 5 → a ≠ b → (TJ0 a).2.1 ≠ (TJ0 b).2.1 := by decide +kernel
theorem tyJ0_ok : ∀ k, k < 5 → parseFieldDescriptor (TJ0 k).2.2.1 = some (tyJ0 k) := by decide +kernel
abbrev cJ0_init : ByteArray := prog_27_method_1_code
def yJ0_init : MethodName := ⟨RJ0, "<init>", "()V"⟩
def dkwJ0_init_1 : List UInt8 := [182, 0, 27, 87, 177]
abbrev dktJ0_init_1 : List UInt8 := dkwJ0_init_1 ++ []
def dkwJ0_init_0 : List UInt8 := [42, 183, 0, 1, 42, 42, 181, 0, 7, 42, 178, 0, 13, 181, 0, 17, 42, 178, 0, 20, 181, 0, 24, 42]
abbrev dktJ0_init_0 : List UInt8 := dkwJ0_init_0 ++ dktJ0_init_1
theorem dksJ0_init_0 : cJ0_init.data.toList.drop 0 = dktJ0_init_0 := by decide +kernel
theorem dksJ0_init_1 : cJ0_init.data.toList.drop 24 = dktJ0_init_1 := dk_seg dksJ0_init_0 24 rfl rfl
theorem dJ0_init_0 : decode cJ0_init 0 = .ok (.aload_n 0, 1) := dk_42 (dk_at dksJ0_init_0 0 rfl rfl)
theorem dJ0_init_1 : decode cJ0_init 1 = .ok (.invokespecial 1, 3) := dk_183 0 1 (dk_at dksJ0_init_0 1 rfl rfl)
theorem dJ0_init_4 : decode cJ0_init 4 = .ok (.aload_n 0, 1) := dk_42 (dk_at dksJ0_init_0 4 rfl rfl)
theorem dJ0_init_5 : decode cJ0_init 5 = .ok (.aload_n 0, 1) := dk_42 (dk_at dksJ0_init_0 5 rfl rfl)
theorem dJ0_init_6 : decode cJ0_init 6 = .ok (.putfield 7, 3) := dk_181 0 7 (dk_at dksJ0_init_0 6 rfl rfl)
theorem dJ0_init_9 : decode cJ0_init 9 = .ok (.aload_n 0, 1) := dk_42 (dk_at dksJ0_init_0 9 rfl rfl)
theorem dJ0_init_10 : decode cJ0_init 10 = .ok (.getstatic 13, 3) := dk_178 0 13 (dk_at dksJ0_init_0 10 rfl rfl)
theorem dJ0_init_13 : decode cJ0_init 13 = .ok (.putfield 17, 3) := dk_181 0 17 (dk_at dksJ0_init_0 13 rfl rfl)
theorem dJ0_init_16 : decode cJ0_init 16 = .ok (.aload_n 0, 1) := dk_42 (dk_at dksJ0_init_0 16 rfl rfl)
theorem dJ0_init_17 : decode cJ0_init 17 = .ok (.getstatic 20, 3) := dk_178 0 20 (dk_at dksJ0_init_0 17 rfl rfl)
theorem dJ0_init_20 : decode cJ0_init 20 = .ok (.putfield 24, 3) := dk_181 0 24 (dk_at dksJ0_init_0 20 rfl rfl)
theorem dJ0_init_23 : decode cJ0_init 23 = .ok (.aload_n 0, 1) := dk_42 (dk_at dksJ0_init_0 23 rfl rfl)
theorem dJ0_init_24 : decode cJ0_init 24 = .ok (.invokevirtual 27, 3) := dk_182 0 27 (dk_at dksJ0_init_1 0 rfl rfl)
theorem dJ0_init_27 : decode cJ0_init 27 = .ok (.pop, 1) := dk_87 (dk_at dksJ0_init_1 3 rfl rfl)
theorem dJ0_init_28 : decode cJ0_init 28 = .ok (.return_, 1) := dk_177 (dk_at dksJ0_init_1 4 rfl rfl)
theorem q79 : (Jvm.Cond.initialized "java/lang/Throwable") ∈ lw_all := lw_g (lw_at lw_m1 2 rfl) rfl
theorem q116 : (Jvm.Cond.declares ({ cls := "java/lang/Throwable", name := "<init>", desc := "()V" } : Jvm.MethodName)) ∈ lw_tbl := lw_at lw_m1 39 rfl
theorem q117 : (Jvm.Cond.declares ({ cls := "java/lang/Throwable", name := "<init>", desc := "(Ljava/lang/String;)V" } : Jvm.MethodName)) ∈ lw_tbl := lw_at lw_m1 40 rfl
theorem q121 : (Jvm.Cond.lays "java/lang/Throwable" "java/lang/Throwable" "cause" "Ljava/lang/Throwable;") ∈ lw_all := lw_g (lw_at lw_m1 44 rfl) rfl
theorem q123 : (Jvm.Cond.lays "java/lang/Throwable" "java/lang/Throwable" "stackTrace" "[Ljava/lang/StackTraceElement;") ∈ lw_all := lw_g (lw_at lw_m1 46 rfl) rfl
theorem q125 : (Jvm.Cond.lays "java/lang/Throwable" "java/lang/Throwable" "suppressedExceptions" "Ljava/util/List;") ∈ lw_all := lw_g (lw_at lw_m1 48 rfl) rfl
theorem q127 : (Jvm.Cond.lays "java/lang/Throwable" "java/lang/Throwable" "detailMessage" "Ljava/lang/String;") ∈ lw_all := lw_g (lw_at lw_m1 50 rfl) rfl
theorem q129 : (Jvm.Cond.lays "java/lang/Throwable" "java/lang/Throwable" "backtrace" "Ljava/lang/Object;") ∈ lw_all := lw_g (lw_at lw_m1 52 rfl) rfl
theorem q130 : (Jvm.Cond.fieldLink "java/lang/Throwable" (198 : Nat) "java/lang/Throwable" "backtrace" "Ljava/lang/Object;") ∈ lw_all := lw_g (lw_at lw_m1 53 rfl) rfl
theorem q131 : (Jvm.Cond.superclass "java/lang/Throwable" "java/lang/Object") ∈ lw_all := lw_g (lw_at lw_m1 54 rfl) rfl
theorem q132 : (Jvm.Cond.instanceMethod ({ cls := "java/lang/Throwable", name := "<init>", desc := "()V" } : Jvm.MethodName)) ∈ lw_all := lw_g (lw_at lw_m1 55 rfl) rfl
theorem q133 : (Jvm.Cond.code ({ cls := "java/lang/Throwable", name := "<init>", desc := "()V" } : Jvm.MethodName) prog_27_method_1_code (1 : Nat) (Option.none : Option Jvm.ClassFile.FieldType)) ∈ lw_all := lw_g (lw_at lw_m1 56 rfl) rfl
theorem q134 : (Jvm.Cond.methodLink "java/lang/Throwable" (1 : Nat) ({ cls := "java/lang/Object", name := "<init>", desc := "()V" } : Jvm.MethodName)) ∈ lw_all := lw_g (lw_at lw_m1 57 rfl) rfl
theorem q135 : (Jvm.Cond.fieldLink "java/lang/Throwable" (13 : Nat) "java/lang/Throwable" "UNASSIGNED_STACK" "[Ljava/lang/StackTraceElement;") ∈ lw_all := lw_g (lw_at lw_m1 58 rfl) rfl
theorem q136 : (Jvm.Cond.laysStatic "java/lang/Throwable" "UNASSIGNED_STACK" "[Ljava/lang/StackTraceElement;") ∈ lw_tbl := lw_at lw_m1 59 rfl
theorem q137 : (Jvm.Cond.fieldLink "java/lang/Throwable" (20 : Nat) "java/lang/Throwable" "SUPPRESSED_SENTINEL" "Ljava/util/List;") ∈ lw_all := lw_g (lw_at lw_m1 60 rfl) rfl
theorem q138 : (Jvm.Cond.laysStatic "java/lang/Throwable" "SUPPRESSED_SENTINEL" "Ljava/util/List;") ∈ lw_tbl := lw_at lw_m1 61 rfl
theorem q139 : (Jvm.Cond.methodLink "java/lang/Throwable" (27 : Nat) ({ cls := "java/lang/Throwable", name := "fillInStackTrace", desc := "()Ljava/lang/Throwable;" } : Jvm.MethodName)) ∈ lw_all := lw_g (lw_at lw_m1 62 rfl) rfl
theorem q140 : (Jvm.Cond.instanceMethod ({ cls := "java/lang/Throwable", name := "fillInStackTrace", desc := "()Ljava/lang/Throwable;" } : Jvm.MethodName)) ∈ lw_all := lw_g (lw_at lw_m1 63 rfl) rfl
theorem q141 : (Jvm.Cond.sameMethod "java/lang/Throwable" "java/lang/Throwable" "fillInStackTrace" "()Ljava/lang/Throwable;") ∈ lw_all := lw_g (lw_at lw_m1 64 rfl) rfl
theorem q143 : (Jvm.Cond.codeSync ({ cls := "java/lang/Throwable", name := "fillInStackTrace", desc := "()Ljava/lang/Throwable;" } : Jvm.MethodName) prog_27_method_18_code (1 : Nat) (Option.some (Jvm.ClassFile.FieldType.object "java/lang/Throwable"))) ∈ lw_all := lw_g (lw_at lw_m1 66 rfl) rfl
theorem q144 : (Jvm.Cond.methodLink "java/lang/Throwable" (202 : Nat) ({ cls := "java/lang/Throwable", name := "fillInStackTrace", desc := "(I)Ljava/lang/Throwable;" } : Jvm.MethodName)) ∈ lw_all := lw_g (lw_at lw_m1 67 rfl) rfl
theorem q145 : (Jvm.Cond.privateMethod ({ cls := "java/lang/Throwable", name := "fillInStackTrace", desc := "(I)Ljava/lang/Throwable;" } : Jvm.MethodName)) ∈ lw_tbl := lw_at lw_m1 68 rfl
theorem q146 : (Jvm.Cond.instanceMethod ({ cls := "java/lang/Throwable", name := "fillInStackTrace", desc := "(I)Ljava/lang/Throwable;" } : Jvm.MethodName)) ∈ lw_all := lw_g (lw_at lw_m1 69 rfl) rfl
theorem q147 : (Jvm.Cond.instantiable "java/lang/Throwable" (6 : Nat)) ∈ lw_all := lw_g (lw_at lw_m1 70 rfl) rfl
theorem q148 : (Jvm.Cond.native ({ cls := "java/lang/Throwable", name := "fillInStackTrace", desc := "(I)Ljava/lang/Throwable;" } : Jvm.MethodName)) ∈ lw_all := lw_g (lw_at lw_m1 71 rfl) rfl
theorem q156 : (Jvm.Cond.fieldLink "java/lang/Throwable" (198 : Nat) "java/lang/Throwable" "backtrace" "Ljava/lang/Object;") ∈ lw_all := lw_g (lw_at lw_m1 79 rfl) rfl
theorem q157 : (Jvm.Cond.fieldLink "java/lang/Throwable" (7 : Nat) "java/lang/Throwable" "cause" "Ljava/lang/Throwable;") ∈ lw_all := lw_g (lw_at lw_m1 80 rfl) rfl
theorem q158 : (Jvm.Cond.fieldLink "java/lang/Throwable" (17 : Nat) "java/lang/Throwable" "stackTrace" "[Ljava/lang/StackTraceElement;") ∈ lw_all := lw_g (lw_at lw_m1 81 rfl) rfl
theorem q159 : (Jvm.Cond.fieldLink "java/lang/Throwable" (24 : Nat) "java/lang/Throwable" "suppressedExceptions" "Ljava/util/List;") ∈ lw_all := lw_g (lw_at lw_m1 82 rfl) rfl
theorem q160 : (Jvm.Cond.soleField "java/lang/Throwable" "backtrace") ∈ lw_all := lw_g (lw_at lw_m1 83 rfl) rfl
theorem q161 : (Jvm.Cond.soleField "java/lang/Throwable" "detailMessage") ∈ lw_all := lw_g (lw_at lw_m1 84 rfl) rfl
theorem q162 : (Jvm.Cond.soleField "java/lang/Throwable" "cause") ∈ lw_all := lw_g (lw_at lw_m1 85 rfl) rfl
theorem q163 : (Jvm.Cond.soleField "java/lang/Throwable" "stackTrace") ∈ lw_all := lw_g (lw_at lw_m1 86 rfl) rfl
theorem q165 : (Jvm.Cond.soleField "java/lang/Throwable" "depth") ∈ lw_all := lw_g (lw_at lw_m1 88 rfl) rfl
theorem q166 : (Jvm.Cond.soleField "java/lang/Throwable" "suppressedExceptions") ∈ lw_all := lw_g (lw_at lw_m1 89 rfl) rfl
theorem q1486 : (Jvm.Cond.sameMethod "java/lang/Throwable" "java/lang/Throwable" "fillInStackTrace" "(I)Ljava/lang/Throwable;") ∈ lw_all := lw_g (lw_at lw_m6 209 rfl) rfl
theorem q1501 : (Jvm.Cond.castable "java/lang/Throwable" "java/lang/Object") ∈ lw_tbl := lw_at lw_m6 224 rfl
theorem in_J0 : ∀ w ∈ wsJ00, w ∈ lw_all := lw_in wsJ00 [121, 123, 125, 127, 129] (by decide +kernel) (by decide +kernel)

/-! java/lang/Exception -/
set_option maxRecDepth 100000
def RJ1 : String := "java/lang/Exception"
abbrev cJ1_init : ByteArray := prog_21_method_1_code
def yJ1_init : MethodName := ⟨RJ1, "<init>", "()V"⟩
theorem dJ1_init_0 : decode cJ1_init 0 = .ok (.aload_n 0, 1) := by decide +kernel
theorem dJ1_init_1 : decode cJ1_init 1 = .ok (.invokespecial 1, 3) := by decide +kernel
theorem dJ1_init_4 : decode cJ1_init 4 = .ok (.return_, 1) := by decide +kernel
theorem q80 : (Jvm.Cond.initialized "java/lang/Exception") ∈ lw_all := lw_g (lw_at lw_m1 3 rfl) rfl
theorem q114 : (Jvm.Cond.declares ({ cls := "java/lang/Exception", name := "<init>", desc := "()V" } : Jvm.MethodName)) ∈ lw_tbl := lw_at lw_m1 37 rfl
theorem q115 : (Jvm.Cond.declares ({ cls := "java/lang/Exception", name := "<init>", desc := "(Ljava/lang/String;)V" } : Jvm.MethodName)) ∈ lw_tbl := lw_at lw_m1 38 rfl
theorem q153 : (Jvm.Cond.instanceMethod ({ cls := "java/lang/Exception", name := "<init>", desc := "()V" } : Jvm.MethodName)) ∈ lw_all := lw_g (lw_at lw_m1 76 rfl) rfl
theorem q154 : (Jvm.Cond.code ({ cls := "java/lang/Exception", name := "<init>", desc := "()V" } : Jvm.MethodName) prog_21_method_1_code (1 : Nat) (Option.none : Option Jvm.ClassFile.FieldType)) ∈ lw_all := lw_g (lw_at lw_m1 77 rfl) rfl
theorem q155 : (Jvm.Cond.methodLink "java/lang/Exception" (1 : Nat) ({ cls := "java/lang/Throwable", name := "<init>", desc := "()V" } : Jvm.MethodName)) ∈ lw_all := lw_g (lw_at lw_m1 78 rfl) rfl

/-! java/lang/Object -/
set_option maxRecDepth 100000
def RJ10 : String := "java/lang/Object"
abbrev cJ10_init : ByteArray := object_method_1_code
def yJ10_init : MethodName := ⟨RJ10, "<init>", "()V"⟩
theorem dJ10_init_0 : decode cJ10_init 0 = .ok (.return_, 1) := by decide +kernel
theorem q109 : (Jvm.Cond.instanceMethod ({ cls := "java/lang/Object", name := "<init>", desc := "()V" } : Jvm.MethodName)) ∈ lw_all := lw_g (lw_at lw_m1 32 rfl) rfl
theorem q110 : (Jvm.Cond.code ({ cls := "java/lang/Object", name := "<init>", desc := "()V" } : Jvm.MethodName) object_method_1_code (1 : Nat) (Option.none : Option Jvm.ClassFile.FieldType)) ∈ lw_all := lw_g (lw_at lw_m1 33 rfl) rfl

/-! java/lang/String -/
set_option maxRecDepth 100000
def RJ2 : String := "java/lang/String"
abbrev cJ2_indexOf : ByteArray := prog_24_method_79_code
def yJ2_indexOf : MethodName := ⟨RJ2, "indexOf", "(I)I"⟩
def dkwJ2_indexOf_0 : List UInt8 := [42, 27, 3, 182, 2, 121, 172]
abbrev dktJ2_indexOf_0 : List UInt8 := dkwJ2_indexOf_0 ++ []
theorem dksJ2_indexOf_0 : cJ2_indexOf.data.toList.drop 0 = dktJ2_indexOf_0 := by decide +kernel
theorem dJ2_indexOf_0 : decode cJ2_indexOf 0 = .ok (.aload_n 0, 1) := dk_42 (dk_at dksJ2_indexOf_0 0 rfl rfl)
theorem dJ2_indexOf_1 : decode cJ2_indexOf 1 = .ok (.iload_n 1, 1) := dk_27 (dk_at dksJ2_indexOf_0 1 rfl rfl)
theorem dJ2_indexOf_2 : decode cJ2_indexOf 2 = .ok (.iconst 0, 1) := dk_3 (dk_at dksJ2_indexOf_0 2 rfl rfl)
theorem dJ2_indexOf_3 : decode cJ2_indexOf 3 = .ok (.invokevirtual 633, 3) := dk_182 2 121 (dk_at dksJ2_indexOf_0 3 rfl rfl)
theorem dJ2_indexOf_6 : decode cJ2_indexOf 6 = .ok (.ireturn, 1) := dk_172 (dk_at dksJ2_indexOf_0 6 rfl rfl)
abbrev cJ2_indexOf_2 : ByteArray := prog_24_method_80_code
def yJ2_indexOf_2 : MethodName := ⟨RJ2, "indexOf", "(II)I"⟩
def dkwJ2_indexOf_2_1 : List UInt8 := [180, 0, 9, 27, 28, 42, 182, 1, 249, 184, 2, 128, 172]
abbrev dktJ2_indexOf_2_1 : List UInt8 := dkwJ2_indexOf_2_1 ++ []
def dkwJ2_indexOf_2_0 : List UInt8 := [42, 182, 1, 236, 153, 0, 19, 42, 180, 0, 9, 27, 28, 42, 182, 1, 249, 184, 2, 125, 167, 0, 16, 42]
abbrev dktJ2_indexOf_2_0 : List UInt8 := dkwJ2_indexOf_2_0 ++ dktJ2_indexOf_2_1
theorem dksJ2_indexOf_2_0 : cJ2_indexOf_2.data.toList.drop 0 = dktJ2_indexOf_2_0 := by decide +kernel
theorem dksJ2_indexOf_2_1 : cJ2_indexOf_2.data.toList.drop 24 = dktJ2_indexOf_2_1 := dk_seg dksJ2_indexOf_2_0 24 rfl rfl
theorem dJ2_indexOf_2_0 : decode cJ2_indexOf_2 0 = .ok (.aload_n 0, 1) := dk_42 (dk_at dksJ2_indexOf_2_0 0 rfl rfl)
theorem dJ2_indexOf_2_1 : decode cJ2_indexOf_2 1 = .ok (.invokevirtual 492, 3) := dk_182 1 236 (dk_at dksJ2_indexOf_2_0 1 rfl rfl)
theorem dJ2_indexOf_2_4 : decode cJ2_indexOf_2 4 = .ok (.ifCond .eq 19, 3) := dk_153 0 19 (dk_at dksJ2_indexOf_2_0 4 rfl rfl)
theorem dJ2_indexOf_2_7 : decode cJ2_indexOf_2 7 = .ok (.aload_n 0, 1) := dk_42 (dk_at dksJ2_indexOf_2_0 7 rfl rfl)
theorem dJ2_indexOf_2_8 : decode cJ2_indexOf_2 8 = .ok (.getfield 9, 3) := dk_180 0 9 (dk_at dksJ2_indexOf_2_0 8 rfl rfl)
theorem dJ2_indexOf_2_11 : decode cJ2_indexOf_2 11 = .ok (.iload_n 1, 1) := dk_27 (dk_at dksJ2_indexOf_2_0 11 rfl rfl)
theorem dJ2_indexOf_2_12 : decode cJ2_indexOf_2 12 = .ok (.iload_n 2, 1) := dk_28 (dk_at dksJ2_indexOf_2_0 12 rfl rfl)
theorem dJ2_indexOf_2_13 : decode cJ2_indexOf_2 13 = .ok (.aload_n 0, 1) := dk_42 (dk_at dksJ2_indexOf_2_0 13 rfl rfl)
theorem dJ2_indexOf_2_14 : decode cJ2_indexOf_2 14 = .ok (.invokevirtual 505, 3) := dk_182 1 249 (dk_at dksJ2_indexOf_2_0 14 rfl rfl)
theorem dJ2_indexOf_2_17 : decode cJ2_indexOf_2 17 = .ok (.invokestatic 637, 3) := dk_184 2 125 (dk_at dksJ2_indexOf_2_0 17 rfl rfl)
theorem dJ2_indexOf_2_20 : decode cJ2_indexOf_2 20 = .ok (.goto 16, 3) := dk_167 0 16 (dk_at dksJ2_indexOf_2_0 20 rfl rfl)
theorem dJ2_indexOf_2_23 : decode cJ2_indexOf_2 23 = .ok (.aload_n 0, 1) := dk_42 (dk_at dksJ2_indexOf_2_0 23 rfl rfl)
theorem dJ2_indexOf_2_24 : decode cJ2_indexOf_2 24 = .ok (.getfield 9, 3) := dk_180 0 9 (dk_at dksJ2_indexOf_2_1 0 rfl rfl)
theorem dJ2_indexOf_2_27 : decode cJ2_indexOf_2 27 = .ok (.iload_n 1, 1) := dk_27 (dk_at dksJ2_indexOf_2_1 3 rfl rfl)
theorem dJ2_indexOf_2_28 : decode cJ2_indexOf_2 28 = .ok (.iload_n 2, 1) := dk_28 (dk_at dksJ2_indexOf_2_1 4 rfl rfl)
theorem dJ2_indexOf_2_29 : decode cJ2_indexOf_2 29 = .ok (.aload_n 0, 1) := dk_42 (dk_at dksJ2_indexOf_2_1 5 rfl rfl)
theorem dJ2_indexOf_2_30 : decode cJ2_indexOf_2 30 = .ok (.invokevirtual 505, 3) := dk_182 1 249 (dk_at dksJ2_indexOf_2_1 6 rfl rfl)
theorem dJ2_indexOf_2_33 : decode cJ2_indexOf_2 33 = .ok (.invokestatic 640, 3) := dk_184 2 128 (dk_at dksJ2_indexOf_2_1 9 rfl rfl)
theorem dJ2_indexOf_2_36 : decode cJ2_indexOf_2 36 = .ok (.ireturn, 1) := dk_172 (dk_at dksJ2_indexOf_2_1 12 rfl rfl)
abbrev cJ2_isLatin1 : ByteArray := prog_24_method_154_code
def yJ2_isLatin1 : MethodName := ⟨RJ2, "isLatin1", "()Z"⟩
def dkwJ2_isLatin1_0 : List UInt8 := [178, 0, 38, 153, 0, 14, 42, 180, 0, 15, 154, 0, 7, 4, 167, 0, 4, 3, 172]
abbrev dktJ2_isLatin1_0 : List UInt8 := dkwJ2_isLatin1_0 ++ []
theorem dksJ2_isLatin1_0 : cJ2_isLatin1.data.toList.drop 0 = dktJ2_isLatin1_0 := by decide +kernel
theorem dJ2_isLatin1_0 : decode cJ2_isLatin1 0 = .ok (.getstatic 38, 3) := dk_178 0 38 (dk_at dksJ2_isLatin1_0 0 rfl rfl)
theorem dJ2_isLatin1_3 : decode cJ2_isLatin1 3 = .ok (.ifCond .eq 14, 3) := dk_153 0 14 (dk_at dksJ2_isLatin1_0 3 rfl rfl)
theorem dJ2_isLatin1_6 : decode cJ2_isLatin1 6 = .ok (.aload_n 0, 1) := dk_42 (dk_at dksJ2_isLatin1_0 6 rfl rfl)
theorem dJ2_isLatin1_7 : decode cJ2_isLatin1 7 = .ok (.getfield 15, 3) := dk_180 0 15 (dk_at dksJ2_isLatin1_0 7 rfl rfl)
theorem dJ2_isLatin1_10 : decode cJ2_isLatin1 10 = .ok (.ifCond .ne 7, 3) := dk_154 0 7 (dk_at dksJ2_isLatin1_0 10 rfl rfl)
theorem dJ2_isLatin1_13 : decode cJ2_isLatin1 13 = .ok (.iconst 1, 1) := dk_4 (dk_at dksJ2_isLatin1_0 13 rfl rfl)
theorem dJ2_isLatin1_14 : decode cJ2_isLatin1 14 = .ok (.goto 4, 3) := dk_167 0 4 (dk_at dksJ2_isLatin1_0 14 rfl rfl)
theorem dJ2_isLatin1_17 : decode cJ2_isLatin1 17 = .ok (.iconst 0, 1) := dk_3 (dk_at dksJ2_isLatin1_0 17 rfl rfl)
theorem dJ2_isLatin1_18 : decode cJ2_isLatin1 18 = .ok (.ireturn, 1) := dk_172 (dk_at dksJ2_isLatin1_0 18 rfl rfl)
abbrev cJ2_length : ByteArray := prog_24_method_54_code
def yJ2_length : MethodName := ⟨RJ2, "length", "()I"⟩
def dkwJ2_length_0 : List UInt8 := [42, 180, 0, 9, 190, 42, 182, 1, 79, 122, 172]
abbrev dktJ2_length_0 : List UInt8 := dkwJ2_length_0 ++ []
theorem dksJ2_length_0 : cJ2_length.data.toList.drop 0 = dktJ2_length_0 := by decide +kernel
theorem dJ2_length_0 : decode cJ2_length 0 = .ok (.aload_n 0, 1) := dk_42 (dk_at dksJ2_length_0 0 rfl rfl)
theorem dJ2_length_1 : decode cJ2_length 1 = .ok (.getfield 9, 3) := dk_180 0 9 (dk_at dksJ2_length_0 1 rfl rfl)
theorem dJ2_length_4 : decode cJ2_length 4 = .ok (.arraylength, 1) := dk_190 (dk_at dksJ2_length_0 4 rfl rfl)
theorem dJ2_length_5 : decode cJ2_length 5 = .ok (.aload_n 0, 1) := dk_42 (dk_at dksJ2_length_0 5 rfl rfl)
theorem dJ2_length_6 : decode cJ2_length 6 = .ok (.invokevirtual 335, 3) := dk_182 1 79 (dk_at dksJ2_length_0 6 rfl rfl)
theorem dJ2_length_9 : decode cJ2_length 9 = .ok (.ishr, 1) := dk_122 (dk_at dksJ2_length_0 9 rfl rfl)
theorem dJ2_length_10 : decode cJ2_length 10 = .ok (.ireturn, 1) := dk_172 (dk_at dksJ2_length_0 10 rfl rfl)
abbrev cJ2_coder : ByteArray := prog_24_method_152_code
def yJ2_coder : MethodName := ⟨RJ2, "coder", "()B"⟩
def dkwJ2_coder_0 : List UInt8 := [178, 0, 38, 153, 0, 10, 42, 180, 0, 15, 167, 0, 4, 4, 172]
abbrev dktJ2_coder_0 : List UInt8 := dkwJ2_coder_0 ++ []
theorem dksJ2_coder_0 : cJ2_coder.data.toList.drop 0 = dktJ2_coder_0 := by decide +kernel
theorem dJ2_coder_0 : decode cJ2_coder 0 = .ok (.getstatic 38, 3) := dk_178 0 38 (dk_at dksJ2_coder_0 0 rfl rfl)
theorem dJ2_coder_3 : decode cJ2_coder 3 = .ok (.ifCond .eq 10, 3) := dk_153 0 10 (dk_at dksJ2_coder_0 3 rfl rfl)
theorem dJ2_coder_6 : decode cJ2_coder 6 = .ok (.aload_n 0, 1) := dk_42 (dk_at dksJ2_coder_0 6 rfl rfl)
theorem dJ2_coder_7 : decode cJ2_coder 7 = .ok (.getfield 15, 3) := dk_180 0 15 (dk_at dksJ2_coder_0 7 rfl rfl)
theorem dJ2_coder_10 : decode cJ2_coder 10 = .ok (.goto 4, 3) := dk_167 0 4 (dk_at dksJ2_coder_0 10 rfl rfl)
theorem dJ2_coder_13 : decode cJ2_coder 13 = .ok (.iconst 1, 1) := dk_4 (dk_at dksJ2_coder_0 13 rfl rfl)
theorem dJ2_coder_14 : decode cJ2_coder 14 = .ok (.ireturn, 1) := dk_172 (dk_at dksJ2_coder_0 14 rfl rfl)
abbrev cJ2_checkBoundsBeginEnd : ByteArray := prog_24_method_158_code
def yJ2_checkBoundsBeginEnd : MethodName := ⟨RJ2, "checkBoundsBeginEnd", "(III)V"⟩
def dkwJ2_checkBoundsBeginEnd_0 : List UInt8 := [26, 27, 28, 178, 4, 29, 184, 4, 38, 87, 177]
abbrev dktJ2_checkBoundsBeginEnd_0 : List UInt8 := dkwJ2_checkBoundsBeginEnd_0 ++ []
theorem dksJ2_checkBoundsBeginEnd_0 : cJ2_checkBoundsBeginEnd.data.toList.drop 0 = dktJ2_checkBoundsBeginEnd_0 := by decide +kernel
theorem dJ2_checkBoundsBeginEnd_0 : decode cJ2_checkBoundsBeginEnd 0 = .ok (.iload_n 0, 1) := dk_26 (dk_at dksJ2_checkBoundsBeginEnd_0 0 rfl rfl)
theorem dJ2_checkBoundsBeginEnd_1 : decode cJ2_checkBoundsBeginEnd 1 = .ok (.iload_n 1, 1) := dk_27 (dk_at dksJ2_checkBoundsBeginEnd_0 1 rfl rfl)
theorem dJ2_checkBoundsBeginEnd_2 : decode cJ2_checkBoundsBeginEnd 2 = .ok (.iload_n 2, 1) := dk_28 (dk_at dksJ2_checkBoundsBeginEnd_0 2 rfl rfl)
theorem dJ2_checkBoundsBeginEnd_3 : decode cJ2_checkBoundsBeginEnd 3 = .ok (.getstatic 1053, 3) := dk_178 4 29 (dk_at dksJ2_checkBoundsBeginEnd_0 3 rfl rfl)
theorem dJ2_checkBoundsBeginEnd_6 : decode cJ2_checkBoundsBeginEnd 6 = .ok (.invokestatic 1062, 3) := dk_184 4 38 (dk_at dksJ2_checkBoundsBeginEnd_0 6 rfl rfl)
theorem dJ2_checkBoundsBeginEnd_9 : decode cJ2_checkBoundsBeginEnd 9 = .ok (.pop, 1) := dk_87 (dk_at dksJ2_checkBoundsBeginEnd_0 9 rfl rfl)
theorem dJ2_checkBoundsBeginEnd_10 : decode cJ2_checkBoundsBeginEnd 10 = .ok (.return_, 1) := dk_177 (dk_at dksJ2_checkBoundsBeginEnd_0 10 rfl rfl)
abbrev cJ2_charAt : ByteArray := prog_24_method_56_code
def yJ2_charAt : MethodName := ⟨RJ2, "charAt", "(I)C"⟩
def dkwJ2_charAt_1 : List UInt8 := [172]
abbrev dktJ2_charAt_1 : List UInt8 := dkwJ2_charAt_1 ++ []
def dkwJ2_charAt_0 : List UInt8 := [42, 182, 1, 236, 153, 0, 12, 42, 180, 0, 9, 27, 184, 1, 239, 172, 42, 180, 0, 9, 27, 184, 1, 242]
abbrev dktJ2_charAt_0 : List UInt8 := dkwJ2_charAt_0 ++ dktJ2_charAt_1
theorem dksJ2_charAt_0 : cJ2_charAt.data.toList.drop 0 = dktJ2_charAt_0 := by decide +kernel
theorem dksJ2_charAt_1 : cJ2_charAt.data.toList.drop 24 = dktJ2_charAt_1 := dk_seg dksJ2_charAt_0 24 rfl rfl
theorem dJ2_charAt_0 : decode cJ2_charAt 0 = .ok (.aload_n 0, 1) := dk_42 (dk_at dksJ2_charAt_0 0 rfl rfl)
theorem dJ2_charAt_1 : decode cJ2_charAt 1 = .ok (.invokevirtual 492, 3) := dk_182 1 236 (dk_at dksJ2_charAt_0 1 rfl rfl)
theorem dJ2_charAt_4 : decode cJ2_charAt 4 = .ok (.ifCond .eq 12, 3) := dk_153 0 12 (dk_at dksJ2_charAt_0 4 rfl rfl)
theorem dJ2_charAt_7 : decode cJ2_charAt 7 = .ok (.aload_n 0, 1) := dk_42 (dk_at dksJ2_charAt_0 7 rfl rfl)
theorem dJ2_charAt_8 : decode cJ2_charAt 8 = .ok (.getfield 9, 3) := dk_180 0 9 (dk_at dksJ2_charAt_0 8 rfl rfl)
theorem dJ2_charAt_11 : decode cJ2_charAt 11 = .ok (.iload_n 1, 1) := dk_27 (dk_at dksJ2_charAt_0 11 rfl rfl)
theorem dJ2_charAt_12 : decode cJ2_charAt 12 = .ok (.invokestatic 495, 3) := dk_184 1 239 (dk_at dksJ2_charAt_0 12 rfl rfl)
theorem dJ2_charAt_15 : decode cJ2_charAt 15 = .ok (.ireturn, 1) := dk_172 (dk_at dksJ2_charAt_0 15 rfl rfl)
theorem dJ2_charAt_16 : decode cJ2_charAt 16 = .ok (.aload_n 0, 1) := dk_42 (dk_at dksJ2_charAt_0 16 rfl rfl)
theorem dJ2_charAt_17 : decode cJ2_charAt 17 = .ok (.getfield 9, 3) := dk_180 0 9 (dk_at dksJ2_charAt_0 17 rfl rfl)
theorem dJ2_charAt_20 : decode cJ2_charAt 20 = .ok (.iload_n 1, 1) := dk_27 (dk_at dksJ2_charAt_0 20 rfl rfl)
theorem dJ2_charAt_21 : decode cJ2_charAt 21 = .ok (.invokestatic 498, 3) := dk_184 1 242 (dk_at dksJ2_charAt_0 21 rfl rfl)
theorem dJ2_charAt_24 : decode cJ2_charAt 24 = .ok (.ireturn, 1) := dk_172 (dk_at dksJ2_charAt_1 0 rfl rfl)
abbrev cJ2_checkIndex : ByteArray := prog_24_method_155_code
def yJ2_checkIndex : MethodName := ⟨RJ2, "checkIndex", "(II)V"⟩
def dkwJ2_checkIndex_0 : List UInt8 := [26, 27, 178, 4, 29, 184, 4, 35, 87, 177]
abbrev dktJ2_checkIndex_0 : List UInt8 := dkwJ2_checkIndex_0 ++ []
theorem dksJ2_checkIndex_0 : cJ2_checkIndex.data.toList.drop 0 = dktJ2_checkIndex_0 := by decide +kernel
theorem dJ2_checkIndex_0 : decode cJ2_checkIndex 0 = .ok (.iload_n 0, 1) := dk_26 (dk_at dksJ2_checkIndex_0 0 rfl rfl)
theorem dJ2_checkIndex_1 : decode cJ2_checkIndex 1 = .ok (.iload_n 1, 1) := dk_27 (dk_at dksJ2_checkIndex_0 1 rfl rfl)
theorem dJ2_checkIndex_2 : decode cJ2_checkIndex 2 = .ok (.getstatic 1053, 3) := dk_178 4 29 (dk_at dksJ2_checkIndex_0 2 rfl rfl)
theorem dJ2_checkIndex_5 : decode cJ2_checkIndex 5 = .ok (.invokestatic 1059, 3) := dk_184 4 35 (dk_at dksJ2_checkIndex_0 5 rfl rfl)
theorem dJ2_checkIndex_8 : decode cJ2_checkIndex 8 = .ok (.pop, 1) := dk_87 (dk_at dksJ2_checkIndex_0 8 rfl rfl)
theorem dJ2_checkIndex_9 : decode cJ2_checkIndex 9 = .ok (.return_, 1) := dk_177 (dk_at dksJ2_checkIndex_0 9 rfl rfl)
theorem q85 : (Jvm.Cond.initialized "java/lang/String") ∈ lw_all := lw_g (lw_at lw_m1 8 rfl) rfl
theorem q379 : (Jvm.Cond.instanceMethod ({ cls := "java/lang/String", name := "indexOf", desc := "(I)I" } : Jvm.MethodName)) ∈ lw_all := lw_g (lw_at lw_m2 62 rfl) rfl
theorem q380 : (Jvm.Cond.selects "java/lang/String" ({ cls := "java/lang/String", name := "indexOf", desc := "(I)I" } : Jvm.MethodName) ({ cls := "java/lang/String", name := "indexOf", desc := "(I)I" } : Jvm.MethodName)) ∈ lw_all := lw_g (lw_at lw_m2 63 rfl) rfl
theorem q381 : (Jvm.Cond.code ({ cls := "java/lang/String", name := "indexOf", desc := "(I)I" } : Jvm.MethodName) prog_24_method_79_code (2 : Nat) (Option.some Jvm.ClassFile.FieldType.int)) ∈ lw_all := lw_g (lw_at lw_m2 64 rfl) rfl
theorem q382 : (Jvm.Cond.methodLink "java/lang/String" (633 : Nat) ({ cls := "java/lang/String", name := "indexOf", desc := "(II)I" } : Jvm.MethodName)) ∈ lw_all := lw_g (lw_at lw_m2 65 rfl) rfl
theorem q383 : (Jvm.Cond.instanceMethod ({ cls := "java/lang/String", name := "indexOf", desc := "(II)I" } : Jvm.MethodName)) ∈ lw_all := lw_g (lw_at lw_m2 66 rfl) rfl
theorem q384 : (Jvm.Cond.selects "java/lang/String" ({ cls := "java/lang/String", name := "indexOf", desc := "(II)I" } : Jvm.MethodName) ({ cls := "java/lang/String", name := "indexOf", desc := "(II)I" } : Jvm.MethodName)) ∈ lw_all := lw_g (lw_at lw_m2 67 rfl) rfl
theorem q385 : (Jvm.Cond.code ({ cls := "java/lang/String", name := "indexOf", desc := "(II)I" } : Jvm.MethodName) prog_24_method_80_code (3 : Nat) (Option.some Jvm.ClassFile.FieldType.int)) ∈ lw_all := lw_g (lw_at lw_m2 68 rfl) rfl
theorem q386 : (Jvm.Cond.methodLink "java/lang/String" (492 : Nat) ({ cls := "java/lang/String", name := "isLatin1", desc := "()Z" } : Jvm.MethodName)) ∈ lw_all := lw_g (lw_at lw_m2 69 rfl) rfl
theorem q387 : (Jvm.Cond.instanceMethod ({ cls := "java/lang/String", name := "isLatin1", desc := "()Z" } : Jvm.MethodName)) ∈ lw_all := lw_g (lw_at lw_m2 70 rfl) rfl
theorem q388 : (Jvm.Cond.selects "java/lang/String" ({ cls := "java/lang/String", name := "isLatin1", desc := "()Z" } : Jvm.MethodName) ({ cls := "java/lang/String", name := "isLatin1", desc := "()Z" } : Jvm.MethodName)) ∈ lw_all := lw_g (lw_at lw_m2 71 rfl) rfl
theorem q389 : (Jvm.Cond.code ({ cls := "java/lang/String", name := "isLatin1", desc := "()Z" } : Jvm.MethodName) prog_24_method_154_code (1 : Nat) (Option.some Jvm.ClassFile.FieldType.boolean)) ∈ lw_all := lw_g (lw_at lw_m2 72 rfl) rfl
theorem q390 : (Jvm.Cond.fieldLink "java/lang/String" (38 : Nat) "java/lang/String" "COMPACT_STRINGS" "Z") ∈ lw_all := lw_g (lw_at lw_m2 73 rfl) rfl
theorem q391 : (Jvm.Cond.laysStatic "java/lang/String" "COMPACT_STRINGS" "Z") ∈ lw_tbl := lw_at lw_m2 74 rfl
theorem q392 : (Jvm.Cond.methodLink "java/lang/String" (505 : Nat) ({ cls := "java/lang/String", name := "length", desc := "()I" } : Jvm.MethodName)) ∈ lw_all := lw_g (lw_at lw_m2 75 rfl) rfl
theorem q393 : (Jvm.Cond.instanceMethod ({ cls := "java/lang/String", name := "length", desc := "()I" } : Jvm.MethodName)) ∈ lw_all := lw_g (lw_at lw_m2 76 rfl) rfl
theorem q394 : (Jvm.Cond.selects "java/lang/String" ({ cls := "java/lang/String", name := "length", desc := "()I" } : Jvm.MethodName) ({ cls := "java/lang/String", name := "length", desc := "()I" } : Jvm.MethodName)) ∈ lw_all := lw_g (lw_at lw_m2 77 rfl) rfl
theorem q395 : (Jvm.Cond.code ({ cls := "java/lang/String", name := "length", desc := "()I" } : Jvm.MethodName) prog_24_method_54_code (1 : Nat) (Option.some Jvm.ClassFile.FieldType.int)) ∈ lw_all := lw_g (lw_at lw_m2 78 rfl) rfl
theorem q396 : (Jvm.Cond.methodLink "java/lang/String" (335 : Nat) ({ cls := "java/lang/String", name := "coder", desc := "()B" } : Jvm.MethodName)) ∈ lw_all := lw_g (lw_at lw_m2 79 rfl) rfl
theorem q397 : (Jvm.Cond.instanceMethod ({ cls := "java/lang/String", name := "coder", desc := "()B" } : Jvm.MethodName)) ∈ lw_all := lw_g (lw_at lw_m2 80 rfl) rfl
theorem q398 : (Jvm.Cond.selects "java/lang/String" ({ cls := "java/lang/String", name := "coder", desc := "()B" } : Jvm.MethodName) ({ cls := "java/lang/String", name := "coder", desc := "()B" } : Jvm.MethodName)) ∈ lw_all := lw_g (lw_at lw_m2 81 rfl) rfl
theorem q399 : (Jvm.Cond.code ({ cls := "java/lang/String", name := "coder", desc := "()B" } : Jvm.MethodName) prog_24_method_152_code (1 : Nat) (Option.some Jvm.ClassFile.FieldType.byte)) ∈ lw_all := lw_g (lw_at lw_m2 82 rfl) rfl
theorem q400 : (Jvm.Cond.methodLink "java/lang/String" (637 : Nat) ({ cls := "java/lang/StringLatin1", name := "indexOf", desc := "([BIII)I" } : Jvm.MethodName)) ∈ lw_all := lw_g (lw_at lw_m2 83 rfl) rfl
theorem q415 : (Jvm.Cond.methodLink "java/lang/String" (640 : Nat) ({ cls := "java/lang/StringUTF16", name := "indexOf", desc := "([BIII)I" } : Jvm.MethodName)) ∈ lw_all := lw_g (lw_at lw_m2 98 rfl) rfl
theorem q431 : (Jvm.Cond.static ({ cls := "java/lang/String", name := "checkBoundsBeginEnd", desc := "(III)V" } : Jvm.MethodName)) ∈ lw_all := lw_g (lw_at lw_m2 114 rfl) rfl
theorem q432 : (Jvm.Cond.code ({ cls := "java/lang/String", name := "checkBoundsBeginEnd", desc := "(III)V" } : Jvm.MethodName) prog_24_method_158_code (3 : Nat) (Option.none : Option Jvm.ClassFile.FieldType)) ∈ lw_all := lw_g (lw_at lw_m2 115 rfl) rfl
theorem q433 : (Jvm.Cond.fieldLink "java/lang/String" (1053 : Nat) "jdk/internal/util/Preconditions" "SIOOBE_FORMATTER" "Ljava/util/function/BiFunction;") ∈ lw_all := lw_g (lw_at lw_m2 116 rfl) rfl
theorem q435 : (Jvm.Cond.methodLink "java/lang/String" (1062 : Nat) ({ cls := "jdk/internal/util/Preconditions", name := "checkFromToIndex", desc := "(IIILjava/util/function/BiFunction;)I" } : Jvm.MethodName)) ∈ lw_all := lw_g (lw_at lw_m2 118 rfl) rfl
theorem q776 : (Jvm.Cond.instanceMethod ({ cls := "java/lang/String", name := "charAt", desc := "(I)C" } : Jvm.MethodName)) ∈ lw_all := lw_g (lw_at lw_m3 219 rfl) rfl
theorem q777 : (Jvm.Cond.selects "java/lang/String" ({ cls := "java/lang/String", name := "charAt", desc := "(I)C" } : Jvm.MethodName) ({ cls := "java/lang/String", name := "charAt", desc := "(I)C" } : Jvm.MethodName)) ∈ lw_all := lw_g (lw_at lw_m3 220 rfl) rfl
theorem q778 : (Jvm.Cond.code ({ cls := "java/lang/String", name := "charAt", desc := "(I)C" } : Jvm.MethodName) prog_24_method_56_code (2 : Nat) (Option.some Jvm.ClassFile.FieldType.char)) ∈ lw_all := lw_g (lw_at lw_m3 221 rfl) rfl
theorem q779 : (Jvm.Cond.methodLink "java/lang/String" (495 : Nat) ({ cls := "java/lang/StringLatin1", name := "charAt", desc := "([BI)C" } : Jvm.MethodName)) ∈ lw_all := lw_g (lw_at lw_m3 222 rfl) rfl
theorem q783 : (Jvm.Cond.static ({ cls := "java/lang/String", name := "checkIndex", desc := "(II)V" } : Jvm.MethodName)) ∈ lw_all := lw_g (lw_at lw_m3 226 rfl) rfl
theorem q784 : (Jvm.Cond.code ({ cls := "java/lang/String", name := "checkIndex", desc := "(II)V" } : Jvm.MethodName) prog_24_method_155_code (2 : Nat) (Option.none : Option Jvm.ClassFile.FieldType)) ∈ lw_all := lw_g (lw_at lw_m3 227 rfl) rfl
theorem q785 : (Jvm.Cond.methodLink "java/lang/String" (1059 : Nat) ({ cls := "jdk/internal/util/Preconditions", name := "checkIndex", desc := "(IILjava/util/function/BiFunction;)I" } : Jvm.MethodName)) ∈ lw_all := lw_g (lw_at lw_m3 228 rfl) rfl
theorem q788 : (Jvm.Cond.methodLink "java/lang/String" (498 : Nat) ({ cls := "java/lang/StringUTF16", name := "charAt", desc := "([BI)C" } : Jvm.MethodName)) ∈ lw_all := lw_g (lw_at lw_m3 231 rfl) rfl
theorem q1502 : (Jvm.Cond.castable "java/lang/String" "java/lang/Object") ∈ lw_tbl := lw_at lw_m6 225 rfl
theorem q1503 : (Jvm.Cond.fieldLink "java/lang/String" (15 : Nat) "java/lang/String" "coder" "B") ∈ lw_all := lw_g (lw_at lw_m6 226 rfl) rfl
theorem q1504 : (Jvm.Cond.fieldLink "java/lang/String" (9 : Nat) "java/lang/String" "value" "[B") ∈ lw_all := lw_g (lw_at lw_m6 227 rfl) rfl

/-! java/lang/StringLatin1 -/
set_option maxRecDepth 100000
def RJ3 : String := "java/lang/StringLatin1"
abbrev cJ3_indexOf : ByteArray := prog_25_method_22_code
def yJ3_indexOf : MethodName := ⟨RJ3, "indexOf", "([BIII)I"⟩
def dkwJ3_indexOf_1 : List UInt8 := [161, 0, 5, 2, 172, 42, 27, 28, 29, 184, 0, 95, 172]
abbrev dktJ3_indexOf_1 : List UInt8 := dkwJ3_indexOf_1 ++ []
def dkwJ3_indexOf_0 : List UInt8 := [27, 184, 0, 88, 154, 0, 5, 2, 172, 28, 3, 184, 0, 92, 61, 29, 42, 190, 184, 0, 38, 62, 28, 29]
abbrev dktJ3_indexOf_0 : List UInt8 := dkwJ3_indexOf_0 ++ dktJ3_indexOf_1
theorem dksJ3_indexOf_0 : cJ3_indexOf.data.toList.drop 0 = dktJ3_indexOf_0 := by decide +kernel
theorem dksJ3_indexOf_1 : cJ3_indexOf.data.toList.drop 24 = dktJ3_indexOf_1 := dk_seg dksJ3_indexOf_0 24 rfl rfl
theorem dJ3_indexOf_0 : decode cJ3_indexOf 0 = .ok (.iload_n 1, 1) := dk_27 (dk_at dksJ3_indexOf_0 0 rfl rfl)
theorem dJ3_indexOf_1 : decode cJ3_indexOf 1 = .ok (.invokestatic 88, 3) := dk_184 0 88 (dk_at dksJ3_indexOf_0 1 rfl rfl)
theorem dJ3_indexOf_4 : decode cJ3_indexOf 4 = .ok (.ifCond .ne 5, 3) := dk_154 0 5 (dk_at dksJ3_indexOf_0 4 rfl rfl)
theorem dJ3_indexOf_7 : decode cJ3_indexOf 7 = .ok (.iconst (-1), 1) := dk_2 (dk_at dksJ3_indexOf_0 7 rfl rfl)
theorem dJ3_indexOf_8 : decode cJ3_indexOf 8 = .ok (.ireturn, 1) := dk_172 (dk_at dksJ3_indexOf_0 8 rfl rfl)
theorem dJ3_indexOf_9 : decode cJ3_indexOf 9 = .ok (.iload_n 2, 1) := dk_28 (dk_at dksJ3_indexOf_0 9 rfl rfl)
theorem dJ3_indexOf_10 : decode cJ3_indexOf 10 = .ok (.iconst 0, 1) := dk_3 (dk_at dksJ3_indexOf_0 10 rfl rfl)
theorem dJ3_indexOf_11 : decode cJ3_indexOf 11 = .ok (.invokestatic 92, 3) := dk_184 0 92 (dk_at dksJ3_indexOf_0 11 rfl rfl)
theorem dJ3_indexOf_14 : decode cJ3_indexOf 14 = .ok (.istore_n 2, 1) := dk_61 (dk_at dksJ3_indexOf_0 14 rfl rfl)
theorem dJ3_indexOf_15 : decode cJ3_indexOf 15 = .ok (.iload_n 3, 1) := dk_29 (dk_at dksJ3_indexOf_0 15 rfl rfl)
theorem dJ3_indexOf_16 : decode cJ3_indexOf 16 = .ok (.aload_n 0, 1) := dk_42 (dk_at dksJ3_indexOf_0 16 rfl rfl)
theorem dJ3_indexOf_17 : decode cJ3_indexOf 17 = .ok (.arraylength, 1) := dk_190 (dk_at dksJ3_indexOf_0 17 rfl rfl)
theorem dJ3_indexOf_18 : decode cJ3_indexOf 18 = .ok (.invokestatic 38, 3) := dk_184 0 38 (dk_at dksJ3_indexOf_0 18 rfl rfl)
theorem dJ3_indexOf_21 : decode cJ3_indexOf 21 = .ok (.istore_n 3, 1) := dk_62 (dk_at dksJ3_indexOf_0 21 rfl rfl)
theorem dJ3_indexOf_22 : decode cJ3_indexOf 22 = .ok (.iload_n 2, 1) := dk_28 (dk_at dksJ3_indexOf_0 22 rfl rfl)
theorem dJ3_indexOf_23 : decode cJ3_indexOf 23 = .ok (.iload_n 3, 1) := dk_29 (dk_at dksJ3_indexOf_0 23 rfl rfl)
theorem dJ3_indexOf_24 : decode cJ3_indexOf 24 = .ok (.if_icmp .lt 5, 3) := dk_161 0 5 (dk_at dksJ3_indexOf_1 0 rfl rfl)
theorem dJ3_indexOf_27 : decode cJ3_indexOf 27 = .ok (.iconst (-1), 1) := dk_2 (dk_at dksJ3_indexOf_1 3 rfl rfl)
theorem dJ3_indexOf_28 : decode cJ3_indexOf 28 = .ok (.ireturn, 1) := dk_172 (dk_at dksJ3_indexOf_1 4 rfl rfl)
theorem dJ3_indexOf_29 : decode cJ3_indexOf 29 = .ok (.aload_n 0, 1) := dk_42 (dk_at dksJ3_indexOf_1 5 rfl rfl)
theorem dJ3_indexOf_30 : decode cJ3_indexOf 30 = .ok (.iload_n 1, 1) := dk_27 (dk_at dksJ3_indexOf_1 6 rfl rfl)
theorem dJ3_indexOf_31 : decode cJ3_indexOf 31 = .ok (.iload_n 2, 1) := dk_28 (dk_at dksJ3_indexOf_1 7 rfl rfl)
theorem dJ3_indexOf_32 : decode cJ3_indexOf 32 = .ok (.iload_n 3, 1) := dk_29 (dk_at dksJ3_indexOf_1 8 rfl rfl)
theorem dJ3_indexOf_33 : decode cJ3_indexOf 33 = .ok (.invokestatic 95, 3) := dk_184 0 95 (dk_at dksJ3_indexOf_1 9 rfl rfl)
theorem dJ3_indexOf_36 : decode cJ3_indexOf 36 = .ok (.ireturn, 1) := dk_172 (dk_at dksJ3_indexOf_1 12 rfl rfl)
abbrev cJ3_canEncode : ByteArray := prog_25_method_4_code
def yJ3_canEncode : MethodName := ⟨RJ3, "canEncode", "(I)Z"⟩
def dkwJ3_canEncode_0 : List UInt8 := [26, 155, 0, 14, 26, 17, 0, 255, 163, 0, 7, 4, 167, 0, 4, 3, 172]
abbrev dktJ3_canEncode_0 : List UInt8 := dkwJ3_canEncode_0 ++ []
theorem dksJ3_canEncode_0 : cJ3_canEncode.data.toList.drop 0 = dktJ3_canEncode_0 := by decide +kernel
theorem dJ3_canEncode_0 : decode cJ3_canEncode 0 = .ok (.iload_n 0, 1) := dk_26 (dk_at dksJ3_canEncode_0 0 rfl rfl)
theorem dJ3_canEncode_1 : decode cJ3_canEncode 1 = .ok (.ifCond .lt 14, 3) := dk_155 0 14 (dk_at dksJ3_canEncode_0 1 rfl rfl)
theorem dJ3_canEncode_4 : decode cJ3_canEncode 4 = .ok (.iload_n 0, 1) := dk_26 (dk_at dksJ3_canEncode_0 4 rfl rfl)
theorem dJ3_canEncode_5 : decode cJ3_canEncode 5 = .ok (.sipush 255, 3) := dk_17 0 255 (dk_at dksJ3_canEncode_0 5 rfl rfl)
theorem dJ3_canEncode_8 : decode cJ3_canEncode 8 = .ok (.if_icmp .gt 7, 3) := dk_163 0 7 (dk_at dksJ3_canEncode_0 8 rfl rfl)
theorem dJ3_canEncode_11 : decode cJ3_canEncode 11 = .ok (.iconst 1, 1) := dk_4 (dk_at dksJ3_canEncode_0 11 rfl rfl)
theorem dJ3_canEncode_12 : decode cJ3_canEncode 12 = .ok (.goto 4, 3) := dk_167 0 4 (dk_at dksJ3_canEncode_0 12 rfl rfl)
theorem dJ3_canEncode_15 : decode cJ3_canEncode 15 = .ok (.iconst 0, 1) := dk_3 (dk_at dksJ3_canEncode_0 15 rfl rfl)
theorem dJ3_canEncode_16 : decode cJ3_canEncode 16 = .ok (.ireturn, 1) := dk_172 (dk_at dksJ3_canEncode_0 16 rfl rfl)
abbrev cJ3_indexOfChar : ByteArray := prog_25_method_23_code
def yJ3_indexOfChar : MethodName := ⟨RJ3, "indexOfChar", "([BIII)I"⟩
def dkwJ3_indexOfChar_1 : List UInt8 := [172, 132, 5, 1, 167, 255, 235, 2, 172]
abbrev dktJ3_indexOfChar_1 : List UInt8 := dkwJ3_indexOfChar_1 ++ []
def dkwJ3_indexOfChar_0 : List UInt8 := [27, 145, 54, 4, 28, 54, 5, 21, 5, 29, 162, 0, 21, 42, 21, 5, 51, 21, 4, 160, 0, 6, 21, 5]
abbrev dktJ3_indexOfChar_0 : List UInt8 := dkwJ3_indexOfChar_0 ++ dktJ3_indexOfChar_1
theorem dksJ3_indexOfChar_0 : cJ3_indexOfChar.data.toList.drop 0 = dktJ3_indexOfChar_0 := by decide +kernel
theorem dksJ3_indexOfChar_1 : cJ3_indexOfChar.data.toList.drop 24 = dktJ3_indexOfChar_1 := dk_seg dksJ3_indexOfChar_0 24 rfl rfl
theorem dJ3_indexOfChar_0 : decode cJ3_indexOfChar 0 = .ok (.iload_n 1, 1) := dk_27 (dk_at dksJ3_indexOfChar_0 0 rfl rfl)
theorem dJ3_indexOfChar_1 : decode cJ3_indexOfChar 1 = .ok (.i2b, 1) := dk_145 (dk_at dksJ3_indexOfChar_0 1 rfl rfl)
theorem dJ3_indexOfChar_2 : decode cJ3_indexOfChar 2 = .ok (.istore 4, 2) := dk_54 4 (dk_at dksJ3_indexOfChar_0 2 rfl rfl)
theorem dJ3_indexOfChar_4 : decode cJ3_indexOfChar 4 = .ok (.iload_n 2, 1) := dk_28 (dk_at dksJ3_indexOfChar_0 4 rfl rfl)
theorem dJ3_indexOfChar_5 : decode cJ3_indexOfChar 5 = .ok (.istore 5, 2) := dk_54 5 (dk_at dksJ3_indexOfChar_0 5 rfl rfl)
theorem dJ3_indexOfChar_7 : decode cJ3_indexOfChar 7 = .ok (.iload 5, 2) := dk_21 5 (dk_at dksJ3_indexOfChar_0 7 rfl rfl)
theorem dJ3_indexOfChar_9 : decode cJ3_indexOfChar 9 = .ok (.iload_n 3, 1) := dk_29 (dk_at dksJ3_indexOfChar_0 9 rfl rfl)
theorem dJ3_indexOfChar_10 : decode cJ3_indexOfChar 10 = .ok (.if_icmp .ge 21, 3) := dk_162 0 21 (dk_at dksJ3_indexOfChar_0 10 rfl rfl)
theorem dJ3_indexOfChar_13 : decode cJ3_indexOfChar 13 = .ok (.aload_n 0, 1) := dk_42 (dk_at dksJ3_indexOfChar_0 13 rfl rfl)
theorem dJ3_indexOfChar_14 : decode cJ3_indexOfChar 14 = .ok (.iload 5, 2) := dk_21 5 (dk_at dksJ3_indexOfChar_0 14 rfl rfl)
theorem dJ3_indexOfChar_16 : decode cJ3_indexOfChar 16 = .ok (.baload, 1) := dk_51 (dk_at dksJ3_indexOfChar_0 16 rfl rfl)
theorem dJ3_indexOfChar_17 : decode cJ3_indexOfChar 17 = .ok (.iload 4, 2) := dk_21 4 (dk_at dksJ3_indexOfChar_0 17 rfl rfl)
theorem dJ3_indexOfChar_19 : decode cJ3_indexOfChar 19 = .ok (.if_icmp .ne 6, 3) := dk_160 0 6 (dk_at dksJ3_indexOfChar_0 19 rfl rfl)
theorem dJ3_indexOfChar_22 : decode cJ3_indexOfChar 22 = .ok (.iload 5, 2) := dk_21 5 (dk_at dksJ3_indexOfChar_0 22 rfl rfl)
theorem dJ3_indexOfChar_24 : decode cJ3_indexOfChar 24 = .ok (.ireturn, 1) := dk_172 (dk_at dksJ3_indexOfChar_1 0 rfl rfl)
theorem dJ3_indexOfChar_25 : decode cJ3_indexOfChar 25 = .ok (.iinc 5 1, 3) := dk_132 5 1 (dk_at dksJ3_indexOfChar_1 1 rfl rfl)
theorem dJ3_indexOfChar_28 : decode cJ3_indexOfChar 28 = .ok (.goto (-21), 3) := dk_167 255 235 (dk_at dksJ3_indexOfChar_1 4 rfl rfl)
theorem dJ3_indexOfChar_31 : decode cJ3_indexOfChar 31 = .ok (.iconst (-1), 1) := dk_2 (dk_at dksJ3_indexOfChar_1 7 rfl rfl)
theorem dJ3_indexOfChar_32 : decode cJ3_indexOfChar 32 = .ok (.ireturn, 1) := dk_172 (dk_at dksJ3_indexOfChar_1 8 rfl rfl)
abbrev cJ3_charAt : ByteArray := prog_25_method_2_code
def yJ3_charAt : MethodName := ⟨RJ3, "charAt", "([BI)C"⟩
def dkwJ3_charAt_0 : List UInt8 := [27, 42, 190, 184, 0, 9, 42, 27, 51, 17, 0, 255, 126, 146, 172]
abbrev dktJ3_charAt_0 : List UInt8 := dkwJ3_charAt_0 ++ []
theorem dksJ3_charAt_0 : cJ3_charAt.data.toList.drop 0 = dktJ3_charAt_0 := by decide +kernel
theorem dJ3_charAt_0 : decode cJ3_charAt 0 = .ok (.iload_n 1, 1) := dk_27 (dk_at dksJ3_charAt_0 0 rfl rfl)
theorem dJ3_charAt_1 : decode cJ3_charAt 1 = .ok (.aload_n 0, 1) := dk_42 (dk_at dksJ3_charAt_0 1 rfl rfl)
theorem dJ3_charAt_2 : decode cJ3_charAt 2 = .ok (.arraylength, 1) := dk_190 (dk_at dksJ3_charAt_0 2 rfl rfl)
theorem dJ3_charAt_3 : decode cJ3_charAt 3 = .ok (.invokestatic 9, 3) := dk_184 0 9 (dk_at dksJ3_charAt_0 3 rfl rfl)
theorem dJ3_charAt_6 : decode cJ3_charAt 6 = .ok (.aload_n 0, 1) := dk_42 (dk_at dksJ3_charAt_0 6 rfl rfl)
theorem dJ3_charAt_7 : decode cJ3_charAt 7 = .ok (.iload_n 1, 1) := dk_27 (dk_at dksJ3_charAt_0 7 rfl rfl)
theorem dJ3_charAt_8 : decode cJ3_charAt 8 = .ok (.baload, 1) := dk_51 (dk_at dksJ3_charAt_0 8 rfl rfl)
theorem dJ3_charAt_9 : decode cJ3_charAt 9 = .ok (.sipush 255, 3) := dk_17 0 255 (dk_at dksJ3_charAt_0 9 rfl rfl)
theorem dJ3_charAt_12 : decode cJ3_charAt 12 = .ok (.iand, 1) := dk_126 (dk_at dksJ3_charAt_0 12 rfl rfl)
theorem dJ3_charAt_13 : decode cJ3_charAt 13 = .ok (.i2c, 1) := dk_146 (dk_at dksJ3_charAt_0 13 rfl rfl)
theorem dJ3_charAt_14 : decode cJ3_charAt 14 = .ok (.ireturn, 1) := dk_172 (dk_at dksJ3_charAt_0 14 rfl rfl)
theorem q86 : (Jvm.Cond.initialized "java/lang/StringLatin1") ∈ lw_all := lw_g (lw_at lw_m1 9 rfl) rfl
theorem q401 : (Jvm.Cond.static ({ cls := "java/lang/StringLatin1", name := "indexOf", desc := "([BIII)I" } : Jvm.MethodName)) ∈ lw_all := lw_g (lw_at lw_m2 84 rfl) rfl
theorem q402 : (Jvm.Cond.code ({ cls := "java/lang/StringLatin1", name := "indexOf", desc := "([BIII)I" } : Jvm.MethodName) prog_25_method_22_code (4 : Nat) (Option.some Jvm.ClassFile.FieldType.int)) ∈ lw_all := lw_g (lw_at lw_m2 85 rfl) rfl
theorem q403 : (Jvm.Cond.methodLink "java/lang/StringLatin1" (88 : Nat) ({ cls := "java/lang/StringLatin1", name := "canEncode", desc := "(I)Z" } : Jvm.MethodName)) ∈ lw_all := lw_g (lw_at lw_m2 86 rfl) rfl
theorem q404 : (Jvm.Cond.static ({ cls := "java/lang/StringLatin1", name := "canEncode", desc := "(I)Z" } : Jvm.MethodName)) ∈ lw_all := lw_g (lw_at lw_m2 87 rfl) rfl
theorem q405 : (Jvm.Cond.code ({ cls := "java/lang/StringLatin1", name := "canEncode", desc := "(I)Z" } : Jvm.MethodName) prog_25_method_4_code (1 : Nat) (Option.some Jvm.ClassFile.FieldType.boolean)) ∈ lw_all := lw_g (lw_at lw_m2 88 rfl) rfl
theorem q406 : (Jvm.Cond.methodLink "java/lang/StringLatin1" (92 : Nat) ({ cls := "java/lang/Math", name := "max", desc := "(II)I" } : Jvm.MethodName)) ∈ lw_all := lw_g (lw_at lw_m2 89 rfl) rfl
theorem q409 : (Jvm.Cond.methodLink "java/lang/StringLatin1" (38 : Nat) ({ cls := "java/lang/Math", name := "min", desc := "(II)I" } : Jvm.MethodName)) ∈ lw_all := lw_g (lw_at lw_m2 92 rfl) rfl
theorem q412 : (Jvm.Cond.methodLink "java/lang/StringLatin1" (95 : Nat) ({ cls := "java/lang/StringLatin1", name := "indexOfChar", desc := "([BIII)I" } : Jvm.MethodName)) ∈ lw_all := lw_g (lw_at lw_m2 95 rfl) rfl
theorem q413 : (Jvm.Cond.static ({ cls := "java/lang/StringLatin1", name := "indexOfChar", desc := "([BIII)I" } : Jvm.MethodName)) ∈ lw_all := lw_g (lw_at lw_m2 96 rfl) rfl
theorem q414 : (Jvm.Cond.code ({ cls := "java/lang/StringLatin1", name := "indexOfChar", desc := "([BIII)I" } : Jvm.MethodName) prog_25_method_23_code (6 : Nat) (Option.some Jvm.ClassFile.FieldType.int)) ∈ lw_all := lw_g (lw_at lw_m2 97 rfl) rfl
theorem q780 : (Jvm.Cond.static ({ cls := "java/lang/StringLatin1", name := "charAt", desc := "([BI)C" } : Jvm.MethodName)) ∈ lw_all := lw_g (lw_at lw_m3 223 rfl) rfl
theorem q781 : (Jvm.Cond.code ({ cls := "java/lang/StringLatin1", name := "charAt", desc := "([BI)C" } : Jvm.MethodName) prog_25_method_2_code (2 : Nat) (Option.some Jvm.ClassFile.FieldType.char)) ∈ lw_all := lw_g (lw_at lw_m3 224 rfl) rfl
theorem q782 : (Jvm.Cond.methodLink "java/lang/StringLatin1" (9 : Nat) ({ cls := "java/lang/String", name := "checkIndex", desc := "(II)V" } : Jvm.MethodName)) ∈ lw_all := lw_g (lw_at lw_m3 225 rfl) rfl

/-! java/lang/Math -/
set_option maxRecDepth 100000
def RJ4 : String := "java/lang/Math"
abbrev cJ4_max : ByteArray := prog_22_method_65_code
def yJ4_max : MethodName := ⟨RJ4, "max", "(II)I"⟩
def dkwJ4_max_0 : List UInt8 := [26, 27, 161, 0, 7, 26, 167, 0, 4, 27, 172]
abbrev dktJ4_max_0 : List UInt8 := dkwJ4_max_0 ++ []
theorem dksJ4_max_0 : cJ4_max.data.toList.drop 0 = dktJ4_max_0 := by decide +kernel
theorem dJ4_max_0 : decode cJ4_max 0 = .ok (.iload_n 0, 1) := dk_26 (dk_at dksJ4_max_0 0 rfl rfl)
theorem dJ4_max_1 : decode cJ4_max 1 = .ok (.iload_n 1, 1) := dk_27 (dk_at dksJ4_max_0 1 rfl rfl)
theorem dJ4_max_2 : decode cJ4_max 2 = .ok (.if_icmp .lt 7, 3) := dk_161 0 7 (dk_at dksJ4_max_0 2 rfl rfl)
theorem dJ4_max_5 : decode cJ4_max 5 = .ok (.iload_n 0, 1) := dk_26 (dk_at dksJ4_max_0 5 rfl rfl)
theorem dJ4_max_6 : decode cJ4_max 6 = .ok (.goto 4, 3) := dk_167 0 4 (dk_at dksJ4_max_0 6 rfl rfl)
theorem dJ4_max_9 : decode cJ4_max 9 = .ok (.iload_n 1, 1) := dk_27 (dk_at dksJ4_max_0 9 rfl rfl)
theorem dJ4_max_10 : decode cJ4_max 10 = .ok (.ireturn, 1) := dk_172 (dk_at dksJ4_max_0 10 rfl rfl)
abbrev cJ4_min : ByteArray := prog_22_method_69_code
def yJ4_min : MethodName := ⟨RJ4, "min", "(II)I"⟩
def dkwJ4_min_0 : List UInt8 := [26, 27, 163, 0, 7, 26, 167, 0, 4, 27, 172]
abbrev dktJ4_min_0 : List UInt8 := dkwJ4_min_0 ++ []
theorem dksJ4_min_0 : cJ4_min.data.toList.drop 0 = dktJ4_min_0 := by decide +kernel
theorem dJ4_min_0 : decode cJ4_min 0 = .ok (.iload_n 0, 1) := dk_26 (dk_at dksJ4_min_0 0 rfl rfl)
theorem dJ4_min_1 : decode cJ4_min 1 = .ok (.iload_n 1, 1) := dk_27 (dk_at dksJ4_min_0 1 rfl rfl)
theorem dJ4_min_2 : decode cJ4_min 2 = .ok (.if_icmp .gt 7, 3) := dk_163 0 7 (dk_at dksJ4_min_0 2 rfl rfl)
theorem dJ4_min_5 : decode cJ4_min 5 = .ok (.iload_n 0, 1) := dk_26 (dk_at dksJ4_min_0 5 rfl rfl)
theorem dJ4_min_6 : decode cJ4_min 6 = .ok (.goto 4, 3) := dk_167 0 4 (dk_at dksJ4_min_0 6 rfl rfl)
theorem dJ4_min_9 : decode cJ4_min 9 = .ok (.iload_n 1, 1) := dk_27 (dk_at dksJ4_min_0 9 rfl rfl)
theorem dJ4_min_10 : decode cJ4_min 10 = .ok (.ireturn, 1) := dk_172 (dk_at dksJ4_min_0 10 rfl rfl)
abbrev cJ4_min_2 : ByteArray := prog_22_method_70_code
def yJ4_min_2 : MethodName := ⟨RJ4, "min", "(JJ)J"⟩
def dkwJ4_min_2_0 : List UInt8 := [30, 32, 148, 157, 0, 7, 30, 167, 0, 4, 32, 173]
abbrev dktJ4_min_2_0 : List UInt8 := dkwJ4_min_2_0 ++ []
theorem dksJ4_min_2_0 : cJ4_min_2.data.toList.drop 0 = dktJ4_min_2_0 := by decide +kernel
theorem dJ4_min_2_0 : decode cJ4_min_2 0 = .ok (.lload_n 0, 1) := dk_30 (dk_at dksJ4_min_2_0 0 rfl rfl)
theorem dJ4_min_2_1 : decode cJ4_min_2 1 = .ok (.lload_n 2, 1) := dk_32 (dk_at dksJ4_min_2_0 1 rfl rfl)
theorem dJ4_min_2_2 : decode cJ4_min_2 2 = .ok (.lcmp, 1) := dk_148 (dk_at dksJ4_min_2_0 2 rfl rfl)
theorem dJ4_min_2_3 : decode cJ4_min_2 3 = .ok (.ifCond .gt 7, 3) := dk_157 0 7 (dk_at dksJ4_min_2_0 3 rfl rfl)
theorem dJ4_min_2_6 : decode cJ4_min_2 6 = .ok (.lload_n 0, 1) := dk_30 (dk_at dksJ4_min_2_0 6 rfl rfl)
theorem dJ4_min_2_7 : decode cJ4_min_2 7 = .ok (.goto 4, 3) := dk_167 0 4 (dk_at dksJ4_min_2_0 7 rfl rfl)
theorem dJ4_min_2_10 : decode cJ4_min_2 10 = .ok (.lload_n 2, 1) := dk_32 (dk_at dksJ4_min_2_0 10 rfl rfl)
theorem dJ4_min_2_11 : decode cJ4_min_2 11 = .ok (.lreturn, 1) := dk_173 (dk_at dksJ4_min_2_0 11 rfl rfl)
abbrev cJ4_max_2 : ByteArray := prog_22_method_66_code
def yJ4_max_2 : MethodName := ⟨RJ4, "max", "(JJ)J"⟩
def dkwJ4_max_2_0 : List UInt8 := [30, 32, 148, 155, 0, 7, 30, 167, 0, 4, 32, 173]
abbrev dktJ4_max_2_0 : List UInt8 := dkwJ4_max_2_0 ++ []
theorem dksJ4_max_2_0 : cJ4_max_2.data.toList.drop 0 = dktJ4_max_2_0 := by decide +kernel
theorem dJ4_max_2_0 : decode cJ4_max_2 0 = .ok (.lload_n 0, 1) := dk_30 (dk_at dksJ4_max_2_0 0 rfl rfl)
theorem dJ4_max_2_1 : decode cJ4_max_2 1 = .ok (.lload_n 2, 1) := dk_32 (dk_at dksJ4_max_2_0 1 rfl rfl)
theorem dJ4_max_2_2 : decode cJ4_max_2 2 = .ok (.lcmp, 1) := dk_148 (dk_at dksJ4_max_2_0 2 rfl rfl)
theorem dJ4_max_2_3 : decode cJ4_max_2 3 = .ok (.ifCond .lt 7, 3) := dk_155 0 7 (dk_at dksJ4_max_2_0 3 rfl rfl)
theorem dJ4_max_2_6 : decode cJ4_max_2 6 = .ok (.lload_n 0, 1) := dk_30 (dk_at dksJ4_max_2_0 6 rfl rfl)
theorem dJ4_max_2_7 : decode cJ4_max_2 7 = .ok (.goto 4, 3) := dk_167 0 4 (dk_at dksJ4_max_2_0 7 rfl rfl)
theorem dJ4_max_2_10 : decode cJ4_max_2 10 = .ok (.lload_n 2, 1) := dk_32 (dk_at dksJ4_max_2_0 10 rfl rfl)
theorem dJ4_max_2_11 : decode cJ4_max_2 11 = .ok (.lreturn, 1) := dk_173 (dk_at dksJ4_max_2_0 11 rfl rfl)
abbrev cJ4_abs : ByteArray := prog_22_method_59_code
def yJ4_abs : MethodName := ⟨RJ4, "abs", "(I)I"⟩
def dkwJ4_abs_0 : List UInt8 := [26, 156, 0, 8, 26, 116, 167, 0, 4, 26, 172]
abbrev dktJ4_abs_0 : List UInt8 := dkwJ4_abs_0 ++ []
theorem dksJ4_abs_0 : cJ4_abs.data.toList.drop 0 = dktJ4_abs_0 := by decide +kernel
theorem dJ4_abs_0 : decode cJ4_abs 0 = .ok (.iload_n 0, 1) := dk_26 (dk_at dksJ4_abs_0 0 rfl rfl)
theorem dJ4_abs_1 : decode cJ4_abs 1 = .ok (.ifCond .ge 8, 3) := dk_156 0 8 (dk_at dksJ4_abs_0 1 rfl rfl)
theorem dJ4_abs_4 : decode cJ4_abs 4 = .ok (.iload_n 0, 1) := dk_26 (dk_at dksJ4_abs_0 4 rfl rfl)
theorem dJ4_abs_5 : decode cJ4_abs 5 = .ok (.ineg, 1) := dk_116 (dk_at dksJ4_abs_0 5 rfl rfl)
theorem dJ4_abs_6 : decode cJ4_abs 6 = .ok (.goto 4, 3) := dk_167 0 4 (dk_at dksJ4_abs_0 6 rfl rfl)
theorem dJ4_abs_9 : decode cJ4_abs 9 = .ok (.iload_n 0, 1) := dk_26 (dk_at dksJ4_abs_0 9 rfl rfl)
theorem dJ4_abs_10 : decode cJ4_abs 10 = .ok (.ireturn, 1) := dk_172 (dk_at dksJ4_abs_0 10 rfl rfl)
theorem q87 : (Jvm.Cond.initialized "java/lang/Math") ∈ lw_all := lw_g (lw_at lw_m1 10 rfl) rfl
theorem q407 : (Jvm.Cond.static ({ cls := "java/lang/Math", name := "max", desc := "(II)I" } : Jvm.MethodName)) ∈ lw_all := lw_g (lw_at lw_m2 90 rfl) rfl
theorem q408 : (Jvm.Cond.code ({ cls := "java/lang/Math", name := "max", desc := "(II)I" } : Jvm.MethodName) prog_22_method_65_code (2 : Nat) (Option.some Jvm.ClassFile.FieldType.int)) ∈ lw_all := lw_g (lw_at lw_m2 91 rfl) rfl
theorem q410 : (Jvm.Cond.static ({ cls := "java/lang/Math", name := "min", desc := "(II)I" } : Jvm.MethodName)) ∈ lw_all := lw_g (lw_at lw_m2 93 rfl) rfl
theorem q411 : (Jvm.Cond.code ({ cls := "java/lang/Math", name := "min", desc := "(II)I" } : Jvm.MethodName) prog_22_method_69_code (2 : Nat) (Option.some Jvm.ClassFile.FieldType.int)) ∈ lw_all := lw_g (lw_at lw_m2 94 rfl) rfl
theorem q836 : (Jvm.Cond.static ({ cls := "java/lang/Math", name := "min", desc := "(JJ)J" } : Jvm.MethodName)) ∈ lw_all := lw_g (lw_at lw_m4 39 rfl) rfl
theorem q837 : (Jvm.Cond.code ({ cls := "java/lang/Math", name := "min", desc := "(JJ)J" } : Jvm.MethodName) prog_22_method_70_code (4 : Nat) (Option.some Jvm.ClassFile.FieldType.long)) ∈ lw_all := lw_g (lw_at lw_m4 40 rfl) rfl
theorem q839 : (Jvm.Cond.static ({ cls := "java/lang/Math", name := "max", desc := "(JJ)J" } : Jvm.MethodName)) ∈ lw_all := lw_g (lw_at lw_m4 42 rfl) rfl
theorem q840 : (Jvm.Cond.code ({ cls := "java/lang/Math", name := "max", desc := "(JJ)J" } : Jvm.MethodName) prog_22_method_66_code (4 : Nat) (Option.some Jvm.ClassFile.FieldType.long)) ∈ lw_all := lw_g (lw_at lw_m4 43 rfl) rfl
theorem q914 : (Jvm.Cond.static ({ cls := "java/lang/Math", name := "abs", desc := "(I)I" } : Jvm.MethodName)) ∈ lw_all := lw_g (lw_at lw_m4 117 rfl) rfl
theorem q915 : (Jvm.Cond.code ({ cls := "java/lang/Math", name := "abs", desc := "(I)I" } : Jvm.MethodName) prog_22_method_59_code (1 : Nat) (Option.some Jvm.ClassFile.FieldType.int)) ∈ lw_all := lw_g (lw_at lw_m4 118 rfl) rfl

/-! java/lang/StringUTF16 -/
set_option maxRecDepth 100000
def RJ5 : String := "java/lang/StringUTF16"
abbrev cJ5_indexOf : ByteArray := prog_26_method_40_code
def yJ5_indexOf : MethodName := ⟨RJ5, "indexOf", "([BIII)I"⟩
def dkwJ5_indexOf_1 : List UInt8 := [18, 227, 162, 0, 11, 42, 27, 28, 29, 184, 0, 228, 172, 42, 27, 28, 29, 184, 0, 232, 172]
abbrev dktJ5_indexOf_1 : List UInt8 := dkwJ5_indexOf_1 ++ []
def dkwJ5_indexOf_0 : List UInt8 := [28, 3, 184, 0, 224, 61, 29, 42, 190, 4, 122, 184, 0, 183, 62, 28, 29, 161, 0, 5, 2, 172, 27]
abbrev dktJ5_indexOf_0 : List UInt8 := dkwJ5_indexOf_0 ++ dktJ5_indexOf_1
theorem dksJ5_indexOf_0 : cJ5_indexOf.data.toList.drop 0 = dktJ5_indexOf_0 := by decide +kernel
theorem dksJ5_indexOf_1 : cJ5_indexOf.data.toList.drop 23 = dktJ5_indexOf_1 := dk_seg dksJ5_indexOf_0 23 rfl rfl
theorem dJ5_indexOf_0 : decode cJ5_indexOf 0 = .ok (.iload_n 2, 1) := dk_28 (dk_at dksJ5_indexOf_0 0 rfl rfl)
theorem dJ5_indexOf_1 : decode cJ5_indexOf 1 = .ok (.iconst 0, 1) := dk_3 (dk_at dksJ5_indexOf_0 1 rfl rfl)
theorem dJ5_indexOf_2 : decode cJ5_indexOf 2 = .ok (.invokestatic 224, 3) := dk_184 0 224 (dk_at dksJ5_indexOf_0 2 rfl rfl)
theorem dJ5_indexOf_5 : decode cJ5_indexOf 5 = .ok (.istore_n 2, 1) := dk_61 (dk_at dksJ5_indexOf_0 5 rfl rfl)
theorem dJ5_indexOf_6 : decode cJ5_indexOf 6 = .ok (.iload_n 3, 1) := dk_29 (dk_at dksJ5_indexOf_0 6 rfl rfl)
theorem dJ5_indexOf_7 : decode cJ5_indexOf 7 = .ok (.aload_n 0, 1) := dk_42 (dk_at dksJ5_indexOf_0 7 rfl rfl)
theorem dJ5_indexOf_8 : decode cJ5_indexOf 8 = .ok (.arraylength, 1) := dk_190 (dk_at dksJ5_indexOf_0 8 rfl rfl)
theorem dJ5_indexOf_9 : decode cJ5_indexOf 9 = .ok (.iconst 1, 1) := dk_4 (dk_at dksJ5_indexOf_0 9 rfl rfl)
theorem dJ5_indexOf_10 : decode cJ5_indexOf 10 = .ok (.ishr, 1) := dk_122 (dk_at dksJ5_indexOf_0 10 rfl rfl)
theorem dJ5_indexOf_11 : decode cJ5_indexOf 11 = .ok (.invokestatic 183, 3) := dk_184 0 183 (dk_at dksJ5_indexOf_0 11 rfl rfl)
theorem dJ5_indexOf_14 : decode cJ5_indexOf 14 = .ok (.istore_n 3, 1) := dk_62 (dk_at dksJ5_indexOf_0 14 rfl rfl)
theorem dJ5_indexOf_15 : decode cJ5_indexOf 15 = .ok (.iload_n 2, 1) := dk_28 (dk_at dksJ5_indexOf_0 15 rfl rfl)
theorem dJ5_indexOf_16 : decode cJ5_indexOf 16 = .ok (.iload_n 3, 1) := dk_29 (dk_at dksJ5_indexOf_0 16 rfl rfl)
theorem dJ5_indexOf_17 : decode cJ5_indexOf 17 = .ok (.if_icmp .lt 5, 3) := dk_161 0 5 (dk_at dksJ5_indexOf_0 17 rfl rfl)
theorem dJ5_indexOf_20 : decode cJ5_indexOf 20 = .ok (.iconst (-1), 1) := dk_2 (dk_at dksJ5_indexOf_0 20 rfl rfl)
theorem dJ5_indexOf_21 : decode cJ5_indexOf 21 = .ok (.ireturn, 1) := dk_172 (dk_at dksJ5_indexOf_0 21 rfl rfl)
theorem dJ5_indexOf_22 : decode cJ5_indexOf 22 = .ok (.iload_n 1, 1) := dk_27 (dk_at dksJ5_indexOf_0 22 rfl rfl)
theorem dJ5_indexOf_23 : decode cJ5_indexOf 23 = .ok (.ldc 227, 2) := dk_18 227 (dk_at dksJ5_indexOf_1 0 rfl rfl)
theorem dJ5_indexOf_25 : decode cJ5_indexOf 25 = .ok (.if_icmp .ge 11, 3) := dk_162 0 11 (dk_at dksJ5_indexOf_1 2 rfl rfl)
theorem dJ5_indexOf_28 : decode cJ5_indexOf 28 = .ok (.aload_n 0, 1) := dk_42 (dk_at dksJ5_indexOf_1 5 rfl rfl)
theorem dJ5_indexOf_29 : decode cJ5_indexOf 29 = .ok (.iload_n 1, 1) := dk_27 (dk_at dksJ5_indexOf_1 6 rfl rfl)
theorem dJ5_indexOf_30 : decode cJ5_indexOf 30 = .ok (.iload_n 2, 1) := dk_28 (dk_at dksJ5_indexOf_1 7 rfl rfl)
theorem dJ5_indexOf_31 : decode cJ5_indexOf 31 = .ok (.iload_n 3, 1) := dk_29 (dk_at dksJ5_indexOf_1 8 rfl rfl)
theorem dJ5_indexOf_32 : decode cJ5_indexOf 32 = .ok (.invokestatic 228, 3) := dk_184 0 228 (dk_at dksJ5_indexOf_1 9 rfl rfl)
theorem dJ5_indexOf_35 : decode cJ5_indexOf 35 = .ok (.ireturn, 1) := dk_172 (dk_at dksJ5_indexOf_1 12 rfl rfl)
theorem dJ5_indexOf_36 : decode cJ5_indexOf 36 = .ok (.aload_n 0, 1) := dk_42 (dk_at dksJ5_indexOf_1 13 rfl rfl)
theorem dJ5_indexOf_37 : decode cJ5_indexOf 37 = .ok (.iload_n 1, 1) := dk_27 (dk_at dksJ5_indexOf_1 14 rfl rfl)
theorem dJ5_indexOf_38 : decode cJ5_indexOf 38 = .ok (.iload_n 2, 1) := dk_28 (dk_at dksJ5_indexOf_1 15 rfl rfl)
theorem dJ5_indexOf_39 : decode cJ5_indexOf 39 = .ok (.iload_n 3, 1) := dk_29 (dk_at dksJ5_indexOf_1 16 rfl rfl)
theorem dJ5_indexOf_40 : decode cJ5_indexOf 40 = .ok (.invokestatic 232, 3) := dk_184 0 232 (dk_at dksJ5_indexOf_1 17 rfl rfl)
theorem dJ5_indexOf_43 : decode cJ5_indexOf 43 = .ok (.ireturn, 1) := dk_172 (dk_at dksJ5_indexOf_1 20 rfl rfl)
abbrev cJ5_indexOfChar : ByteArray := prog_26_method_47_code
def yJ5_indexOfChar : MethodName := ⟨RJ5, "indexOfChar", "([BIII)I"⟩
def dkwJ5_indexOfChar_0 : List UInt8 := [28, 29, 42, 184, 0, 96, 42, 27, 28, 29, 184, 0, 244, 172]
abbrev dktJ5_indexOfChar_0 : List UInt8 := dkwJ5_indexOfChar_0 ++ []
theorem dksJ5_indexOfChar_0 : cJ5_indexOfChar.data.toList.drop 0 = dktJ5_indexOfChar_0 := by decide +kernel
theorem dJ5_indexOfChar_0 : decode cJ5_indexOfChar 0 = .ok (.iload_n 2, 1) := dk_28 (dk_at dksJ5_indexOfChar_0 0 rfl rfl)
theorem dJ5_indexOfChar_1 : decode cJ5_indexOfChar 1 = .ok (.iload_n 3, 1) := dk_29 (dk_at dksJ5_indexOfChar_0 1 rfl rfl)
theorem dJ5_indexOfChar_2 : decode cJ5_indexOfChar 2 = .ok (.aload_n 0, 1) := dk_42 (dk_at dksJ5_indexOfChar_0 2 rfl rfl)
theorem dJ5_indexOfChar_3 : decode cJ5_indexOfChar 3 = .ok (.invokestatic 96, 3) := dk_184 0 96 (dk_at dksJ5_indexOfChar_0 3 rfl rfl)
theorem dJ5_indexOfChar_6 : decode cJ5_indexOfChar 6 = .ok (.aload_n 0, 1) := dk_42 (dk_at dksJ5_indexOfChar_0 6 rfl rfl)
theorem dJ5_indexOfChar_7 : decode cJ5_indexOfChar 7 = .ok (.iload_n 1, 1) := dk_27 (dk_at dksJ5_indexOfChar_0 7 rfl rfl)
theorem dJ5_indexOfChar_8 : decode cJ5_indexOfChar 8 = .ok (.iload_n 2, 1) := dk_28 (dk_at dksJ5_indexOfChar_0 8 rfl rfl)
theorem dJ5_indexOfChar_9 : decode cJ5_indexOfChar 9 = .ok (.iload_n 3, 1) := dk_29 (dk_at dksJ5_indexOfChar_0 9 rfl rfl)
theorem dJ5_indexOfChar_10 : decode cJ5_indexOfChar 10 = .ok (.invokestatic 244, 3) := dk_184 0 244 (dk_at dksJ5_indexOfChar_0 10 rfl rfl)
theorem dJ5_indexOfChar_13 : decode cJ5_indexOfChar 13 = .ok (.ireturn, 1) := dk_172 (dk_at dksJ5_indexOfChar_0 13 rfl rfl)
abbrev cJ5_checkBoundsBeginEnd : ByteArray := prog_26_method_93_code
def yJ5_checkBoundsBeginEnd : MethodName := ⟨RJ5, "checkBoundsBeginEnd", "(II[B)V"⟩
def dkwJ5_checkBoundsBeginEnd_0 : List UInt8 := [26, 27, 44, 184, 0, 48, 184, 0, 241, 177]
abbrev dktJ5_checkBoundsBeginEnd_0 : List UInt8 := dkwJ5_checkBoundsBeginEnd_0 ++ []
theorem dksJ5_checkBoundsBeginEnd_0 : cJ5_checkBoundsBeginEnd.data.toList.drop 0 = dktJ5_checkBoundsBeginEnd_0 := by decide +kernel
theorem dJ5_checkBoundsBeginEnd_0 : decode cJ5_checkBoundsBeginEnd 0 = .ok (.iload_n 0, 1) := dk_26 (dk_at dksJ5_checkBoundsBeginEnd_0 0 rfl rfl)
theorem dJ5_checkBoundsBeginEnd_1 : decode cJ5_checkBoundsBeginEnd 1 = .ok (.iload_n 1, 1) := dk_27 (dk_at dksJ5_checkBoundsBeginEnd_0 1 rfl rfl)
theorem dJ5_checkBoundsBeginEnd_2 : decode cJ5_checkBoundsBeginEnd 2 = .ok (.aload_n 2, 1) := dk_44 (dk_at dksJ5_checkBoundsBeginEnd_0 2 rfl rfl)
theorem dJ5_checkBoundsBeginEnd_3 : decode cJ5_checkBoundsBeginEnd 3 = .ok (.invokestatic 48, 3) := dk_184 0 48 (dk_at dksJ5_checkBoundsBeginEnd_0 3 rfl rfl)
theorem dJ5_checkBoundsBeginEnd_6 : decode cJ5_checkBoundsBeginEnd 6 = .ok (.invokestatic 241, 3) := dk_184 0 241 (dk_at dksJ5_checkBoundsBeginEnd_0 6 rfl rfl)
theorem dJ5_checkBoundsBeginEnd_9 : decode cJ5_checkBoundsBeginEnd 9 = .ok (.return_, 1) := dk_177 (dk_at dksJ5_checkBoundsBeginEnd_0 9 rfl rfl)
abbrev cJ5_length : ByteArray := prog_26_method_6_code
def yJ5_length : MethodName := ⟨RJ5, "length", "([B)I"⟩
def dkwJ5_length_0 : List UInt8 := [42, 190, 4, 122, 172]
abbrev dktJ5_length_0 : List UInt8 := dkwJ5_length_0 ++ []
theorem dksJ5_length_0 : cJ5_length.data.toList.drop 0 = dktJ5_length_0 := by decide +kernel
theorem dJ5_length_0 : decode cJ5_length 0 = .ok (.aload_n 0, 1) := dk_42 (dk_at dksJ5_length_0 0 rfl rfl)
theorem dJ5_length_1 : decode cJ5_length 1 = .ok (.arraylength, 1) := dk_190 (dk_at dksJ5_length_0 1 rfl rfl)
theorem dJ5_length_2 : decode cJ5_length 2 = .ok (.iconst 1, 1) := dk_4 (dk_at dksJ5_length_0 2 rfl rfl)
theorem dJ5_length_3 : decode cJ5_length 3 = .ok (.ishr, 1) := dk_122 (dk_at dksJ5_length_0 3 rfl rfl)
theorem dJ5_length_4 : decode cJ5_length 4 = .ok (.ireturn, 1) := dk_172 (dk_at dksJ5_length_0 4 rfl rfl)
abbrev cJ5_indexOfCharUnsafe : ByteArray := prog_26_method_48_code
def yJ5_indexOfCharUnsafe : MethodName := ⟨RJ5, "indexOfCharUnsafe", "([BIII)I"⟩
def dkwJ5_indexOfCharUnsafe_1 : List UInt8 := [132, 4, 1, 167, 255, 234, 2, 172]
abbrev dktJ5_indexOfCharUnsafe_1 : List UInt8 := dkwJ5_indexOfCharUnsafe_1 ++ []
def dkwJ5_indexOfCharUnsafe_0 : List UInt8 := [28, 54, 4, 21, 4, 29, 162, 0, 22, 42, 21, 4, 184, 0, 71, 27, 160, 0, 6, 21, 4, 172]
abbrev dktJ5_indexOfCharUnsafe_0 : List UInt8 := dkwJ5_indexOfCharUnsafe_0 ++ dktJ5_indexOfCharUnsafe_1
theorem dksJ5_indexOfCharUnsafe_0 : cJ5_indexOfCharUnsafe.data.toList.drop 0 = dktJ5_indexOfCharUnsafe_0 := by decide +kernel
theorem dksJ5_indexOfCharUnsafe_1 : cJ5_indexOfCharUnsafe.data.toList.drop 22 = dktJ5_indexOfCharUnsafe_1 := dk_seg dksJ5_indexOfCharUnsafe_0 22 rfl rfl
theorem dJ5_indexOfCharUnsafe_0 : decode cJ5_indexOfCharUnsafe 0 = .ok (.iload_n 2, 1) := dk_28 (dk_at dksJ5_indexOfCharUnsafe_0 0 rfl rfl)
theorem dJ5_indexOfCharUnsafe_1 : decode cJ5_indexOfCharUnsafe 1 = .ok (.istore 4, 2) := dk_54 4 (dk_at dksJ5_indexOfCharUnsafe_0 1 rfl rfl)
theorem dJ5_indexOfCharUnsafe_3 : decode cJ5_indexOfCharUnsafe 3 = .ok (.iload 4, 2) := dk_21 4 (dk_at dksJ5_indexOfCharUnsafe_0 3 rfl rfl)
theorem dJ5_indexOfCharUnsafe_5 : decode cJ5_indexOfCharUnsafe 5 = .ok (.iload_n 3, 1) := dk_29 (dk_at dksJ5_indexOfCharUnsafe_0 5 rfl rfl)
theorem dJ5_indexOfCharUnsafe_6 : decode cJ5_indexOfCharUnsafe 6 = .ok (.if_icmp .ge 22, 3) := dk_162 0 22 (dk_at dksJ5_indexOfCharUnsafe_0 6 rfl rfl)
theorem dJ5_indexOfCharUnsafe_9 : decode cJ5_indexOfCharUnsafe 9 = .ok (.aload_n 0, 1) := dk_42 (dk_at dksJ5_indexOfCharUnsafe_0 9 rfl rfl)
theorem dJ5_indexOfCharUnsafe_10 : decode cJ5_indexOfCharUnsafe 10 = .ok (.iload 4, 2) := dk_21 4 (dk_at dksJ5_indexOfCharUnsafe_0 10 rfl rfl)
theorem dJ5_indexOfCharUnsafe_12 : decode cJ5_indexOfCharUnsafe 12 = .ok (.invokestatic 71, 3) := dk_184 0 71 (dk_at dksJ5_indexOfCharUnsafe_0 12 rfl rfl)
theorem dJ5_indexOfCharUnsafe_15 : decode cJ5_indexOfCharUnsafe 15 = .ok (.iload_n 1, 1) := dk_27 (dk_at dksJ5_indexOfCharUnsafe_0 15 rfl rfl)
theorem dJ5_indexOfCharUnsafe_16 : decode cJ5_indexOfCharUnsafe 16 = .ok (.if_icmp .ne 6, 3) := dk_160 0 6 (dk_at dksJ5_indexOfCharUnsafe_0 16 rfl rfl)
theorem dJ5_indexOfCharUnsafe_19 : decode cJ5_indexOfCharUnsafe 19 = .ok (.iload 4, 2) := dk_21 4 (dk_at dksJ5_indexOfCharUnsafe_0 19 rfl rfl)
theorem dJ5_indexOfCharUnsafe_21 : decode cJ5_indexOfCharUnsafe 21 = .ok (.ireturn, 1) := dk_172 (dk_at dksJ5_indexOfCharUnsafe_0 21 rfl rfl)
theorem dJ5_indexOfCharUnsafe_22 : decode cJ5_indexOfCharUnsafe 22 = .ok (.iinc 4 1, 3) := dk_132 4 1 (dk_at dksJ5_indexOfCharUnsafe_1 0 rfl rfl)
theorem dJ5_indexOfCharUnsafe_25 : decode cJ5_indexOfCharUnsafe 25 = .ok (.goto (-22), 3) := dk_167 255 234 (dk_at dksJ5_indexOfCharUnsafe_1 3 rfl rfl)
theorem dJ5_indexOfCharUnsafe_28 : decode cJ5_indexOfCharUnsafe 28 = .ok (.iconst (-1), 1) := dk_2 (dk_at dksJ5_indexOfCharUnsafe_1 6 rfl rfl)
theorem dJ5_indexOfCharUnsafe_29 : decode cJ5_indexOfCharUnsafe 29 = .ok (.ireturn, 1) := dk_172 (dk_at dksJ5_indexOfCharUnsafe_1 7 rfl rfl)
abbrev cJ5_getChar : ByteArray := prog_26_method_5_code
def yJ5_getChar : MethodName := ⟨RJ5, "getChar", "([BI)C"⟩
def dkwJ5_getChar_2 : List UInt8 := [51, 17, 0, 255, 126, 178, 0, 63, 120, 128, 146, 172]
abbrev dktJ5_getChar_2 : List UInt8 := dkwJ5_getChar_2 ++ []
def dkwJ5_getChar_1 : List UInt8 := [183, 0, 56, 191, 27, 4, 120, 60, 42, 27, 132, 1, 1, 51, 17, 0, 255, 126, 178, 0, 59, 120, 42, 27]
abbrev dktJ5_getChar_1 : List UInt8 := dkwJ5_getChar_1 ++ dktJ5_getChar_2
def dkwJ5_getChar_0 : List UInt8 := [178, 0, 44, 154, 0, 25, 27, 155, 0, 11, 27, 42, 184, 0, 48, 161, 0, 13, 187, 0, 52, 89, 18, 54]
abbrev dktJ5_getChar_0 : List UInt8 := dkwJ5_getChar_0 ++ dktJ5_getChar_1
theorem dksJ5_getChar_0 : cJ5_getChar.data.toList.drop 0 = dktJ5_getChar_0 := by decide +kernel
theorem dksJ5_getChar_1 : cJ5_getChar.data.toList.drop 24 = dktJ5_getChar_1 := dk_seg dksJ5_getChar_0 24 rfl rfl
theorem dksJ5_getChar_2 : cJ5_getChar.data.toList.drop 48 = dktJ5_getChar_2 := dk_seg dksJ5_getChar_1 24 rfl rfl
theorem dJ5_getChar_0 : decode cJ5_getChar 0 = .ok (.getstatic 44, 3) := dk_178 0 44 (dk_at dksJ5_getChar_0 0 rfl rfl)
theorem dJ5_getChar_3 : decode cJ5_getChar 3 = .ok (.ifCond .ne 25, 3) := dk_154 0 25 (dk_at dksJ5_getChar_0 3 rfl rfl)
theorem dJ5_getChar_6 : decode cJ5_getChar 6 = .ok (.iload_n 1, 1) := dk_27 (dk_at dksJ5_getChar_0 6 rfl rfl)
theorem dJ5_getChar_7 : decode cJ5_getChar 7 = .ok (.ifCond .lt 11, 3) := dk_155 0 11 (dk_at dksJ5_getChar_0 7 rfl rfl)
theorem dJ5_getChar_10 : decode cJ5_getChar 10 = .ok (.iload_n 1, 1) := dk_27 (dk_at dksJ5_getChar_0 10 rfl rfl)
theorem dJ5_getChar_11 : decode cJ5_getChar 11 = .ok (.aload_n 0, 1) := dk_42 (dk_at dksJ5_getChar_0 11 rfl rfl)
theorem dJ5_getChar_12 : decode cJ5_getChar 12 = .ok (.invokestatic 48, 3) := dk_184 0 48 (dk_at dksJ5_getChar_0 12 rfl rfl)
theorem dJ5_getChar_15 : decode cJ5_getChar 15 = .ok (.if_icmp .lt 13, 3) := dk_161 0 13 (dk_at dksJ5_getChar_0 15 rfl rfl)
theorem dJ5_getChar_18 : decode cJ5_getChar 18 = .ok (.new 52, 3) := dk_187 0 52 (dk_at dksJ5_getChar_0 18 rfl rfl)
theorem dJ5_getChar_21 : decode cJ5_getChar 21 = .ok (.dup, 1) := dk_89 (dk_at dksJ5_getChar_0 21 rfl rfl)
theorem dJ5_getChar_22 : decode cJ5_getChar 22 = .ok (.ldc 54, 2) := dk_18 54 (dk_at dksJ5_getChar_0 22 rfl rfl)
theorem dJ5_getChar_24 : decode cJ5_getChar 24 = .ok (.invokespecial 56, 3) := dk_183 0 56 (dk_at dksJ5_getChar_1 0 rfl rfl)
theorem dJ5_getChar_27 : decode cJ5_getChar 27 = .ok (.athrow, 1) := dk_191 (dk_at dksJ5_getChar_1 3 rfl rfl)
theorem dJ5_getChar_28 : decode cJ5_getChar 28 = .ok (.iload_n 1, 1) := dk_27 (dk_at dksJ5_getChar_1 4 rfl rfl)
theorem dJ5_getChar_29 : decode cJ5_getChar 29 = .ok (.iconst 1, 1) := dk_4 (dk_at dksJ5_getChar_1 5 rfl rfl)
theorem dJ5_getChar_30 : decode cJ5_getChar 30 = .ok (.ishl, 1) := dk_120 (dk_at dksJ5_getChar_1 6 rfl rfl)
theorem dJ5_getChar_31 : decode cJ5_getChar 31 = .ok (.istore_n 1, 1) := dk_60 (dk_at dksJ5_getChar_1 7 rfl rfl)
theorem dJ5_getChar_32 : decode cJ5_getChar 32 = .ok (.aload_n 0, 1) := dk_42 (dk_at dksJ5_getChar_1 8 rfl rfl)
theorem dJ5_getChar_33 : decode cJ5_getChar 33 = .ok (.iload_n 1, 1) := dk_27 (dk_at dksJ5_getChar_1 9 rfl rfl)
theorem dJ5_getChar_34 : decode cJ5_getChar 34 = .ok (.iinc 1 1, 3) := dk_132 1 1 (dk_at dksJ5_getChar_1 10 rfl rfl)
theorem dJ5_getChar_37 : decode cJ5_getChar 37 = .ok (.baload, 1) := dk_51 (dk_at dksJ5_getChar_1 13 rfl rfl)
theorem dJ5_getChar_38 : decode cJ5_getChar 38 = .ok (.sipush 255, 3) := dk_17 0 255 (dk_at dksJ5_getChar_1 14 rfl rfl)
theorem dJ5_getChar_41 : decode cJ5_getChar 41 = .ok (.iand, 1) := dk_126 (dk_at dksJ5_getChar_1 17 rfl rfl)
theorem dJ5_getChar_42 : decode cJ5_getChar 42 = .ok (.getstatic 59, 3) := dk_178 0 59 (dk_at dksJ5_getChar_1 18 rfl rfl)
theorem dJ5_getChar_45 : decode cJ5_getChar 45 = .ok (.ishl, 1) := dk_120 (dk_at dksJ5_getChar_1 21 rfl rfl)
theorem dJ5_getChar_46 : decode cJ5_getChar 46 = .ok (.aload_n 0, 1) := dk_42 (dk_at dksJ5_getChar_1 22 rfl rfl)
theorem dJ5_getChar_47 : decode cJ5_getChar 47 = .ok (.iload_n 1, 1) := dk_27 (dk_at dksJ5_getChar_1 23 rfl rfl)
theorem dJ5_getChar_48 : decode cJ5_getChar 48 = .ok (.baload, 1) := dk_51 (dk_at dksJ5_getChar_2 0 rfl rfl)
theorem dJ5_getChar_49 : decode cJ5_getChar 49 = .ok (.sipush 255, 3) := dk_17 0 255 (dk_at dksJ5_getChar_2 1 rfl rfl)
theorem dJ5_getChar_52 : decode cJ5_getChar 52 = .ok (.iand, 1) := dk_126 (dk_at dksJ5_getChar_2 4 rfl rfl)
theorem dJ5_getChar_53 : decode cJ5_getChar 53 = .ok (.getstatic 63, 3) := dk_178 0 63 (dk_at dksJ5_getChar_2 5 rfl rfl)
theorem dJ5_getChar_56 : decode cJ5_getChar 56 = .ok (.ishl, 1) := dk_120 (dk_at dksJ5_getChar_2 8 rfl rfl)
theorem dJ5_getChar_57 : decode cJ5_getChar 57 = .ok (.ior, 1) := dk_128 (dk_at dksJ5_getChar_2 9 rfl rfl)
theorem dJ5_getChar_58 : decode cJ5_getChar 58 = .ok (.i2c, 1) := dk_146 (dk_at dksJ5_getChar_2 10 rfl rfl)
theorem dJ5_getChar_59 : decode cJ5_getChar 59 = .ok (.ireturn, 1) := dk_172 (dk_at dksJ5_getChar_2 11 rfl rfl)
abbrev cJ5_indexOfSupplementary : ByteArray := prog_26_method_49_code
def yJ5_indexOfSupplementary : MethodName := ⟨RJ5, "indexOfSupplementary", "([BIII)I"⟩
def dkwJ5_indexOfSupplementary_3 : List UInt8 := [167, 255, 218, 2, 172]
abbrev dktJ5_indexOfSupplementary_3 : List UInt8 := dkwJ5_indexOfSupplementary_3 ++ []
def dkwJ5_indexOfSupplementary_2 : List UInt8 := [160, 0, 19, 42, 21, 6, 4, 96, 184, 0, 71, 21, 5, 160, 0, 6, 21, 6, 172, 132, 6, 1]
abbrev dktJ5_indexOfSupplementary_2 : List UInt8 := dkwJ5_indexOfSupplementary_2 ++ dktJ5_indexOfSupplementary_3
def dkwJ5_indexOfSupplementary_1 : List UInt8 := [184, 0, 96, 28, 54, 6, 21, 6, 29, 4, 100, 162, 0, 36, 42, 21, 6, 184, 0, 71, 21, 4]
abbrev dktJ5_indexOfSupplementary_1 : List UInt8 := dkwJ5_indexOfSupplementary_1 ++ dktJ5_indexOfSupplementary_2
def dkwJ5_indexOfSupplementary_0 : List UInt8 := [27, 184, 0, 164, 153, 0, 65, 27, 184, 0, 157, 54, 4, 27, 184, 0, 161, 54, 5, 28, 29, 42]
abbrev dktJ5_indexOfSupplementary_0 : List UInt8 := dkwJ5_indexOfSupplementary_0 ++ dktJ5_indexOfSupplementary_1
theorem dksJ5_indexOfSupplementary_0 : cJ5_indexOfSupplementary.data.toList.drop 0 = dktJ5_indexOfSupplementary_0 := by decide +kernel
theorem dksJ5_indexOfSupplementary_1 : cJ5_indexOfSupplementary.data.toList.drop 22 = dktJ5_indexOfSupplementary_1 := dk_seg dksJ5_indexOfSupplementary_0 22 rfl rfl
theorem dksJ5_indexOfSupplementary_2 : cJ5_indexOfSupplementary.data.toList.drop 44 = dktJ5_indexOfSupplementary_2 := dk_seg dksJ5_indexOfSupplementary_1 22 rfl rfl
theorem dksJ5_indexOfSupplementary_3 : cJ5_indexOfSupplementary.data.toList.drop 66 = dktJ5_indexOfSupplementary_3 := dk_seg dksJ5_indexOfSupplementary_2 22 rfl rfl
theorem dJ5_indexOfSupplementary_0 : decode cJ5_indexOfSupplementary 0 = .ok (.iload_n 1, 1) := dk_27 (dk_at dksJ5_indexOfSupplementary_0 0 rfl rfl)
theorem dJ5_indexOfSupplementary_1 : decode cJ5_indexOfSupplementary 1 = .ok (.invokestatic 164, 3) := dk_184 0 164 (dk_at dksJ5_indexOfSupplementary_0 1 rfl rfl)
theorem dJ5_indexOfSupplementary_4 : decode cJ5_indexOfSupplementary 4 = .ok (.ifCond .eq 65, 3) := dk_153 0 65 (dk_at dksJ5_indexOfSupplementary_0 4 rfl rfl)
theorem dJ5_indexOfSupplementary_7 : decode cJ5_indexOfSupplementary 7 = .ok (.iload_n 1, 1) := dk_27 (dk_at dksJ5_indexOfSupplementary_0 7 rfl rfl)
theorem dJ5_indexOfSupplementary_8 : decode cJ5_indexOfSupplementary 8 = .ok (.invokestatic 157, 3) := dk_184 0 157 (dk_at dksJ5_indexOfSupplementary_0 8 rfl rfl)
theorem dJ5_indexOfSupplementary_11 : decode cJ5_indexOfSupplementary 11 = .ok (.istore 4, 2) := dk_54 4 (dk_at dksJ5_indexOfSupplementary_0 11 rfl rfl)
theorem dJ5_indexOfSupplementary_13 : decode cJ5_indexOfSupplementary 13 = .ok (.iload_n 1, 1) := dk_27 (dk_at dksJ5_indexOfSupplementary_0 13 rfl rfl)
theorem dJ5_indexOfSupplementary_14 : decode cJ5_indexOfSupplementary 14 = .ok (.invokestatic 161, 3) := dk_184 0 161 (dk_at dksJ5_indexOfSupplementary_0 14 rfl rfl)
theorem dJ5_indexOfSupplementary_17 : decode cJ5_indexOfSupplementary 17 = .ok (.istore 5, 2) := dk_54 5 (dk_at dksJ5_indexOfSupplementary_0 17 rfl rfl)
theorem dJ5_indexOfSupplementary_19 : decode cJ5_indexOfSupplementary 19 = .ok (.iload_n 2, 1) := dk_28 (dk_at dksJ5_indexOfSupplementary_0 19 rfl rfl)
theorem dJ5_indexOfSupplementary_20 : decode cJ5_indexOfSupplementary 20 = .ok (.iload_n 3, 1) := dk_29 (dk_at dksJ5_indexOfSupplementary_0 20 rfl rfl)
theorem dJ5_indexOfSupplementary_21 : decode cJ5_indexOfSupplementary 21 = .ok (.aload_n 0, 1) := dk_42 (dk_at dksJ5_indexOfSupplementary_0 21 rfl rfl)
theorem dJ5_indexOfSupplementary_22 : decode cJ5_indexOfSupplementary 22 = .ok (.invokestatic 96, 3) := dk_184 0 96 (dk_at dksJ5_indexOfSupplementary_1 0 rfl rfl)
theorem dJ5_indexOfSupplementary_25 : decode cJ5_indexOfSupplementary 25 = .ok (.iload_n 2, 1) := dk_28 (dk_at dksJ5_indexOfSupplementary_1 3 rfl rfl)
theorem dJ5_indexOfSupplementary_26 : decode cJ5_indexOfSupplementary 26 = .ok (.istore 6, 2) := dk_54 6 (dk_at dksJ5_indexOfSupplementary_1 4 rfl rfl)
theorem dJ5_indexOfSupplementary_28 : decode cJ5_indexOfSupplementary 28 = .ok (.iload 6, 2) := dk_21 6 (dk_at dksJ5_indexOfSupplementary_1 6 rfl rfl)
theorem dJ5_indexOfSupplementary_30 : decode cJ5_indexOfSupplementary 30 = .ok (.iload_n 3, 1) := dk_29 (dk_at dksJ5_indexOfSupplementary_1 8 rfl rfl)
theorem dJ5_indexOfSupplementary_31 : decode cJ5_indexOfSupplementary 31 = .ok (.iconst 1, 1) := dk_4 (dk_at dksJ5_indexOfSupplementary_1 9 rfl rfl)
theorem dJ5_indexOfSupplementary_32 : decode cJ5_indexOfSupplementary 32 = .ok (.isub, 1) := dk_100 (dk_at dksJ5_indexOfSupplementary_1 10 rfl rfl)
theorem dJ5_indexOfSupplementary_33 : decode cJ5_indexOfSupplementary 33 = .ok (.if_icmp .ge 36, 3) := dk_162 0 36 (dk_at dksJ5_indexOfSupplementary_1 11 rfl rfl)
theorem dJ5_indexOfSupplementary_36 : decode cJ5_indexOfSupplementary 36 = .ok (.aload_n 0, 1) := dk_42 (dk_at dksJ5_indexOfSupplementary_1 14 rfl rfl)
theorem dJ5_indexOfSupplementary_37 : decode cJ5_indexOfSupplementary 37 = .ok (.iload 6, 2) := dk_21 6 (dk_at dksJ5_indexOfSupplementary_1 15 rfl rfl)
theorem dJ5_indexOfSupplementary_39 : decode cJ5_indexOfSupplementary 39 = .ok (.invokestatic 71, 3) := dk_184 0 71 (dk_at dksJ5_indexOfSupplementary_1 17 rfl rfl)
theorem dJ5_indexOfSupplementary_42 : decode cJ5_indexOfSupplementary 42 = .ok (.iload 4, 2) := dk_21 4 (dk_at dksJ5_indexOfSupplementary_1 20 rfl rfl)
theorem dJ5_indexOfSupplementary_44 : decode cJ5_indexOfSupplementary 44 = .ok (.if_icmp .ne 19, 3) := dk_160 0 19 (dk_at dksJ5_indexOfSupplementary_2 0 rfl rfl)
theorem dJ5_indexOfSupplementary_47 : decode cJ5_indexOfSupplementary 47 = .ok (.aload_n 0, 1) := dk_42 (dk_at dksJ5_indexOfSupplementary_2 3 rfl rfl)
theorem dJ5_indexOfSupplementary_48 : decode cJ5_indexOfSupplementary 48 = .ok (.iload 6, 2) := dk_21 6 (dk_at dksJ5_indexOfSupplementary_2 4 rfl rfl)
theorem dJ5_indexOfSupplementary_50 : decode cJ5_indexOfSupplementary 50 = .ok (.iconst 1, 1) := dk_4 (dk_at dksJ5_indexOfSupplementary_2 6 rfl rfl)
theorem dJ5_indexOfSupplementary_51 : decode cJ5_indexOfSupplementary 51 = .ok (.iadd, 1) := dk_96 (dk_at dksJ5_indexOfSupplementary_2 7 rfl rfl)
theorem dJ5_indexOfSupplementary_52 : decode cJ5_indexOfSupplementary 52 = .ok (.invokestatic 71, 3) := dk_184 0 71 (dk_at dksJ5_indexOfSupplementary_2 8 rfl rfl)
theorem dJ5_indexOfSupplementary_55 : decode cJ5_indexOfSupplementary 55 = .ok (.iload 5, 2) := dk_21 5 (dk_at dksJ5_indexOfSupplementary_2 11 rfl rfl)
theorem dJ5_indexOfSupplementary_57 : decode cJ5_indexOfSupplementary 57 = .ok (.if_icmp .ne 6, 3) := dk_160 0 6 (dk_at dksJ5_indexOfSupplementary_2 13 rfl rfl)
theorem dJ5_indexOfSupplementary_60 : decode cJ5_indexOfSupplementary 60 = .ok (.iload 6, 2) := dk_21 6 (dk_at dksJ5_indexOfSupplementary_2 16 rfl rfl)
theorem dJ5_indexOfSupplementary_62 : decode cJ5_indexOfSupplementary 62 = .ok (.ireturn, 1) := dk_172 (dk_at dksJ5_indexOfSupplementary_2 18 rfl rfl)
theorem dJ5_indexOfSupplementary_63 : decode cJ5_indexOfSupplementary 63 = .ok (.iinc 6 1, 3) := dk_132 6 1 (dk_at dksJ5_indexOfSupplementary_2 19 rfl rfl)
theorem dJ5_indexOfSupplementary_66 : decode cJ5_indexOfSupplementary 66 = .ok (.goto (-38), 3) := dk_167 255 218 (dk_at dksJ5_indexOfSupplementary_3 0 rfl rfl)
theorem dJ5_indexOfSupplementary_69 : decode cJ5_indexOfSupplementary 69 = .ok (.iconst (-1), 1) := dk_2 (dk_at dksJ5_indexOfSupplementary_3 3 rfl rfl)
theorem dJ5_indexOfSupplementary_70 : decode cJ5_indexOfSupplementary 70 = .ok (.ireturn, 1) := dk_172 (dk_at dksJ5_indexOfSupplementary_3 4 rfl rfl)
abbrev cJ5_charAt : ByteArray := prog_26_method_83_code
def yJ5_charAt : MethodName := ⟨RJ5, "charAt", "([BI)C"⟩
def dkwJ5_charAt_0 : List UInt8 := [27, 42, 184, 0, 67, 42, 27, 184, 0, 71, 172]
abbrev dktJ5_charAt_0 : List UInt8 := dkwJ5_charAt_0 ++ []
theorem dksJ5_charAt_0 : cJ5_charAt.data.toList.drop 0 = dktJ5_charAt_0 := by decide +kernel
theorem dJ5_charAt_0 : decode cJ5_charAt 0 = .ok (.iload_n 1, 1) := dk_27 (dk_at dksJ5_charAt_0 0 rfl rfl)
theorem dJ5_charAt_1 : decode cJ5_charAt 1 = .ok (.aload_n 0, 1) := dk_42 (dk_at dksJ5_charAt_0 1 rfl rfl)
theorem dJ5_charAt_2 : decode cJ5_charAt 2 = .ok (.invokestatic 67, 3) := dk_184 0 67 (dk_at dksJ5_charAt_0 2 rfl rfl)
theorem dJ5_charAt_5 : decode cJ5_charAt 5 = .ok (.aload_n 0, 1) := dk_42 (dk_at dksJ5_charAt_0 5 rfl rfl)
theorem dJ5_charAt_6 : decode cJ5_charAt 6 = .ok (.iload_n 1, 1) := dk_27 (dk_at dksJ5_charAt_0 6 rfl rfl)
theorem dJ5_charAt_7 : decode cJ5_charAt 7 = .ok (.invokestatic 71, 3) := dk_184 0 71 (dk_at dksJ5_charAt_0 7 rfl rfl)
theorem dJ5_charAt_10 : decode cJ5_charAt 10 = .ok (.ireturn, 1) := dk_172 (dk_at dksJ5_charAt_0 10 rfl rfl)
abbrev cJ5_checkIndex : ByteArray := prog_26_method_91_code
def yJ5_checkIndex : MethodName := ⟨RJ5, "checkIndex", "(I[B)V"⟩
def dkwJ5_checkIndex_0 : List UInt8 := [26, 43, 184, 0, 48, 184, 1, 158, 177]
abbrev dktJ5_checkIndex_0 : List UInt8 := dkwJ5_checkIndex_0 ++ []
theorem dksJ5_checkIndex_0 : cJ5_checkIndex.data.toList.drop 0 = dktJ5_checkIndex_0 := by decide +kernel
theorem dJ5_checkIndex_0 : decode cJ5_checkIndex 0 = .ok (.iload_n 0, 1) := dk_26 (dk_at dksJ5_checkIndex_0 0 rfl rfl)
theorem dJ5_checkIndex_1 : decode cJ5_checkIndex 1 = .ok (.aload_n 1, 1) := dk_43 (dk_at dksJ5_checkIndex_0 1 rfl rfl)
theorem dJ5_checkIndex_2 : decode cJ5_checkIndex 2 = .ok (.invokestatic 48, 3) := dk_184 0 48 (dk_at dksJ5_checkIndex_0 2 rfl rfl)
theorem dJ5_checkIndex_5 : decode cJ5_checkIndex 5 = .ok (.invokestatic 414, 3) := dk_184 1 158 (dk_at dksJ5_checkIndex_0 5 rfl rfl)
theorem dJ5_checkIndex_8 : decode cJ5_checkIndex 8 = .ok (.return_, 1) := dk_177 (dk_at dksJ5_checkIndex_0 8 rfl rfl)
theorem q88 : (Jvm.Cond.initialized "java/lang/StringUTF16") ∈ lw_all := lw_g (lw_at lw_m1 11 rfl) rfl
theorem q416 : (Jvm.Cond.static ({ cls := "java/lang/StringUTF16", name := "indexOf", desc := "([BIII)I" } : Jvm.MethodName)) ∈ lw_all := lw_g (lw_at lw_m2 99 rfl) rfl
theorem q417 : (Jvm.Cond.code ({ cls := "java/lang/StringUTF16", name := "indexOf", desc := "([BIII)I" } : Jvm.MethodName) prog_26_method_40_code (4 : Nat) (Option.some Jvm.ClassFile.FieldType.int)) ∈ lw_all := lw_g (lw_at lw_m2 100 rfl) rfl
theorem q418 : (Jvm.Cond.methodLink "java/lang/StringUTF16" (224 : Nat) ({ cls := "java/lang/Math", name := "max", desc := "(II)I" } : Jvm.MethodName)) ∈ lw_all := lw_g (lw_at lw_m2 101 rfl) rfl
theorem q419 : (Jvm.Cond.methodLink "java/lang/StringUTF16" (183 : Nat) ({ cls := "java/lang/Math", name := "min", desc := "(II)I" } : Jvm.MethodName)) ∈ lw_all := lw_g (lw_at lw_m2 102 rfl) rfl
theorem q420 : (Jvm.Cond.constant "java/lang/StringUTF16" (227 : Nat) (65536 : Int32)) ∈ lw_all := lw_g (lw_at lw_m2 103 rfl) rfl
theorem q421 : (Jvm.Cond.methodLink "java/lang/StringUTF16" (228 : Nat) ({ cls := "java/lang/StringUTF16", name := "indexOfChar", desc := "([BIII)I" } : Jvm.MethodName)) ∈ lw_all := lw_g (lw_at lw_m2 104 rfl) rfl
theorem q422 : (Jvm.Cond.static ({ cls := "java/lang/StringUTF16", name := "indexOfChar", desc := "([BIII)I" } : Jvm.MethodName)) ∈ lw_all := lw_g (lw_at lw_m2 105 rfl) rfl
theorem q423 : (Jvm.Cond.code ({ cls := "java/lang/StringUTF16", name := "indexOfChar", desc := "([BIII)I" } : Jvm.MethodName) prog_26_method_47_code (4 : Nat) (Option.some Jvm.ClassFile.FieldType.int)) ∈ lw_all := lw_g (lw_at lw_m2 106 rfl) rfl
theorem q424 : (Jvm.Cond.methodLink "java/lang/StringUTF16" (96 : Nat) ({ cls := "java/lang/StringUTF16", name := "checkBoundsBeginEnd", desc := "(II[B)V" } : Jvm.MethodName)) ∈ lw_all := lw_g (lw_at lw_m2 107 rfl) rfl
theorem q425 : (Jvm.Cond.static ({ cls := "java/lang/StringUTF16", name := "checkBoundsBeginEnd", desc := "(II[B)V" } : Jvm.MethodName)) ∈ lw_all := lw_g (lw_at lw_m2 108 rfl) rfl
theorem q426 : (Jvm.Cond.code ({ cls := "java/lang/StringUTF16", name := "checkBoundsBeginEnd", desc := "(II[B)V" } : Jvm.MethodName) prog_26_method_93_code (3 : Nat) (Option.none : Option Jvm.ClassFile.FieldType)) ∈ lw_all := lw_g (lw_at lw_m2 109 rfl) rfl
theorem q427 : (Jvm.Cond.methodLink "java/lang/StringUTF16" (48 : Nat) ({ cls := "java/lang/StringUTF16", name := "length", desc := "([B)I" } : Jvm.MethodName)) ∈ lw_all := lw_g (lw_at lw_m2 110 rfl) rfl
theorem q428 : (Jvm.Cond.static ({ cls := "java/lang/StringUTF16", name := "length", desc := "([B)I" } : Jvm.MethodName)) ∈ lw_all := lw_g (lw_at lw_m2 111 rfl) rfl
theorem q429 : (Jvm.Cond.code ({ cls := "java/lang/StringUTF16", name := "length", desc := "([B)I" } : Jvm.MethodName) prog_26_method_6_code (1 : Nat) (Option.some Jvm.ClassFile.FieldType.int)) ∈ lw_all := lw_g (lw_at lw_m2 112 rfl) rfl
theorem q430 : (Jvm.Cond.methodLink "java/lang/StringUTF16" (241 : Nat) ({ cls := "java/lang/String", name := "checkBoundsBeginEnd", desc := "(III)V" } : Jvm.MethodName)) ∈ lw_all := lw_g (lw_at lw_m2 113 rfl) rfl
theorem q438 : (Jvm.Cond.methodLink "java/lang/StringUTF16" (244 : Nat) ({ cls := "java/lang/StringUTF16", name := "indexOfCharUnsafe", desc := "([BIII)I" } : Jvm.MethodName)) ∈ lw_all := lw_g (lw_at lw_m2 121 rfl) rfl
theorem q439 : (Jvm.Cond.static ({ cls := "java/lang/StringUTF16", name := "indexOfCharUnsafe", desc := "([BIII)I" } : Jvm.MethodName)) ∈ lw_all := lw_g (lw_at lw_m2 122 rfl) rfl
theorem q440 : (Jvm.Cond.code ({ cls := "java/lang/StringUTF16", name := "indexOfCharUnsafe", desc := "([BIII)I" } : Jvm.MethodName) prog_26_method_48_code (5 : Nat) (Option.some Jvm.ClassFile.FieldType.int)) ∈ lw_all := lw_g (lw_at lw_m2 123 rfl) rfl
theorem q441 : (Jvm.Cond.methodLink "java/lang/StringUTF16" (71 : Nat) ({ cls := "java/lang/StringUTF16", name := "getChar", desc := "([BI)C" } : Jvm.MethodName)) ∈ lw_all := lw_g (lw_at lw_m2 124 rfl) rfl
theorem q442 : (Jvm.Cond.static ({ cls := "java/lang/StringUTF16", name := "getChar", desc := "([BI)C" } : Jvm.MethodName)) ∈ lw_all := lw_g (lw_at lw_m2 125 rfl) rfl
theorem q443 : (Jvm.Cond.code ({ cls := "java/lang/StringUTF16", name := "getChar", desc := "([BI)C" } : Jvm.MethodName) prog_26_method_5_code (2 : Nat) (Option.some Jvm.ClassFile.FieldType.char)) ∈ lw_all := lw_g (lw_at lw_m2 126 rfl) rfl
theorem q444 : (Jvm.Cond.fieldLink "java/lang/StringUTF16" (44 : Nat) "java/lang/StringUTF16" "$assertionsDisabled" "Z") ∈ lw_all := lw_g (lw_at lw_m2 127 rfl) rfl
theorem q445 : (Jvm.Cond.laysStatic "java/lang/StringUTF16" "$assertionsDisabled" "Z") ∈ lw_tbl := lw_at lw_m2 128 rfl
theorem q446 : (Jvm.Cond.fieldLink "java/lang/StringUTF16" (59 : Nat) "java/lang/StringUTF16" "HI_BYTE_SHIFT" "I") ∈ lw_all := lw_g (lw_at lw_m2 129 rfl) rfl
theorem q447 : (Jvm.Cond.laysStatic "java/lang/StringUTF16" "HI_BYTE_SHIFT" "I") ∈ lw_tbl := lw_at lw_m2 130 rfl
theorem q448 : (Jvm.Cond.fieldLink "java/lang/StringUTF16" (63 : Nat) "java/lang/StringUTF16" "LO_BYTE_SHIFT" "I") ∈ lw_all := lw_g (lw_at lw_m2 131 rfl) rfl
theorem q449 : (Jvm.Cond.laysStatic "java/lang/StringUTF16" "LO_BYTE_SHIFT" "I") ∈ lw_tbl := lw_at lw_m2 132 rfl
theorem q450 : (Jvm.Cond.methodLink "java/lang/StringUTF16" (232 : Nat) ({ cls := "java/lang/StringUTF16", name := "indexOfSupplementary", desc := "([BIII)I" } : Jvm.MethodName)) ∈ lw_all := lw_g (lw_at lw_m2 133 rfl) rfl
theorem q451 : (Jvm.Cond.static ({ cls := "java/lang/StringUTF16", name := "indexOfSupplementary", desc := "([BIII)I" } : Jvm.MethodName)) ∈ lw_all := lw_g (lw_at lw_m2 134 rfl) rfl
theorem q452 : (Jvm.Cond.code ({ cls := "java/lang/StringUTF16", name := "indexOfSupplementary", desc := "([BIII)I" } : Jvm.MethodName) prog_26_method_49_code (7 : Nat) (Option.some Jvm.ClassFile.FieldType.int)) ∈ lw_all := lw_g (lw_at lw_m2 135 rfl) rfl
theorem q453 : (Jvm.Cond.methodLink "java/lang/StringUTF16" (164 : Nat) ({ cls := "java/lang/Character", name := "isValidCodePoint", desc := "(I)Z" } : Jvm.MethodName)) ∈ lw_all := lw_g (lw_at lw_m2 136 rfl) rfl
theorem q456 : (Jvm.Cond.methodLink "java/lang/StringUTF16" (157 : Nat) ({ cls := "java/lang/Character", name := "highSurrogate", desc := "(I)C" } : Jvm.MethodName)) ∈ lw_all := lw_g (lw_at lw_m2 139 rfl) rfl
theorem q460 : (Jvm.Cond.methodLink "java/lang/StringUTF16" (161 : Nat) ({ cls := "java/lang/Character", name := "lowSurrogate", desc := "(I)C" } : Jvm.MethodName)) ∈ lw_all := lw_g (lw_at lw_m2 143 rfl) rfl
theorem q789 : (Jvm.Cond.static ({ cls := "java/lang/StringUTF16", name := "charAt", desc := "([BI)C" } : Jvm.MethodName)) ∈ lw_all := lw_g (lw_at lw_m3 232 rfl) rfl
theorem q790 : (Jvm.Cond.code ({ cls := "java/lang/StringUTF16", name := "charAt", desc := "([BI)C" } : Jvm.MethodName) prog_26_method_83_code (2 : Nat) (Option.some Jvm.ClassFile.FieldType.char)) ∈ lw_all := lw_g (lw_at lw_m3 233 rfl) rfl
theorem q791 : (Jvm.Cond.methodLink "java/lang/StringUTF16" (67 : Nat) ({ cls := "java/lang/StringUTF16", name := "checkIndex", desc := "(I[B)V" } : Jvm.MethodName)) ∈ lw_all := lw_g (lw_at lw_m3 234 rfl) rfl
theorem q792 : (Jvm.Cond.static ({ cls := "java/lang/StringUTF16", name := "checkIndex", desc := "(I[B)V" } : Jvm.MethodName)) ∈ lw_all := lw_g (lw_at lw_m3 235 rfl) rfl
theorem q793 : (Jvm.Cond.code ({ cls := "java/lang/StringUTF16", name := "checkIndex", desc := "(I[B)V" } : Jvm.MethodName) prog_26_method_91_code (2 : Nat) (Option.none : Option Jvm.ClassFile.FieldType)) ∈ lw_all := lw_g (lw_at lw_m3 236 rfl) rfl
theorem q794 : (Jvm.Cond.methodLink "java/lang/StringUTF16" (414 : Nat) ({ cls := "java/lang/String", name := "checkIndex", desc := "(II)V" } : Jvm.MethodName)) ∈ lw_all := lw_g (lw_at lw_m3 237 rfl) rfl

/-! jdk/internal/util/Preconditions -/
set_option maxRecDepth 100000
def RJ6 : String := "jdk/internal/util/Preconditions"
abbrev cJ6_checkFromToIndex : ByteArray := prog_31_method_12_code
def yJ6_checkFromToIndex : MethodName := ⟨RJ6, "checkFromToIndex", "(IIILjava/util/function/BiFunction;)I"⟩
def dkwJ6_checkFromToIndex_0 : List UInt8 := [26, 155, 0, 13, 26, 27, 163, 0, 8, 27, 28, 164, 0, 11, 45, 26, 27, 28, 184, 0, 99, 191, 26, 172]
abbrev dktJ6_checkFromToIndex_0 : List UInt8 := dkwJ6_checkFromToIndex_0 ++ []
theorem dksJ6_checkFromToIndex_0 : cJ6_checkFromToIndex.data.toList.drop 0 = dktJ6_checkFromToIndex_0 := by decide +kernel
theorem dJ6_checkFromToIndex_0 : decode cJ6_checkFromToIndex 0 = .ok (.iload_n 0, 1) := dk_26 (dk_at dksJ6_checkFromToIndex_0 0 rfl rfl)
theorem dJ6_checkFromToIndex_1 : decode cJ6_checkFromToIndex 1 = .ok (.ifCond .lt 13, 3) := dk_155 0 13 (dk_at dksJ6_checkFromToIndex_0 1 rfl rfl)
theorem dJ6_checkFromToIndex_4 : decode cJ6_checkFromToIndex 4 = .ok (.iload_n 0, 1) := dk_26 (dk_at dksJ6_checkFromToIndex_0 4 rfl rfl)
theorem dJ6_checkFromToIndex_5 : decode cJ6_checkFromToIndex 5 = .ok (.iload_n 1, 1) := dk_27 (dk_at dksJ6_checkFromToIndex_0 5 rfl rfl)
theorem dJ6_checkFromToIndex_6 : decode cJ6_checkFromToIndex 6 = .ok (.if_icmp .gt 8, 3) := dk_163 0 8 (dk_at dksJ6_checkFromToIndex_0 6 rfl rfl)
theorem dJ6_checkFromToIndex_9 : decode cJ6_checkFromToIndex 9 = .ok (.iload_n 1, 1) := dk_27 (dk_at dksJ6_checkFromToIndex_0 9 rfl rfl)
theorem dJ6_checkFromToIndex_10 : decode cJ6_checkFromToIndex 10 = .ok (.iload_n 2, 1) := dk_28 (dk_at dksJ6_checkFromToIndex_0 10 rfl rfl)
theorem dJ6_checkFromToIndex_11 : decode cJ6_checkFromToIndex 11 = .ok (.if_icmp .le 11, 3) := dk_164 0 11 (dk_at dksJ6_checkFromToIndex_0 11 rfl rfl)
theorem dJ6_checkFromToIndex_14 : decode cJ6_checkFromToIndex 14 = .ok (.aload_n 3, 1) := dk_45 (dk_at dksJ6_checkFromToIndex_0 14 rfl rfl)
theorem dJ6_checkFromToIndex_15 : decode cJ6_checkFromToIndex 15 = .ok (.iload_n 0, 1) := dk_26 (dk_at dksJ6_checkFromToIndex_0 15 rfl rfl)
theorem dJ6_checkFromToIndex_16 : decode cJ6_checkFromToIndex 16 = .ok (.iload_n 1, 1) := dk_27 (dk_at dksJ6_checkFromToIndex_0 16 rfl rfl)
theorem dJ6_checkFromToIndex_17 : decode cJ6_checkFromToIndex 17 = .ok (.iload_n 2, 1) := dk_28 (dk_at dksJ6_checkFromToIndex_0 17 rfl rfl)
theorem dJ6_checkFromToIndex_18 : decode cJ6_checkFromToIndex 18 = .ok (.invokestatic 99, 3) := dk_184 0 99 (dk_at dksJ6_checkFromToIndex_0 18 rfl rfl)
theorem dJ6_checkFromToIndex_21 : decode cJ6_checkFromToIndex 21 = .ok (.athrow, 1) := dk_191 (dk_at dksJ6_checkFromToIndex_0 21 rfl rfl)
theorem dJ6_checkFromToIndex_22 : decode cJ6_checkFromToIndex 22 = .ok (.iload_n 0, 1) := dk_26 (dk_at dksJ6_checkFromToIndex_0 22 rfl rfl)
theorem dJ6_checkFromToIndex_23 : decode cJ6_checkFromToIndex 23 = .ok (.ireturn, 1) := dk_172 (dk_at dksJ6_checkFromToIndex_0 23 rfl rfl)
abbrev cJ6_checkIndex : ByteArray := prog_31_method_11_code
def yJ6_checkIndex : MethodName := ⟨RJ6, "checkIndex", "(IILjava/util/function/BiFunction;)I"⟩
def dkwJ6_checkIndex_0 : List UInt8 := [26, 155, 0, 8, 26, 27, 161, 0, 10, 44, 26, 27, 184, 0, 95, 191, 26, 172]
abbrev dktJ6_checkIndex_0 : List UInt8 := dkwJ6_checkIndex_0 ++ []
theorem dksJ6_checkIndex_0 : cJ6_checkIndex.data.toList.drop 0 = dktJ6_checkIndex_0 := by decide +kernel
theorem dJ6_checkIndex_0 : decode cJ6_checkIndex 0 = .ok (.iload_n 0, 1) := dk_26 (dk_at dksJ6_checkIndex_0 0 rfl rfl)
theorem dJ6_checkIndex_1 : decode cJ6_checkIndex 1 = .ok (.ifCond .lt 8, 3) := dk_155 0 8 (dk_at dksJ6_checkIndex_0 1 rfl rfl)
theorem dJ6_checkIndex_4 : decode cJ6_checkIndex 4 = .ok (.iload_n 0, 1) := dk_26 (dk_at dksJ6_checkIndex_0 4 rfl rfl)
theorem dJ6_checkIndex_5 : decode cJ6_checkIndex 5 = .ok (.iload_n 1, 1) := dk_27 (dk_at dksJ6_checkIndex_0 5 rfl rfl)
theorem dJ6_checkIndex_6 : decode cJ6_checkIndex 6 = .ok (.if_icmp .lt 10, 3) := dk_161 0 10 (dk_at dksJ6_checkIndex_0 6 rfl rfl)
theorem dJ6_checkIndex_9 : decode cJ6_checkIndex 9 = .ok (.aload_n 2, 1) := dk_44 (dk_at dksJ6_checkIndex_0 9 rfl rfl)
theorem dJ6_checkIndex_10 : decode cJ6_checkIndex 10 = .ok (.iload_n 0, 1) := dk_26 (dk_at dksJ6_checkIndex_0 10 rfl rfl)
theorem dJ6_checkIndex_11 : decode cJ6_checkIndex 11 = .ok (.iload_n 1, 1) := dk_27 (dk_at dksJ6_checkIndex_0 11 rfl rfl)
theorem dJ6_checkIndex_12 : decode cJ6_checkIndex 12 = .ok (.invokestatic 95, 3) := dk_184 0 95 (dk_at dksJ6_checkIndex_0 12 rfl rfl)
theorem dJ6_checkIndex_15 : decode cJ6_checkIndex 15 = .ok (.athrow, 1) := dk_191 (dk_at dksJ6_checkIndex_0 15 rfl rfl)
theorem dJ6_checkIndex_16 : decode cJ6_checkIndex 16 = .ok (.iload_n 0, 1) := dk_26 (dk_at dksJ6_checkIndex_0 16 rfl rfl)
theorem dJ6_checkIndex_17 : decode cJ6_checkIndex 17 = .ok (.ireturn, 1) := dk_172 (dk_at dksJ6_checkIndex_0 17 rfl rfl)
theorem q89 : (Jvm.Cond.initialized "jdk/internal/util/Preconditions") ∈ lw_all := lw_g (lw_at lw_m1 12 rfl) rfl
theorem q434 : (Jvm.Cond.laysStatic "jdk/internal/util/Preconditions" "SIOOBE_FORMATTER" "Ljava/util/function/BiFunction;") ∈ lw_tbl := lw_at lw_m2 117 rfl
theorem q436 : (Jvm.Cond.static ({ cls := "jdk/internal/util/Preconditions", name := "checkFromToIndex", desc := "(IIILjava/util/function/BiFunction;)I" } : Jvm.MethodName)) ∈ lw_all := lw_g (lw_at lw_m2 119 rfl) rfl
theorem q437 : (Jvm.Cond.code ({ cls := "jdk/internal/util/Preconditions", name := "checkFromToIndex", desc := "(IIILjava/util/function/BiFunction;)I" } : Jvm.MethodName) prog_31_method_12_code (4 : Nat) (Option.some Jvm.ClassFile.FieldType.int)) ∈ lw_all := lw_g (lw_at lw_m2 120 rfl) rfl
theorem q786 : (Jvm.Cond.static ({ cls := "jdk/internal/util/Preconditions", name := "checkIndex", desc := "(IILjava/util/function/BiFunction;)I" } : Jvm.MethodName)) ∈ lw_all := lw_g (lw_at lw_m3 229 rfl) rfl
theorem q787 : (Jvm.Cond.code ({ cls := "jdk/internal/util/Preconditions", name := "checkIndex", desc := "(IILjava/util/function/BiFunction;)I" } : Jvm.MethodName) prog_31_method_11_code (3 : Nat) (Option.some Jvm.ClassFile.FieldType.int)) ∈ lw_all := lw_g (lw_at lw_m3 230 rfl) rfl

/-! java/lang/Character -/
set_option maxRecDepth 100000
def RJ7 : String := "java/lang/Character"
abbrev cJ7_isValidCodePoint : ByteArray := prog_19_method_11_code
def yJ7_isValidCodePoint : MethodName := ⟨RJ7, "isValidCodePoint", "(I)Z"⟩
def dkwJ7_isValidCodePoint_0 : List UInt8 := [26, 16, 16, 124, 60, 27, 16, 17, 162, 0, 7, 4, 167, 0, 4, 3, 172]
abbrev dktJ7_isValidCodePoint_0 : List UInt8 := dkwJ7_isValidCodePoint_0 ++ []
theorem dksJ7_isValidCodePoint_0 : cJ7_isValidCodePoint.data.toList.drop 0 = dktJ7_isValidCodePoint_0 := by decide +kernel
theorem dJ7_isValidCodePoint_0 : decode cJ7_isValidCodePoint 0 = .ok (.iload_n 0, 1) := dk_26 (dk_at dksJ7_isValidCodePoint_0 0 rfl rfl)
theorem dJ7_isValidCodePoint_1 : decode cJ7_isValidCodePoint 1 = .ok (.bipush 16, 2) := dk_16 16 (dk_at dksJ7_isValidCodePoint_0 1 rfl rfl)
theorem dJ7_isValidCodePoint_3 : decode cJ7_isValidCodePoint 3 = .ok (.iushr, 1) := dk_124 (dk_at dksJ7_isValidCodePoint_0 3 rfl rfl)
theorem dJ7_isValidCodePoint_4 : decode cJ7_isValidCodePoint 4 = .ok (.istore_n 1, 1) := dk_60 (dk_at dksJ7_isValidCodePoint_0 4 rfl rfl)
theorem dJ7_isValidCodePoint_5 : decode cJ7_isValidCodePoint 5 = .ok (.iload_n 1, 1) := dk_27 (dk_at dksJ7_isValidCodePoint_0 5 rfl rfl)
theorem dJ7_isValidCodePoint_6 : decode cJ7_isValidCodePoint 6 = .ok (.bipush 17, 2) := dk_16 17 (dk_at dksJ7_isValidCodePoint_0 6 rfl rfl)
theorem dJ7_isValidCodePoint_8 : decode cJ7_isValidCodePoint 8 = .ok (.if_icmp .ge 7, 3) := dk_162 0 7 (dk_at dksJ7_isValidCodePoint_0 8 rfl rfl)
theorem dJ7_isValidCodePoint_11 : decode cJ7_isValidCodePoint 11 = .ok (.iconst 1, 1) := dk_4 (dk_at dksJ7_isValidCodePoint_0 11 rfl rfl)
theorem dJ7_isValidCodePoint_12 : decode cJ7_isValidCodePoint 12 = .ok (.goto 4, 3) := dk_167 0 4 (dk_at dksJ7_isValidCodePoint_0 12 rfl rfl)
theorem dJ7_isValidCodePoint_15 : decode cJ7_isValidCodePoint 15 = .ok (.iconst 0, 1) := dk_3 (dk_at dksJ7_isValidCodePoint_0 15 rfl rfl)
theorem dJ7_isValidCodePoint_16 : decode cJ7_isValidCodePoint 16 = .ok (.ireturn, 1) := dk_172 (dk_at dksJ7_isValidCodePoint_0 16 rfl rfl)
abbrev cJ7_highSurrogate : ByteArray := prog_19_method_28_code
def yJ7_highSurrogate : MethodName := ⟨RJ7, "highSurrogate", "(I)C"⟩
def dkwJ7_highSurrogate_0 : List UInt8 := [26, 16, 10, 124, 18, 110, 96, 146, 172]
abbrev dktJ7_highSurrogate_0 : List UInt8 := dkwJ7_highSurrogate_0 ++ []
theorem dksJ7_highSurrogate_0 : cJ7_highSurrogate.data.toList.drop 0 = dktJ7_highSurrogate_0 := by decide +kernel
theorem dJ7_highSurrogate_0 : decode cJ7_highSurrogate 0 = .ok (.iload_n 0, 1) := dk_26 (dk_at dksJ7_highSurrogate_0 0 rfl rfl)
theorem dJ7_highSurrogate_1 : decode cJ7_highSurrogate 1 = .ok (.bipush 10, 2) := dk_16 10 (dk_at dksJ7_highSurrogate_0 1 rfl rfl)
theorem dJ7_highSurrogate_3 : decode cJ7_highSurrogate 3 = .ok (.iushr, 1) := dk_124 (dk_at dksJ7_highSurrogate_0 3 rfl rfl)
theorem dJ7_highSurrogate_4 : decode cJ7_highSurrogate 4 = .ok (.ldc 110, 2) := dk_18 110 (dk_at dksJ7_highSurrogate_0 4 rfl rfl)
theorem dJ7_highSurrogate_6 : decode cJ7_highSurrogate 6 = .ok (.iadd, 1) := dk_96 (dk_at dksJ7_highSurrogate_0 6 rfl rfl)
theorem dJ7_highSurrogate_7 : decode cJ7_highSurrogate 7 = .ok (.i2c, 1) := dk_146 (dk_at dksJ7_highSurrogate_0 7 rfl rfl)
theorem dJ7_highSurrogate_8 : decode cJ7_highSurrogate 8 = .ok (.ireturn, 1) := dk_172 (dk_at dksJ7_highSurrogate_0 8 rfl rfl)
abbrev cJ7_lowSurrogate : ByteArray := prog_19_method_29_code
def yJ7_lowSurrogate : MethodName := ⟨RJ7, "lowSurrogate", "(I)C"⟩
def dkwJ7_lowSurrogate_0 : List UInt8 := [26, 17, 3, 255, 126, 18, 76, 96, 146, 172]
abbrev dktJ7_lowSurrogate_0 : List UInt8 := dkwJ7_lowSurrogate_0 ++ []
theorem dksJ7_lowSurrogate_0 : cJ7_lowSurrogate.data.toList.drop 0 = dktJ7_lowSurrogate_0 := by decide +kernel
theorem dJ7_lowSurrogate_0 : decode cJ7_lowSurrogate 0 = .ok (.iload_n 0, 1) := dk_26 (dk_at dksJ7_lowSurrogate_0 0 rfl rfl)
theorem dJ7_lowSurrogate_1 : decode cJ7_lowSurrogate 1 = .ok (.sipush 1023, 3) := dk_17 3 255 (dk_at dksJ7_lowSurrogate_0 1 rfl rfl)
theorem dJ7_lowSurrogate_4 : decode cJ7_lowSurrogate 4 = .ok (.iand, 1) := dk_126 (dk_at dksJ7_lowSurrogate_0 4 rfl rfl)
theorem dJ7_lowSurrogate_5 : decode cJ7_lowSurrogate 5 = .ok (.ldc 76, 2) := dk_18 76 (dk_at dksJ7_lowSurrogate_0 5 rfl rfl)
theorem dJ7_lowSurrogate_7 : decode cJ7_lowSurrogate 7 = .ok (.iadd, 1) := dk_96 (dk_at dksJ7_lowSurrogate_0 7 rfl rfl)
theorem dJ7_lowSurrogate_8 : decode cJ7_lowSurrogate 8 = .ok (.i2c, 1) := dk_146 (dk_at dksJ7_lowSurrogate_0 8 rfl rfl)
theorem dJ7_lowSurrogate_9 : decode cJ7_lowSurrogate 9 = .ok (.ireturn, 1) := dk_172 (dk_at dksJ7_lowSurrogate_0 9 rfl rfl)
theorem q90 : (Jvm.Cond.initialized "java/lang/Character") ∈ lw_all := lw_g (lw_at lw_m1 13 rfl) rfl
theorem q454 : (Jvm.Cond.static ({ cls := "java/lang/Character", name := "isValidCodePoint", desc := "(I)Z" } : Jvm.MethodName)) ∈ lw_all := lw_g (lw_at lw_m2 137 rfl) rfl
theorem q455 : (Jvm.Cond.code ({ cls := "java/lang/Character", name := "isValidCodePoint", desc := "(I)Z" } : Jvm.MethodName) prog_19_method_11_code (2 : Nat) (Option.some Jvm.ClassFile.FieldType.boolean)) ∈ lw_all := lw_g (lw_at lw_m2 138 rfl) rfl
theorem q457 : (Jvm.Cond.static ({ cls := "java/lang/Character", name := "highSurrogate", desc := "(I)C" } : Jvm.MethodName)) ∈ lw_all := lw_g (lw_at lw_m2 140 rfl) rfl
theorem q458 : (Jvm.Cond.code ({ cls := "java/lang/Character", name := "highSurrogate", desc := "(I)C" } : Jvm.MethodName) prog_19_method_28_code (1 : Nat) (Option.some Jvm.ClassFile.FieldType.char)) ∈ lw_all := lw_g (lw_at lw_m2 141 rfl) rfl
theorem q459 : (Jvm.Cond.constant "java/lang/Character" (110 : Nat) (55232 : Int32)) ∈ lw_all := lw_g (lw_at lw_m2 142 rfl) rfl
theorem q461 : (Jvm.Cond.static ({ cls := "java/lang/Character", name := "lowSurrogate", desc := "(I)C" } : Jvm.MethodName)) ∈ lw_all := lw_g (lw_at lw_m2 144 rfl) rfl
theorem q462 : (Jvm.Cond.code ({ cls := "java/lang/Character", name := "lowSurrogate", desc := "(I)C" } : Jvm.MethodName) prog_19_method_29_code (1 : Nat) (Option.some Jvm.ClassFile.FieldType.char)) ∈ lw_all := lw_g (lw_at lw_m2 145 rfl) rfl
theorem q463 : (Jvm.Cond.constant "java/lang/Character" (76 : Nat) (56320 : Int32)) ∈ lw_all := lw_g (lw_at lw_m2 146 rfl) rfl

/-! java/lang/RuntimeException -/
set_option maxRecDepth 100000
def RJ8 : String := "java/lang/RuntimeException"
abbrev cJ8_init : ByteArray := prog_23_method_1_code
def yJ8_init : MethodName := ⟨RJ8, "<init>", "()V"⟩
theorem dJ8_init_0 : decode cJ8_init 0 = .ok (.aload_n 0, 1) := by decide +kernel
theorem dJ8_init_1 : decode cJ8_init 1 = .ok (.invokespecial 1, 3) := by decide +kernel
theorem dJ8_init_4 : decode cJ8_init 4 = .ok (.return_, 1) := by decide +kernel
theorem q101 : (Jvm.Cond.initialized "java/lang/RuntimeException") ∈ lw_all := lw_g (lw_at lw_m1 24 rfl) rfl
theorem q969 : (Jvm.Cond.declares ({ cls := "java/lang/RuntimeException", name := "<init>", desc := "()V" } : Jvm.MethodName)) ∈ lw_tbl := lw_at lw_m4 172 rfl
theorem q970 : (Jvm.Cond.declares ({ cls := "java/lang/RuntimeException", name := "<init>", desc := "(Ljava/lang/String;)V" } : Jvm.MethodName)) ∈ lw_tbl := lw_at lw_m4 173 rfl
theorem q981 : (Jvm.Cond.instanceMethod ({ cls := "java/lang/RuntimeException", name := "<init>", desc := "()V" } : Jvm.MethodName)) ∈ lw_all := lw_g (lw_at lw_m4 184 rfl) rfl
theorem q982 : (Jvm.Cond.code ({ cls := "java/lang/RuntimeException", name := "<init>", desc := "()V" } : Jvm.MethodName) prog_23_method_1_code (1 : Nat) (Option.none : Option Jvm.ClassFile.FieldType)) ∈ lw_all := lw_g (lw_at lw_m4 185 rfl) rfl
theorem q983 : (Jvm.Cond.methodLink "java/lang/RuntimeException" (1 : Nat) ({ cls := "java/lang/Exception", name := "<init>", desc := "()V" } : Jvm.MethodName)) ∈ lw_all := lw_g (lw_at lw_m4 186 rfl) rfl

/-! java/util/NoSuchElementException -/
set_option maxRecDepth 100000
def RJ9 : String := "java/util/NoSuchElementException"
def TJ9 : u_T := fun k => match k with
  | 0 => ("java/lang/Throwable", "cause", "Ljava/lang/Throwable;", false)
  | 1 => ("java/lang/Throwable", "stackTrace", "[Ljava/lang/StackTraceElement;", false)
  | 2 => ("java/lang/Throwable", "suppressedExceptions", "Ljava/util/List;", false)
  | 3 => ("java/lang/Throwable", "detailMessage", "Ljava/lang/String;", false)
  | 4 => ("java/lang/Throwable", "backtrace", "Ljava/lang/Object;", false)
  | _ => ("java/lang/Throwable", "depth", "I", false)
def tyJ9 : Nat → FieldType := fun k => match k with
  | 0 => .object "java/lang/Throwable"
  | 1 => .array (.object "java/lang/StackTraceElement")
  | 2 => .object "java/util/List"
  | 3 => .object "java/lang/String"
  | 4 => .object "java/lang/Object"
  | _ => .int
abbrev wsJ90 : List Cond := u_ws RJ9 TJ9 6
theorem nmJ9 : ∀ a, a < 6 → ∀ b, b < 6 → a ≠ b → (TJ9 a).2.1 ≠ (TJ9 b).2.1 := by decide +kernel
theorem tyJ9_ok : ∀ k, k < 6 → parseFieldDescriptor (TJ9 k).2.2.1 = some (tyJ9 k) := by decide +kernel
abbrev cJ9_init : ByteArray := prog_30_method_1_code
def yJ9_init : MethodName := ⟨RJ9, "<init>", "()V"⟩
theorem dJ9_init_0 : decode cJ9_init 0 = .ok (.aload_n 0, 1) := by decide +kernel
theorem dJ9_init_1 : decode cJ9_init 1 = .ok (.invokespecial 1, 3) := by decide +kernel
theorem dJ9_init_4 : decode cJ9_init 4 = .ok (.return_, 1) := by decide +kernel
theorem q102 : (Jvm.Cond.initialized "java/util/NoSuchElementException") ∈ lw_all := lw_g (lw_at lw_m1 25 rfl) rfl
theorem q142 : (Jvm.Cond.selects "java/util/NoSuchElementException" ({ cls := "java/lang/Throwable", name := "fillInStackTrace", desc := "()Ljava/lang/Throwable;" } : Jvm.MethodName) ({ cls := "java/lang/Throwable", name := "fillInStackTrace", desc := "()Ljava/lang/Throwable;" } : Jvm.MethodName)) ∈ lw_all := lw_g (lw_at lw_m1 65 rfl) rfl
theorem q967 : (Jvm.Cond.instantiable "java/util/NoSuchElementException" (6 : Nat)) ∈ lw_all := lw_g (lw_at lw_m4 170 rfl) rfl
theorem q968 : (Jvm.Cond.castable "java/util/NoSuchElementException" "java/util/NoSuchElementException") ∈ lw_tbl := lw_at lw_m4 171 rfl
theorem q971 : (Jvm.Cond.selects "java/util/NoSuchElementException" ({ cls := "java/lang/Throwable", name := "fillInStackTrace", desc := "(I)Ljava/lang/Throwable;" } : Jvm.MethodName) ({ cls := "java/lang/Throwable", name := "fillInStackTrace", desc := "(I)Ljava/lang/Throwable;" } : Jvm.MethodName)) ∈ lw_all := lw_g (lw_at lw_m4 174 rfl) rfl
theorem q972 : (Jvm.Cond.lays "java/util/NoSuchElementException" "java/lang/Throwable" "cause" "Ljava/lang/Throwable;") ∈ lw_all := lw_g (lw_at lw_m4 175 rfl) rfl
theorem q973 : (Jvm.Cond.lays "java/util/NoSuchElementException" "java/lang/Throwable" "stackTrace" "[Ljava/lang/StackTraceElement;") ∈ lw_all := lw_g (lw_at lw_m4 176 rfl) rfl
theorem q974 : (Jvm.Cond.lays "java/util/NoSuchElementException" "java/lang/Throwable" "suppressedExceptions" "Ljava/util/List;") ∈ lw_all := lw_g (lw_at lw_m4 177 rfl) rfl
theorem q975 : (Jvm.Cond.lays "java/util/NoSuchElementException" "java/lang/Throwable" "detailMessage" "Ljava/lang/String;") ∈ lw_all := lw_g (lw_at lw_m4 178 rfl) rfl
theorem q976 : (Jvm.Cond.lays "java/util/NoSuchElementException" "java/lang/Throwable" "backtrace" "Ljava/lang/Object;") ∈ lw_all := lw_g (lw_at lw_m4 179 rfl) rfl
theorem q978 : (Jvm.Cond.instanceMethod ({ cls := "java/util/NoSuchElementException", name := "<init>", desc := "()V" } : Jvm.MethodName)) ∈ lw_all := lw_g (lw_at lw_m4 181 rfl) rfl
theorem q979 : (Jvm.Cond.code ({ cls := "java/util/NoSuchElementException", name := "<init>", desc := "()V" } : Jvm.MethodName) prog_30_method_1_code (1 : Nat) (Option.none : Option Jvm.ClassFile.FieldType)) ∈ lw_all := lw_g (lw_at lw_m4 182 rfl) rfl
theorem q980 : (Jvm.Cond.methodLink "java/util/NoSuchElementException" (1 : Nat) ({ cls := "java/lang/RuntimeException", name := "<init>", desc := "()V" } : Jvm.MethodName)) ∈ lw_all := lw_g (lw_at lw_m4 183 rfl) rfl
theorem q984 : (Jvm.Cond.lays "java/util/NoSuchElementException" "java/lang/Throwable" "depth" "I") ∈ lw_all := lw_g (lw_at lw_m4 187 rfl) rfl
theorem q985 : (Jvm.Cond.superclass "java/util/NoSuchElementException" "java/lang/RuntimeException") ∈ lw_all := lw_g (lw_at lw_m4 188 rfl) rfl
theorem q1500 : (Jvm.Cond.castable "java/util/NoSuchElementException" "java/lang/Object") ∈ lw_tbl := lw_at lw_m6 223 rfl
theorem in_J9 : ∀ w ∈ wsJ90, w ∈ lw_all := lw_in wsJ90 [972, 973, 974, 975, 976, 984] (by decide +kernel) (by decide +kernel)

/-! OneBearsLaw -/
set_option maxRecDepth 100000
def RX0 : String := "OneBearsLaw"
abbrev cX0_worth : ByteArray := method_3_code
def yX0_worth : MethodName := ⟨RX0, "worth", "(LOneBears;III[J)I"⟩
def dkwX0_worth_0 : List UInt8 := [25, 4, 3, 42, 27, 28, 29, 182, 0, 7, 133, 80, 167, 0, 7, 58, 5, 4, 172, 3, 172]
abbrev dktX0_worth_0 : List UInt8 := dkwX0_worth_0 ++ []
theorem dksX0_worth_0 : cX0_worth.data.toList.drop 0 = dktX0_worth_0 := by decide +kernel
theorem dX0_worth_0 : decode cX0_worth 0 = .ok (.aload 4, 2) := dk_25 4 (dk_at dksX0_worth_0 0 rfl rfl)
theorem dX0_worth_2 : decode cX0_worth 2 = .ok (.iconst 0, 1) := dk_3 (dk_at dksX0_worth_0 2 rfl rfl)
theorem dX0_worth_3 : decode cX0_worth 3 = .ok (.aload_n 0, 1) := dk_42 (dk_at dksX0_worth_0 3 rfl rfl)
theorem dX0_worth_4 : decode cX0_worth 4 = .ok (.iload_n 1, 1) := dk_27 (dk_at dksX0_worth_0 4 rfl rfl)
theorem dX0_worth_5 : decode cX0_worth 5 = .ok (.iload_n 2, 1) := dk_28 (dk_at dksX0_worth_0 5 rfl rfl)
theorem dX0_worth_6 : decode cX0_worth 6 = .ok (.iload_n 3, 1) := dk_29 (dk_at dksX0_worth_0 6 rfl rfl)
theorem dX0_worth_7 : decode cX0_worth 7 = .ok (.invokevirtual 7, 3) := dk_182 0 7 (dk_at dksX0_worth_0 7 rfl rfl)
theorem dX0_worth_10 : decode cX0_worth 10 = .ok (.i2l, 1) := dk_133 (dk_at dksX0_worth_0 10 rfl rfl)
theorem dX0_worth_11 : decode cX0_worth 11 = .ok (.lastore, 1) := dk_80 (dk_at dksX0_worth_0 11 rfl rfl)
theorem dX0_worth_12 : decode cX0_worth 12 = .ok (.goto 7, 3) := dk_167 0 7 (dk_at dksX0_worth_0 12 rfl rfl)
theorem dX0_worth_15 : decode cX0_worth 15 = .ok (.astore 5, 2) := dk_58 5 (dk_at dksX0_worth_0 15 rfl rfl)
theorem dX0_worth_17 : decode cX0_worth 17 = .ok (.iconst 1, 1) := dk_4 (dk_at dksX0_worth_0 17 rfl rfl)
theorem dX0_worth_18 : decode cX0_worth 18 = .ok (.ireturn, 1) := dk_172 (dk_at dksX0_worth_0 18 rfl rfl)
theorem dX0_worth_19 : decode cX0_worth 19 = .ok (.iconst 0, 1) := dk_3 (dk_at dksX0_worth_0 19 rfl rfl)
theorem dX0_worth_20 : decode cX0_worth 20 = .ok (.ireturn, 1) := dk_172 (dk_at dksX0_worth_0 20 rfl rfl)
theorem q77 : (Jvm.Cond.initialized "OneBearsLaw") ∈ lw_all := lw_g (lw_at lw_m1 0 rfl) rfl
theorem q103 : (Jvm.Cond.classLink "OneBearsLaw" (8 : Nat) "OneBears") ∈ lw_all := lw_g (lw_at lw_m1 26 rfl) rfl
theorem q105 : (Jvm.Cond.methodLink "OneBearsLaw" (15 : Nat) ({ cls := "OneBears", name := "<init>", desc := "()V" } : Jvm.MethodName)) ∈ lw_all := lw_g (lw_at lw_m1 28 rfl) rfl
theorem q350 : (Jvm.Cond.methodLink "OneBearsLaw" (19 : Nat) ({ cls := "OneBears", name := "feed", desc := "(IIIII)I" } : Jvm.MethodName)) ∈ lw_all := lw_g (lw_at lw_m2 33 rfl) rfl
theorem q357 : (Jvm.Cond.methodLink "OneBearsLaw" (24 : Nat) ({ cls := "OneBears", name := "end", desc := "(I)Z" } : Jvm.MethodName)) ∈ lw_all := lw_g (lw_at lw_m2 40 rfl) rfl
theorem q361 : (Jvm.Cond.methodLink "OneBearsLaw" (29 : Nat) ({ cls := "OneBears", name := "fault", desc := "()I" } : Jvm.MethodName)) ∈ lw_all := lw_g (lw_at lw_m2 44 rfl) rfl
theorem q645 : (Jvm.Cond.methodLink "OneBearsLaw" (34 : Nat) ({ cls := "OneBears", name := "law", desc := "()I" } : Jvm.MethodName)) ∈ lw_all := lw_g (lw_at lw_m3 88 rfl) rfl
theorem q649 : (Jvm.Cond.methodLink "OneBearsLaw" (38 : Nat) ({ cls := "OneBears", name := "animal", desc := "(III)I" } : Jvm.MethodName)) ∈ lw_all := lw_g (lw_at lw_m3 92 rfl) rfl
theorem q665 : (Jvm.Cond.methodLink "OneBearsLaw" (42 : Nat) ({ cls := "OneBears", name := "kin", desc := "(II)J" } : Jvm.MethodName)) ∈ lw_all := lw_g (lw_at lw_m3 108 rfl) rfl
theorem q683 : (Jvm.Cond.methodLink "OneBearsLaw" (47 : Nat) ({ cls := "OneBears", name := "young", desc := "(III)J" } : Jvm.MethodName)) ∈ lw_all := lw_g (lw_at lw_m3 126 rfl) rfl
theorem q691 : (Jvm.Cond.methodLink "OneBearsLaw" (52 : Nat) ({ cls := "OneBears", name := "worthIt", desc := "(IIIII)I" } : Jvm.MethodName)) ∈ lw_all := lw_g (lw_at lw_m3 134 rfl) rfl
theorem q695 : (Jvm.Cond.methodLink "OneBearsLaw" (56 : Nat) ({ cls := "OneBears", name := "reign", desc := "(II)Z" } : Jvm.MethodName)) ∈ lw_all := lw_g (lw_at lw_m3 138 rfl) rfl
theorem q699 : (Jvm.Cond.methodLink "OneBearsLaw" (61 : Nat) ({ cls := "OneBears", name := "set", desc := "(II)Z" } : Jvm.MethodName)) ∈ lw_all := lw_g (lw_at lw_m3 142 rfl) rfl
theorem q709 : (Jvm.Cond.methodLink "OneBearsLaw" (65 : Nat) ({ cls := "OneBears", name := "told", desc := "(I)I" } : Jvm.MethodName)) ∈ lw_all := lw_g (lw_at lw_m3 152 rfl) rfl
theorem q713 : (Jvm.Cond.methodLink "OneBearsLaw" (70 : Nat) ({ cls := "OneBears", name := "rain", desc := "(III)Z" } : Jvm.MethodName)) ∈ lw_all := lw_g (lw_at lw_m3 156 rfl) rfl
theorem q717 : (Jvm.Cond.methodLink "OneBearsLaw" (86 : Nat) ({ cls := "OneBears", name := "run", desc := "(IJIII)I" } : Jvm.MethodName)) ∈ lw_all := lw_g (lw_at lw_m3 160 rfl) rfl
theorem q878 : (Jvm.Cond.methodLink "OneBearsLaw" (91 : Nat) ({ cls := "OneBears", name := "all", desc := "(IJII)I" } : Jvm.MethodName)) ∈ lw_all := lw_g (lw_at lw_m4 81 rfl) rfl
theorem q888 : (Jvm.Cond.methodLink "OneBearsLaw" (96 : Nat) ({ cls := "OneBears", name := "find", desc := "(I)J" } : Jvm.MethodName)) ∈ lw_all := lw_g (lw_at lw_m4 91 rfl) rfl
theorem q897 : (Jvm.Cond.methodLink "OneBearsLaw" (101 : Nat) ({ cls := "OneBears", name := "many", desc := "(II)I" } : Jvm.MethodName)) ∈ lw_all := lw_g (lw_at lw_m4 100 rfl) rfl
theorem q901 : (Jvm.Cond.methodLink "OneBearsLaw" (106 : Nat) ({ cls := "OneBears", name := "note", desc := "(III)I" } : Jvm.MethodName)) ∈ lw_all := lw_g (lw_at lw_m4 104 rfl) rfl
theorem q905 : (Jvm.Cond.methodLink "OneBearsLaw" (110 : Nat) ({ cls := "OneBears", name := "fits", desc := "(J)I" } : Jvm.MethodName)) ∈ lw_all := lw_g (lw_at lw_m4 108 rfl) rfl
theorem q917 : (Jvm.Cond.methodLink "OneBearsLaw" (115 : Nat) ({ cls := "OneBears", name := "whatIf", desc := "(IJI)I" } : Jvm.MethodName)) ∈ lw_all := lw_g (lw_at lw_m4 120 rfl) rfl
theorem q921 : (Jvm.Cond.methodLink "OneBearsLaw" (120 : Nat) ({ cls := "OneBears", name := "trial", desc := "(II)I" } : Jvm.MethodName)) ∈ lw_all := lw_g (lw_at lw_m4 124 rfl) rfl
theorem q925 : (Jvm.Cond.methodLink "OneBearsLaw" (124 : Nat) ({ cls := "OneBears", name := "tells", desc := "(IIJ)I" } : Jvm.MethodName)) ∈ lw_all := lw_g (lw_at lw_m4 128 rfl) rfl
theorem q938 : (Jvm.Cond.methodLink "OneBearsLaw" (129 : Nat) ({ cls := "OneBears", name := "parted", desc := "(IIJ)I" } : Jvm.MethodName)) ∈ lw_all := lw_g (lw_at lw_m4 141 rfl) rfl
theorem q950 : (Jvm.Cond.methodLink "OneBearsLaw" (133 : Nat) ({ cls := "OneBears", name := "next", desc := "(IJ)I" } : Jvm.MethodName)) ∈ lw_all := lw_g (lw_at lw_m4 153 rfl) rfl
theorem q954 : (Jvm.Cond.methodLink "OneBearsLaw" (138 : Nat) ({ cls := "OneBears", name := "count", desc := "(I)I" } : Jvm.MethodName)) ∈ lw_all := lw_g (lw_at lw_m4 157 rfl) rfl
theorem q958 : (Jvm.Cond.methodLink "OneBearsLaw" (75 : Nat) ({ cls := "OneBearsLaw", name := "worth", desc := "(LOneBears;III[J)I" } : Jvm.MethodName)) ∈ lw_all := lw_g (lw_at lw_m4 161 rfl) rfl
theorem q959 : (Jvm.Cond.static ({ cls := "OneBearsLaw", name := "worth", desc := "(LOneBears;III[J)I" } : Jvm.MethodName)) ∈ lw_all := lw_g (lw_at lw_m4 162 rfl) rfl
theorem q960 : (Jvm.Cond.codeWith ({ cls := "OneBearsLaw", name := "worth", desc := "(LOneBears;III[J)I" } : Jvm.MethodName) method_3_code (6 : Nat) (Option.some Jvm.ClassFile.FieldType.int) [((0 : Nat), (12 : Nat), (15 : Nat), (13 : Nat))]) ∈ lw_all := lw_g (lw_at lw_m4 163 rfl) rfl
theorem q961 : (Jvm.Cond.classLink "OneBearsLaw" (13 : Nat) "java/util/NoSuchElementException") ∈ lw_all := lw_g (lw_at lw_m4 164 rfl) rfl
theorem q962 : (Jvm.Cond.methodLink "OneBearsLaw" (7 : Nat) ({ cls := "OneBears", name := "worth", desc := "(III)I" } : Jvm.MethodName)) ∈ lw_all := lw_g (lw_at lw_m4 165 rfl) rfl
theorem q988 : (Jvm.Cond.classLink "OneBearsLaw" (16 : Nat) "OneBearsModel") ∈ lw_all := lw_g (lw_at lw_m4 191 rfl) rfl
theorem q990 : (Jvm.Cond.methodLink "OneBearsLaw" (18 : Nat) ({ cls := "OneBearsModel", name := "<init>", desc := "()V" } : Jvm.MethodName)) ∈ lw_all := lw_g (lw_at lw_m4 193 rfl) rfl
theorem q1168 : (Jvm.Cond.methodLink "OneBearsLaw" (81 : Nat) ({ cls := "OneBearsModel", name := "thrown", desc := "()I" } : Jvm.MethodName)) ∈ lw_all := lw_g (lw_at lw_m5 131 rfl) rfl
theorem q1172 : (Jvm.Cond.methodLink "OneBearsLaw" (23 : Nat) ({ cls := "OneBearsModel", name := "feed", desc := "(IIIII)I" } : Jvm.MethodName)) ∈ lw_all := lw_g (lw_at lw_m5 135 rfl) rfl
theorem q1183 : (Jvm.Cond.methodLink "OneBearsLaw" (28 : Nat) ({ cls := "OneBearsModel", name := "end", desc := "(I)Z" } : Jvm.MethodName)) ∈ lw_all := lw_g (lw_at lw_m5 146 rfl) rfl
theorem q1187 : (Jvm.Cond.methodLink "OneBearsLaw" (33 : Nat) ({ cls := "OneBearsModel", name := "fault", desc := "()I" } : Jvm.MethodName)) ∈ lw_all := lw_g (lw_at lw_m5 150 rfl) rfl
theorem q1262 : (Jvm.Cond.methodLink "OneBearsLaw" (37 : Nat) ({ cls := "OneBearsModel", name := "law", desc := "()I" } : Jvm.MethodName)) ∈ lw_all := lw_g (lw_at lw_m5 225 rfl) rfl
theorem q1266 : (Jvm.Cond.methodLink "OneBearsLaw" (41 : Nat) ({ cls := "OneBearsModel", name := "animal", desc := "(III)I" } : Jvm.MethodName)) ∈ lw_all := lw_g (lw_at lw_m5 229 rfl) rfl
theorem q1277 : (Jvm.Cond.methodLink "OneBearsLaw" (46 : Nat) ({ cls := "OneBearsModel", name := "kin", desc := "(II)J" } : Jvm.MethodName)) ∈ lw_all := lw_g (lw_at lw_m6 0 rfl) rfl
theorem q1300 : (Jvm.Cond.methodLink "OneBearsLaw" (51 : Nat) ({ cls := "OneBearsModel", name := "young", desc := "(III)J" } : Jvm.MethodName)) ∈ lw_all := lw_g (lw_at lw_m6 23 rfl) rfl
theorem q1308 : (Jvm.Cond.methodLink "OneBearsLaw" (55 : Nat) ({ cls := "OneBearsModel", name := "worthIt", desc := "(IIIII)I" } : Jvm.MethodName)) ∈ lw_all := lw_g (lw_at lw_m6 31 rfl) rfl
theorem q1312 : (Jvm.Cond.methodLink "OneBearsLaw" (60 : Nat) ({ cls := "OneBearsModel", name := "reign", desc := "(II)Z" } : Jvm.MethodName)) ∈ lw_all := lw_g (lw_at lw_m6 35 rfl) rfl
theorem q1316 : (Jvm.Cond.methodLink "OneBearsLaw" (64 : Nat) ({ cls := "OneBearsModel", name := "set", desc := "(II)Z" } : Jvm.MethodName)) ∈ lw_all := lw_g (lw_at lw_m6 39 rfl) rfl
theorem q1326 : (Jvm.Cond.methodLink "OneBearsLaw" (69 : Nat) ({ cls := "OneBearsModel", name := "told", desc := "(I)I" } : Jvm.MethodName)) ∈ lw_all := lw_g (lw_at lw_m6 49 rfl) rfl
theorem q1330 : (Jvm.Cond.methodLink "OneBearsLaw" (74 : Nat) ({ cls := "OneBearsModel", name := "rain", desc := "(III)Z" } : Jvm.MethodName)) ∈ lw_all := lw_g (lw_at lw_m6 53 rfl) rfl
theorem q1334 : (Jvm.Cond.methodLink "OneBearsLaw" (80 : Nat) ({ cls := "OneBearsModel", name := "worth", desc := "(III)I" } : Jvm.MethodName)) ∈ lw_all := lw_g (lw_at lw_m6 57 rfl) rfl
theorem q1366 : (Jvm.Cond.methodLink "OneBearsLaw" (90 : Nat) ({ cls := "OneBearsModel", name := "run", desc := "(IJIII)I" } : Jvm.MethodName)) ∈ lw_all := lw_g (lw_at lw_m6 89 rfl) rfl
theorem q1411 : (Jvm.Cond.methodLink "OneBearsLaw" (95 : Nat) ({ cls := "OneBearsModel", name := "all", desc := "(IJII)I" } : Jvm.MethodName)) ∈ lw_all := lw_g (lw_at lw_m6 134 rfl) rfl
theorem q1419 : (Jvm.Cond.methodLink "OneBearsLaw" (100 : Nat) ({ cls := "OneBearsModel", name := "find", desc := "(I)J" } : Jvm.MethodName)) ∈ lw_all := lw_g (lw_at lw_m6 142 rfl) rfl
theorem q1428 : (Jvm.Cond.methodLink "OneBearsLaw" (105 : Nat) ({ cls := "OneBearsModel", name := "many", desc := "(II)I" } : Jvm.MethodName)) ∈ lw_all := lw_g (lw_at lw_m6 151 rfl) rfl
theorem q1432 : (Jvm.Cond.methodLink "OneBearsLaw" (109 : Nat) ({ cls := "OneBearsModel", name := "note", desc := "(III)I" } : Jvm.MethodName)) ∈ lw_all := lw_g (lw_at lw_m6 155 rfl) rfl
theorem q1436 : (Jvm.Cond.methodLink "OneBearsLaw" (114 : Nat) ({ cls := "OneBearsModel", name := "fits", desc := "(J)I" } : Jvm.MethodName)) ∈ lw_all := lw_g (lw_at lw_m6 159 rfl) rfl
theorem q1445 : (Jvm.Cond.methodLink "OneBearsLaw" (119 : Nat) ({ cls := "OneBearsModel", name := "whatIf", desc := "(IJI)I" } : Jvm.MethodName)) ∈ lw_all := lw_g (lw_at lw_m6 168 rfl) rfl
theorem q1449 : (Jvm.Cond.methodLink "OneBearsLaw" (123 : Nat) ({ cls := "OneBearsModel", name := "trial", desc := "(II)I" } : Jvm.MethodName)) ∈ lw_all := lw_g (lw_at lw_m6 172 rfl) rfl
theorem q1453 : (Jvm.Cond.methodLink "OneBearsLaw" (128 : Nat) ({ cls := "OneBearsModel", name := "tells", desc := "(IIJ)I" } : Jvm.MethodName)) ∈ lw_all := lw_g (lw_at lw_m6 176 rfl) rfl
theorem q1465 : (Jvm.Cond.methodLink "OneBearsLaw" (132 : Nat) ({ cls := "OneBearsModel", name := "parted", desc := "(IIJ)I" } : Jvm.MethodName)) ∈ lw_all := lw_g (lw_at lw_m6 188 rfl) rfl
theorem q1477 : (Jvm.Cond.methodLink "OneBearsLaw" (137 : Nat) ({ cls := "OneBearsModel", name := "next", desc := "(IJ)I" } : Jvm.MethodName)) ∈ lw_all := lw_g (lw_at lw_m6 200 rfl) rfl
theorem q1481 : (Jvm.Cond.methodLink "OneBearsLaw" (141 : Nat) ({ cls := "OneBearsModel", name := "count", desc := "(I)I" } : Jvm.MethodName)) ∈ lw_all := lw_g (lw_at lw_m6 204 rfl) rfl
theorem q1485 : (Jvm.Cond.constantLong "OneBearsLaw" (84 : Nat) (4294967295 : Int64)) ∈ lw_all := lw_g (lw_at lw_m6 208 rfl) rfl

/-! OneBears$Link -/
set_option maxRecDepth 100000
def RX10 : String := "OneBears$Link"
def TX10 : u_T := fun k => match k with
  | 0 => ("OneBears$Link", "sign", "I", true)
  | 1 => ("OneBears$Link", "sum", "LOneBears$Sum;", true)
  | _ => ("OneBears$Link", "next", "LOneBears$Link;", false)
def tyX10 : Nat → FieldType := fun k => match k with
  | 0 => .int
  | 1 => .object "OneBears$Sum"
  | _ => .object "OneBears$Link"
abbrev wsX100 : List Cond := u_ws RX10 TX10 3
theorem nmX10 : ∀ a, a < 3 → ∀ b, b < 3 → a ≠ b → (TX10 a).2.1 ≠ (TX10 b).2.1 := by decide +kernel
theorem tyX10_ok : ∀ k, k < 3 → parseFieldDescriptor (TX10 k).2.2.1 = some (tyX10 k) := by decide +kernel
abbrev cX10_init : ByteArray := prog_9_method_1_code
def yX10_init : MethodName := ⟨RX10, "<init>", "(ILOneBears$Sum;)V"⟩
def dkwX10_init_0 : List UInt8 := [42, 183, 0, 1, 42, 27, 181, 0, 7, 42, 44, 181, 0, 13, 177]
abbrev dktX10_init_0 : List UInt8 := dkwX10_init_0 ++ []
theorem dksX10_init_0 : cX10_init.data.toList.drop 0 = dktX10_init_0 := by decide +kernel
theorem dX10_init_0 : decode cX10_init 0 = .ok (.aload_n 0, 1) := dk_42 (dk_at dksX10_init_0 0 rfl rfl)
theorem dX10_init_1 : decode cX10_init 1 = .ok (.invokespecial 1, 3) := dk_183 0 1 (dk_at dksX10_init_0 1 rfl rfl)
theorem dX10_init_4 : decode cX10_init 4 = .ok (.aload_n 0, 1) := dk_42 (dk_at dksX10_init_0 4 rfl rfl)
theorem dX10_init_5 : decode cX10_init 5 = .ok (.iload_n 1, 1) := dk_27 (dk_at dksX10_init_0 5 rfl rfl)
theorem dX10_init_6 : decode cX10_init 6 = .ok (.putfield 7, 3) := dk_181 0 7 (dk_at dksX10_init_0 6 rfl rfl)
theorem dX10_init_9 : decode cX10_init 9 = .ok (.aload_n 0, 1) := dk_42 (dk_at dksX10_init_0 9 rfl rfl)
theorem dX10_init_10 : decode cX10_init 10 = .ok (.aload_n 2, 1) := dk_44 (dk_at dksX10_init_0 10 rfl rfl)
theorem dX10_init_11 : decode cX10_init 11 = .ok (.putfield 13, 3) := dk_181 0 13 (dk_at dksX10_init_0 11 rfl rfl)
theorem dX10_init_14 : decode cX10_init 14 = .ok (.return_, 1) := dk_177 (dk_at dksX10_init_0 14 rfl rfl)
abbrev cX10_on : ByteArray := prog_9_method_2_code
def yX10_on : MethodName := ⟨RX10, "on", "(J[I)J"⟩
def dkwX10_on_3 : List UInt8 := [167, 0, 7, 31, 22, 4, 109, 173]
abbrev dktX10_on_3 : List UInt8 := dkwX10_on_3 ++ []
def dkwX10_on_2 : List UInt8 := [31, 22, 4, 97, 173, 31, 22, 4, 101, 173, 31, 22, 4, 105, 173, 22, 4, 9, 148, 154, 0, 7, 9]
abbrev dktX10_on_2 : List UInt8 := dkwX10_on_2 ++ dktX10_on_3
def dkwX10_on_1 : List UInt8 := [170, 0, 0, 0, 44, 0, 0, 0, 42, 0, 0, 0, 45, 0, 0, 0, 39, 0, 0, 0, 29, 0, 0, 0, 44, 0, 0, 0, 34]
abbrev dktX10_on_1 : List UInt8 := dkwX10_on_1 ++ dktX10_on_2
def dkwX10_on_0 : List UInt8 := [42, 180, 0, 13, 45, 182, 0, 17, 133, 55, 4, 42, 180, 0, 7]
abbrev dktX10_on_0 : List UInt8 := dkwX10_on_0 ++ dktX10_on_1
theorem dksX10_on_0 : cX10_on.data.toList.drop 0 = dktX10_on_0 := by decide +kernel
theorem dksX10_on_1 : cX10_on.data.toList.drop 15 = dktX10_on_1 := dk_seg dksX10_on_0 15 rfl rfl
theorem dksX10_on_2 : cX10_on.data.toList.drop 44 = dktX10_on_2 := dk_seg dksX10_on_1 29 rfl rfl
theorem dksX10_on_3 : cX10_on.data.toList.drop 67 = dktX10_on_3 := dk_seg dksX10_on_2 23 rfl rfl
theorem dX10_on_0 : decode cX10_on 0 = .ok (.aload_n 0, 1) := dk_42 (dk_at dksX10_on_0 0 rfl rfl)
theorem dX10_on_1 : decode cX10_on 1 = .ok (.getfield 13, 3) := dk_180 0 13 (dk_at dksX10_on_0 1 rfl rfl)
theorem dX10_on_4 : decode cX10_on 4 = .ok (.aload_n 3, 1) := dk_45 (dk_at dksX10_on_0 4 rfl rfl)
theorem dX10_on_5 : decode cX10_on 5 = .ok (.invokevirtual 17, 3) := dk_182 0 17 (dk_at dksX10_on_0 5 rfl rfl)
theorem dX10_on_8 : decode cX10_on 8 = .ok (.i2l, 1) := dk_133 (dk_at dksX10_on_0 8 rfl rfl)
theorem dX10_on_9 : decode cX10_on 9 = .ok (.lstore 4, 2) := dk_55 4 (dk_at dksX10_on_0 9 rfl rfl)
theorem dX10_on_11 : decode cX10_on 11 = .ok (.aload_n 0, 1) := dk_42 (dk_at dksX10_on_0 11 rfl rfl)
theorem dX10_on_12 : decode cX10_on 12 = .ok (.getfield 7, 3) := dk_180 0 7 (dk_at dksX10_on_0 12 rfl rfl)
theorem dX10_on_15 : decode cX10_on 15 = .ok (.tableswitch 44 42 45 #[39, 29, 44, 34], 29) := by decide +kernel
theorem dX10_on_44 : decode cX10_on 44 = .ok (.lload_n 1, 1) := dk_31 (dk_at dksX10_on_2 0 rfl rfl)
theorem dX10_on_45 : decode cX10_on 45 = .ok (.lload 4, 2) := dk_22 4 (dk_at dksX10_on_2 1 rfl rfl)
theorem dX10_on_47 : decode cX10_on 47 = .ok (.ladd, 1) := dk_97 (dk_at dksX10_on_2 3 rfl rfl)
theorem dX10_on_48 : decode cX10_on 48 = .ok (.lreturn, 1) := dk_173 (dk_at dksX10_on_2 4 rfl rfl)
theorem dX10_on_49 : decode cX10_on 49 = .ok (.lload_n 1, 1) := dk_31 (dk_at dksX10_on_2 5 rfl rfl)
theorem dX10_on_50 : decode cX10_on 50 = .ok (.lload 4, 2) := dk_22 4 (dk_at dksX10_on_2 6 rfl rfl)
theorem dX10_on_52 : decode cX10_on 52 = .ok (.lsub, 1) := dk_101 (dk_at dksX10_on_2 8 rfl rfl)
theorem dX10_on_53 : decode cX10_on 53 = .ok (.lreturn, 1) := dk_173 (dk_at dksX10_on_2 9 rfl rfl)
theorem dX10_on_54 : decode cX10_on 54 = .ok (.lload_n 1, 1) := dk_31 (dk_at dksX10_on_2 10 rfl rfl)
theorem dX10_on_55 : decode cX10_on 55 = .ok (.lload 4, 2) := dk_22 4 (dk_at dksX10_on_2 11 rfl rfl)
theorem dX10_on_57 : decode cX10_on 57 = .ok (.lmul, 1) := dk_105 (dk_at dksX10_on_2 13 rfl rfl)
theorem dX10_on_58 : decode cX10_on 58 = .ok (.lreturn, 1) := dk_173 (dk_at dksX10_on_2 14 rfl rfl)
theorem dX10_on_59 : decode cX10_on 59 = .ok (.lload 4, 2) := dk_22 4 (dk_at dksX10_on_2 15 rfl rfl)
theorem dX10_on_61 : decode cX10_on 61 = .ok (.lconst 0, 1) := dk_9 (dk_at dksX10_on_2 17 rfl rfl)
theorem dX10_on_62 : decode cX10_on 62 = .ok (.lcmp, 1) := dk_148 (dk_at dksX10_on_2 18 rfl rfl)
theorem dX10_on_63 : decode cX10_on 63 = .ok (.ifCond .ne 7, 3) := dk_154 0 7 (dk_at dksX10_on_2 19 rfl rfl)
theorem dX10_on_66 : decode cX10_on 66 = .ok (.lconst 0, 1) := dk_9 (dk_at dksX10_on_2 22 rfl rfl)
theorem dX10_on_67 : decode cX10_on 67 = .ok (.goto 7, 3) := dk_167 0 7 (dk_at dksX10_on_3 0 rfl rfl)
theorem dX10_on_70 : decode cX10_on 70 = .ok (.lload_n 1, 1) := dk_31 (dk_at dksX10_on_3 3 rfl rfl)
theorem dX10_on_71 : decode cX10_on 71 = .ok (.lload 4, 2) := dk_22 4 (dk_at dksX10_on_3 4 rfl rfl)
theorem dX10_on_73 : decode cX10_on 73 = .ok (.ldiv, 1) := dk_109 (dk_at dksX10_on_3 6 rfl rfl)
theorem dX10_on_74 : decode cX10_on 74 = .ok (.lreturn, 1) := dk_173 (dk_at dksX10_on_3 7 rfl rfl)
theorem q95 : (Jvm.Cond.initialized "OneBears$Link") ∈ lw_all := lw_g (lw_at lw_m1 18 rfl) rfl
theorem q536 : (Jvm.Cond.instantiable "OneBears$Link" (3 : Nat)) ∈ lw_all := lw_g (lw_at lw_m2 219 rfl) rfl
theorem q538 : (Jvm.Cond.instanceMethod ({ cls := "OneBears$Link", name := "<init>", desc := "(ILOneBears$Sum;)V" } : Jvm.MethodName)) ∈ lw_all := lw_g (lw_at lw_m2 221 rfl) rfl
theorem q539 : (Jvm.Cond.code ({ cls := "OneBears$Link", name := "<init>", desc := "(ILOneBears$Sum;)V" } : Jvm.MethodName) prog_9_method_1_code (3 : Nat) (Option.none : Option Jvm.ClassFile.FieldType)) ∈ lw_all := lw_g (lw_at lw_m2 222 rfl) rfl
theorem q540 : (Jvm.Cond.methodLink "OneBears$Link" (1 : Nat) ({ cls := "java/lang/Object", name := "<init>", desc := "()V" } : Jvm.MethodName)) ∈ lw_all := lw_g (lw_at lw_m2 223 rfl) rfl
theorem q541 : (Jvm.Cond.fieldLink "OneBears$Link" (7 : Nat) "OneBears$Link" "sign" "I") ∈ lw_all := lw_g (lw_at lw_m2 224 rfl) rfl
theorem q542 : (Jvm.Cond.fieldLink "OneBears$Link" (13 : Nat) "OneBears$Link" "sum" "LOneBears$Sum;") ∈ lw_all := lw_g (lw_at lw_m2 225 rfl) rfl
theorem q544 : (Jvm.Cond.laysFinal "OneBears$Link" "OneBears$Link" "sign" "I") ∈ lw_all := lw_g (lw_at lw_m2 227 rfl) rfl
theorem q545 : (Jvm.Cond.soleField "OneBears$Link" "sign") ∈ lw_all := lw_g (lw_at lw_m2 228 rfl) rfl
theorem q546 : (Jvm.Cond.laysFinal "OneBears$Link" "OneBears$Link" "sum" "LOneBears$Sum;") ∈ lw_all := lw_g (lw_at lw_m2 229 rfl) rfl
theorem q547 : (Jvm.Cond.soleField "OneBears$Link" "sum") ∈ lw_all := lw_g (lw_at lw_m2 230 rfl) rfl
theorem q548 : (Jvm.Cond.lays "OneBears$Link" "OneBears$Link" "next" "LOneBears$Link;") ∈ lw_all := lw_g (lw_at lw_m2 231 rfl) rfl
theorem q549 : (Jvm.Cond.soleField "OneBears$Link" "next") ∈ lw_all := lw_g (lw_at lw_m2 232 rfl) rfl
theorem q550 : (Jvm.Cond.superclass "OneBears$Link" "java/lang/Object") ∈ lw_all := lw_g (lw_at lw_m2 233 rfl) rfl
theorem q831 : (Jvm.Cond.instanceMethod ({ cls := "OneBears$Link", name := "on", desc := "(J[I)J" } : Jvm.MethodName)) ∈ lw_all := lw_g (lw_at lw_m4 34 rfl) rfl
theorem q832 : (Jvm.Cond.selects "OneBears$Link" ({ cls := "OneBears$Link", name := "on", desc := "(J[I)J" } : Jvm.MethodName) ({ cls := "OneBears$Link", name := "on", desc := "(J[I)J" } : Jvm.MethodName)) ∈ lw_all := lw_g (lw_at lw_m4 35 rfl) rfl
theorem q833 : (Jvm.Cond.code ({ cls := "OneBears$Link", name := "on", desc := "(J[I)J" } : Jvm.MethodName) prog_9_method_2_code (6 : Nat) (Option.some Jvm.ClassFile.FieldType.long)) ∈ lw_all := lw_g (lw_at lw_m4 36 rfl) rfl
theorem q834 : (Jvm.Cond.methodLink "OneBears$Link" (17 : Nat) ({ cls := "OneBears$Sum", name := "value", desc := "([I)I" } : Jvm.MethodName)) ∈ lw_all := lw_g (lw_at lw_m4 37 rfl) rfl
theorem q1495 : (Jvm.Cond.castable "OneBears$Link" "java/lang/Object") ∈ lw_tbl := lw_at lw_m6 218 rfl
theorem in_X10 : ∀ w ∈ wsX100, w ∈ lw_all := lw_in wsX100 [544, 546, 548] (by decide +kernel) (by decide +kernel)

/-! OneBears$Clause -/
set_option maxRecDepth 100000
def RX11 : String := "OneBears$Clause"
def TX11 : u_T := fun k => match k with
  | 0 => ("OneBears$Clause", "label", "I", true)
  | 1 => ("OneBears$Clause", "test", "LOneBears$Test;", true)
  | 2 => ("OneBears$Clause", "sum", "LOneBears$Sum;", true)
  | _ => ("OneBears$Clause", "next", "LOneBears$Clause;", false)
def tyX11 : Nat → FieldType := fun k => match k with
  | 0 => .int
  | 1 => .object "OneBears$Test"
  | 2 => .object "OneBears$Sum"
  | _ => .object "OneBears$Clause"
abbrev wsX110 : List Cond := u_ws RX11 TX11 4
theorem nmX11 : ∀ a, a < 4 → ∀ b, b < 4 → a ≠ b → (TX11 a).2.1 ≠ (TX11 b).2.1 := by decide +kernel
theorem tyX11_ok : ∀ k, k < 4 → parseFieldDescriptor (TX11 k).2.2.1 = some (tyX11 k) := by decide +kernel
abbrev cX11_init : ByteArray := prog_3_method_1_code
def yX11_init : MethodName := ⟨RX11, "<init>", "(ILOneBears$Test;LOneBears$Sum;)V"⟩
def dkwX11_init_0 : List UInt8 := [42, 183, 0, 1, 42, 27, 181, 0, 7, 42, 44, 181, 0, 13, 42, 45, 181, 0, 17, 177]
abbrev dktX11_init_0 : List UInt8 := dkwX11_init_0 ++ []
theorem dksX11_init_0 : cX11_init.data.toList.drop 0 = dktX11_init_0 := by decide +kernel
theorem dX11_init_0 : decode cX11_init 0 = .ok (.aload_n 0, 1) := dk_42 (dk_at dksX11_init_0 0 rfl rfl)
theorem dX11_init_1 : decode cX11_init 1 = .ok (.invokespecial 1, 3) := dk_183 0 1 (dk_at dksX11_init_0 1 rfl rfl)
theorem dX11_init_4 : decode cX11_init 4 = .ok (.aload_n 0, 1) := dk_42 (dk_at dksX11_init_0 4 rfl rfl)
theorem dX11_init_5 : decode cX11_init 5 = .ok (.iload_n 1, 1) := dk_27 (dk_at dksX11_init_0 5 rfl rfl)
theorem dX11_init_6 : decode cX11_init 6 = .ok (.putfield 7, 3) := dk_181 0 7 (dk_at dksX11_init_0 6 rfl rfl)
theorem dX11_init_9 : decode cX11_init 9 = .ok (.aload_n 0, 1) := dk_42 (dk_at dksX11_init_0 9 rfl rfl)
theorem dX11_init_10 : decode cX11_init 10 = .ok (.aload_n 2, 1) := dk_44 (dk_at dksX11_init_0 10 rfl rfl)
theorem dX11_init_11 : decode cX11_init 11 = .ok (.putfield 13, 3) := dk_181 0 13 (dk_at dksX11_init_0 11 rfl rfl)
theorem dX11_init_14 : decode cX11_init 14 = .ok (.aload_n 0, 1) := dk_42 (dk_at dksX11_init_0 14 rfl rfl)
theorem dX11_init_15 : decode cX11_init 15 = .ok (.aload_n 3, 1) := dk_45 (dk_at dksX11_init_0 15 rfl rfl)
theorem dX11_init_16 : decode cX11_init 16 = .ok (.putfield 17, 3) := dk_181 0 17 (dk_at dksX11_init_0 16 rfl rfl)
theorem dX11_init_19 : decode cX11_init 19 = .ok (.return_, 1) := dk_177 (dk_at dksX11_init_0 19 rfl rfl)
theorem q96 : (Jvm.Cond.initialized "OneBears$Clause") ∈ lw_all := lw_g (lw_at lw_m1 19 rfl) rfl
theorem q554 : (Jvm.Cond.instantiable "OneBears$Clause" (4 : Nat)) ∈ lw_all := lw_g (lw_at lw_m2 237 rfl) rfl
theorem q556 : (Jvm.Cond.instanceMethod ({ cls := "OneBears$Clause", name := "<init>", desc := "(ILOneBears$Test;LOneBears$Sum;)V" } : Jvm.MethodName)) ∈ lw_all := lw_g (lw_at lw_m2 239 rfl) rfl
theorem q557 : (Jvm.Cond.code ({ cls := "OneBears$Clause", name := "<init>", desc := "(ILOneBears$Test;LOneBears$Sum;)V" } : Jvm.MethodName) prog_3_method_1_code (4 : Nat) (Option.none : Option Jvm.ClassFile.FieldType)) ∈ lw_all := lw_g (lw_at lw_m3 0 rfl) rfl
theorem q558 : (Jvm.Cond.methodLink "OneBears$Clause" (1 : Nat) ({ cls := "java/lang/Object", name := "<init>", desc := "()V" } : Jvm.MethodName)) ∈ lw_all := lw_g (lw_at lw_m3 1 rfl) rfl
theorem q559 : (Jvm.Cond.fieldLink "OneBears$Clause" (7 : Nat) "OneBears$Clause" "label" "I") ∈ lw_all := lw_g (lw_at lw_m3 2 rfl) rfl
theorem q561 : (Jvm.Cond.fieldLink "OneBears$Clause" (13 : Nat) "OneBears$Clause" "test" "LOneBears$Test;") ∈ lw_all := lw_g (lw_at lw_m3 4 rfl) rfl
theorem q563 : (Jvm.Cond.fieldLink "OneBears$Clause" (17 : Nat) "OneBears$Clause" "sum" "LOneBears$Sum;") ∈ lw_all := lw_g (lw_at lw_m3 6 rfl) rfl
theorem q566 : (Jvm.Cond.laysFinal "OneBears$Clause" "OneBears$Clause" "label" "I") ∈ lw_all := lw_g (lw_at lw_m3 9 rfl) rfl
theorem q567 : (Jvm.Cond.soleField "OneBears$Clause" "label") ∈ lw_all := lw_g (lw_at lw_m3 10 rfl) rfl
theorem q568 : (Jvm.Cond.laysFinal "OneBears$Clause" "OneBears$Clause" "test" "LOneBears$Test;") ∈ lw_all := lw_g (lw_at lw_m3 11 rfl) rfl
theorem q569 : (Jvm.Cond.soleField "OneBears$Clause" "test") ∈ lw_all := lw_g (lw_at lw_m3 12 rfl) rfl
theorem q570 : (Jvm.Cond.laysFinal "OneBears$Clause" "OneBears$Clause" "sum" "LOneBears$Sum;") ∈ lw_all := lw_g (lw_at lw_m3 13 rfl) rfl
theorem q571 : (Jvm.Cond.soleField "OneBears$Clause" "sum") ∈ lw_all := lw_g (lw_at lw_m3 14 rfl) rfl
theorem q572 : (Jvm.Cond.lays "OneBears$Clause" "OneBears$Clause" "next" "LOneBears$Clause;") ∈ lw_all := lw_g (lw_at lw_m3 15 rfl) rfl
theorem q573 : (Jvm.Cond.soleField "OneBears$Clause" "next") ∈ lw_all := lw_g (lw_at lw_m3 16 rfl) rfl
theorem q574 : (Jvm.Cond.superclass "OneBears$Clause" "java/lang/Object") ∈ lw_all := lw_g (lw_at lw_m3 17 rfl) rfl
theorem q1496 : (Jvm.Cond.castable "OneBears$Clause" "java/lang/Object") ∈ lw_tbl := lw_at lw_m6 219 rfl
theorem in_X11 : ∀ w ∈ wsX110, w ∈ lw_all := lw_in wsX110 [566, 568, 570, 572] (by decide +kernel) (by decide +kernel)

/-! OneBears$Test -/
set_option maxRecDepth 100000
def RX12 : String := "OneBears$Test"
abbrev cX12_init : ByteArray := prog_13_method_1_code
def yX12_init : MethodName := ⟨RX12, "<init>", "()V"⟩
theorem dX12_init_0 : decode cX12_init 0 = .ok (.aload_n 0, 1) := by decide +kernel
theorem dX12_init_1 : decode cX12_init 1 = .ok (.invokespecial 1, 3) := by decide +kernel
theorem dX12_init_4 : decode cX12_init 4 = .ok (.return_, 1) := by decide +kernel
theorem q97 : (Jvm.Cond.initialized "OneBears$Test") ∈ lw_all := lw_g (lw_at lw_m1 20 rfl) rfl
theorem q593 : (Jvm.Cond.instanceMethod ({ cls := "OneBears$Test", name := "<init>", desc := "()V" } : Jvm.MethodName)) ∈ lw_all := lw_g (lw_at lw_m3 36 rfl) rfl
theorem q594 : (Jvm.Cond.code ({ cls := "OneBears$Test", name := "<init>", desc := "()V" } : Jvm.MethodName) prog_13_method_1_code (1 : Nat) (Option.none : Option Jvm.ClassFile.FieldType)) ∈ lw_all := lw_g (lw_at lw_m3 37 rfl) rfl
theorem q595 : (Jvm.Cond.methodLink "OneBears$Test" (1 : Nat) ({ cls := "java/lang/Object", name := "<init>", desc := "()V" } : Jvm.MethodName)) ∈ lw_all := lw_g (lw_at lw_m3 38 rfl) rfl
theorem q601 : (Jvm.Cond.soleField "OneBears$Test" "next") ∈ lw_all := lw_g (lw_at lw_m3 44 rfl) rfl
theorem q812 : (Jvm.Cond.declares ({ cls := "OneBears$Test", name := "holds", desc := "([I)Z" } : Jvm.MethodName)) ∈ lw_tbl := lw_at lw_m4 15 rfl
theorem q813 : (Jvm.Cond.sameMethod "OneBears$Test" "OneBears$Test" "holds" "([I)Z") ∈ lw_all := lw_g (lw_at lw_m4 16 rfl) rfl

/-! OneBears$Not -/
set_option maxRecDepth 100000
def RX13 : String := "OneBears$Not"
def TX13 : u_T := fun k => match k with
  | 0 => ("OneBears$Test", "next", "LOneBears$Test;", false)
  | _ => ("OneBears$Not", "test", "LOneBears$Test;", true)
def tyX13 : Nat → FieldType := fun k => match k with
  | 0 => .object "OneBears$Test"
  | _ => .object "OneBears$Test"
abbrev wsX130 : List Cond := u_ws RX13 TX13 2
theorem nmX13 : ∀ a, a < 2 → ∀ b, b < 2 → a ≠ b → (TX13 a).2.1 ≠ (TX13 b).2.1 := by decide +kernel
theorem tyX13_ok : ∀ k, k < 2 → parseFieldDescriptor (TX13 k).2.2.1 = some (tyX13 k) := by decide +kernel
abbrev cX13_init : ByteArray := prog_10_method_1_code
def yX13_init : MethodName := ⟨RX13, "<init>", "(LOneBears$Test;)V"⟩
def dkwX13_init_0 : List UInt8 := [42, 183, 0, 1, 42, 43, 181, 0, 7, 177]
abbrev dktX13_init_0 : List UInt8 := dkwX13_init_0 ++ []
theorem dksX13_init_0 : cX13_init.data.toList.drop 0 = dktX13_init_0 := by decide +kernel
theorem dX13_init_0 : decode cX13_init 0 = .ok (.aload_n 0, 1) := dk_42 (dk_at dksX13_init_0 0 rfl rfl)
theorem dX13_init_1 : decode cX13_init 1 = .ok (.invokespecial 1, 3) := dk_183 0 1 (dk_at dksX13_init_0 1 rfl rfl)
theorem dX13_init_4 : decode cX13_init 4 = .ok (.aload_n 0, 1) := dk_42 (dk_at dksX13_init_0 4 rfl rfl)
theorem dX13_init_5 : decode cX13_init 5 = .ok (.aload_n 1, 1) := dk_43 (dk_at dksX13_init_0 5 rfl rfl)
theorem dX13_init_6 : decode cX13_init 6 = .ok (.putfield 7, 3) := dk_181 0 7 (dk_at dksX13_init_0 6 rfl rfl)
theorem dX13_init_9 : decode cX13_init 9 = .ok (.return_, 1) := dk_177 (dk_at dksX13_init_0 9 rfl rfl)
abbrev cX13_holds : ByteArray := prog_10_method_2_code
def yX13_holds : MethodName := ⟨RX13, "holds", "([I)Z"⟩
def dkwX13_holds_0 : List UInt8 := [42, 180, 0, 7, 43, 182, 0, 13, 154, 0, 7, 4, 167, 0, 4, 3, 172]
abbrev dktX13_holds_0 : List UInt8 := dkwX13_holds_0 ++ []
theorem dksX13_holds_0 : cX13_holds.data.toList.drop 0 = dktX13_holds_0 := by decide +kernel
theorem dX13_holds_0 : decode cX13_holds 0 = .ok (.aload_n 0, 1) := dk_42 (dk_at dksX13_holds_0 0 rfl rfl)
theorem dX13_holds_1 : decode cX13_holds 1 = .ok (.getfield 7, 3) := dk_180 0 7 (dk_at dksX13_holds_0 1 rfl rfl)
theorem dX13_holds_4 : decode cX13_holds 4 = .ok (.aload_n 1, 1) := dk_43 (dk_at dksX13_holds_0 4 rfl rfl)
theorem dX13_holds_5 : decode cX13_holds 5 = .ok (.invokevirtual 13, 3) := dk_182 0 13 (dk_at dksX13_holds_0 5 rfl rfl)
theorem dX13_holds_8 : decode cX13_holds 8 = .ok (.ifCond .ne 7, 3) := dk_154 0 7 (dk_at dksX13_holds_0 8 rfl rfl)
theorem dX13_holds_11 : decode cX13_holds 11 = .ok (.iconst 1, 1) := dk_4 (dk_at dksX13_holds_0 11 rfl rfl)
theorem dX13_holds_12 : decode cX13_holds 12 = .ok (.goto 4, 3) := dk_167 0 4 (dk_at dksX13_holds_0 12 rfl rfl)
theorem dX13_holds_15 : decode cX13_holds 15 = .ok (.iconst 0, 1) := dk_3 (dk_at dksX13_holds_0 15 rfl rfl)
theorem dX13_holds_16 : decode cX13_holds 16 = .ok (.ireturn, 1) := dk_172 (dk_at dksX13_holds_0 16 rfl rfl)
theorem q98 : (Jvm.Cond.initialized "OneBears$Not") ∈ lw_all := lw_g (lw_at lw_m1 21 rfl) rfl
theorem q588 : (Jvm.Cond.instantiable "OneBears$Not" (2 : Nat)) ∈ lw_all := lw_g (lw_at lw_m3 31 rfl) rfl
theorem q590 : (Jvm.Cond.instanceMethod ({ cls := "OneBears$Not", name := "<init>", desc := "(LOneBears$Test;)V" } : Jvm.MethodName)) ∈ lw_all := lw_g (lw_at lw_m3 33 rfl) rfl
theorem q591 : (Jvm.Cond.code ({ cls := "OneBears$Not", name := "<init>", desc := "(LOneBears$Test;)V" } : Jvm.MethodName) prog_10_method_1_code (2 : Nat) (Option.none : Option Jvm.ClassFile.FieldType)) ∈ lw_all := lw_g (lw_at lw_m3 34 rfl) rfl
theorem q592 : (Jvm.Cond.methodLinkNest "OneBears$Not" (1 : Nat) ({ cls := "OneBears$Test", name := "<init>", desc := "()V" } : Jvm.MethodName) "OneBears") ∈ lw_tbl := lw_at lw_m3 35 rfl
theorem q596 : (Jvm.Cond.fieldLink "OneBears$Not" (7 : Nat) "OneBears$Not" "test" "LOneBears$Test;") ∈ lw_all := lw_g (lw_at lw_m3 39 rfl) rfl
theorem q598 : (Jvm.Cond.laysFinal "OneBears$Not" "OneBears$Not" "test" "LOneBears$Test;") ∈ lw_all := lw_g (lw_at lw_m3 41 rfl) rfl
theorem q599 : (Jvm.Cond.soleField "OneBears$Not" "test") ∈ lw_all := lw_g (lw_at lw_m3 42 rfl) rfl
theorem q600 : (Jvm.Cond.lays "OneBears$Not" "OneBears$Test" "next" "LOneBears$Test;") ∈ lw_all := lw_g (lw_at lw_m3 43 rfl) rfl
theorem q602 : (Jvm.Cond.superclass "OneBears$Not" "OneBears$Test") ∈ lw_all := lw_g (lw_at lw_m3 45 rfl) rfl
theorem q843 : (Jvm.Cond.selects "OneBears$Not" ({ cls := "OneBears$Test", name := "holds", desc := "([I)Z" } : Jvm.MethodName) ({ cls := "OneBears$Not", name := "holds", desc := "([I)Z" } : Jvm.MethodName)) ∈ lw_all := lw_g (lw_at lw_m4 46 rfl) rfl
theorem q844 : (Jvm.Cond.instanceMethod ({ cls := "OneBears$Not", name := "holds", desc := "([I)Z" } : Jvm.MethodName)) ∈ lw_all := lw_g (lw_at lw_m4 47 rfl) rfl
theorem q845 : (Jvm.Cond.code ({ cls := "OneBears$Not", name := "holds", desc := "([I)Z" } : Jvm.MethodName) prog_10_method_2_code (2 : Nat) (Option.some Jvm.ClassFile.FieldType.boolean)) ∈ lw_all := lw_g (lw_at lw_m4 48 rfl) rfl
theorem q846 : (Jvm.Cond.methodLink "OneBears$Not" (13 : Nat) ({ cls := "OneBears$Test", name := "holds", desc := "([I)Z" } : Jvm.MethodName)) ∈ lw_all := lw_g (lw_at lw_m4 49 rfl) rfl
theorem q1497 : (Jvm.Cond.castable "OneBears$Not" "java/lang/Object") ∈ lw_tbl := lw_at lw_m6 220 rfl
theorem in_X13 : ∀ w ∈ wsX130, w ∈ lw_all := lw_in wsX130 [600, 598] (by decide +kernel) (by decide +kernel)

/-! OneBears$Compare -/
set_option maxRecDepth 100000
def RX14 : String := "OneBears$Compare"
def TX14 : u_T := fun k => match k with
  | 0 => ("OneBears$Test", "next", "LOneBears$Test;", false)
  | 1 => ("OneBears$Compare", "sign", "I", true)
  | 2 => ("OneBears$Compare", "one", "LOneBears$Sum;", true)
  | _ => ("OneBears$Compare", "other", "LOneBears$Sum;", true)
def tyX14 : Nat → FieldType := fun k => match k with
  | 0 => .object "OneBears$Test"
  | 1 => .int
  | 2 => .object "OneBears$Sum"
  | _ => .object "OneBears$Sum"
abbrev wsX140 : List Cond := u_ws RX14 TX14 4
theorem nmX14 : ∀ a, a < 4 → ∀ b, b < 4 → a ≠ b → (TX14 a).2.1 ≠ (TX14 b).2.1 := by decide +kernel
theorem tyX14_ok : ∀ k, k < 4 → parseFieldDescriptor (TX14 k).2.2.1 = some (tyX14 k) := by decide +kernel
abbrev cX14_init : ByteArray := prog_5_method_1_code
def yX14_init : MethodName := ⟨RX14, "<init>", "(ILOneBears$Sum;LOneBears$Sum;)V"⟩
def dkwX14_init_0 : List UInt8 := [42, 183, 0, 1, 42, 27, 181, 0, 7, 42, 44, 181, 0, 13, 42, 45, 181, 0, 17, 177]
abbrev dktX14_init_0 : List UInt8 := dkwX14_init_0 ++ []
theorem dksX14_init_0 : cX14_init.data.toList.drop 0 = dktX14_init_0 := by decide +kernel
theorem dX14_init_0 : decode cX14_init 0 = .ok (.aload_n 0, 1) := dk_42 (dk_at dksX14_init_0 0 rfl rfl)
theorem dX14_init_1 : decode cX14_init 1 = .ok (.invokespecial 1, 3) := dk_183 0 1 (dk_at dksX14_init_0 1 rfl rfl)
theorem dX14_init_4 : decode cX14_init 4 = .ok (.aload_n 0, 1) := dk_42 (dk_at dksX14_init_0 4 rfl rfl)
theorem dX14_init_5 : decode cX14_init 5 = .ok (.iload_n 1, 1) := dk_27 (dk_at dksX14_init_0 5 rfl rfl)
theorem dX14_init_6 : decode cX14_init 6 = .ok (.putfield 7, 3) := dk_181 0 7 (dk_at dksX14_init_0 6 rfl rfl)
theorem dX14_init_9 : decode cX14_init 9 = .ok (.aload_n 0, 1) := dk_42 (dk_at dksX14_init_0 9 rfl rfl)
theorem dX14_init_10 : decode cX14_init 10 = .ok (.aload_n 2, 1) := dk_44 (dk_at dksX14_init_0 10 rfl rfl)
theorem dX14_init_11 : decode cX14_init 11 = .ok (.putfield 13, 3) := dk_181 0 13 (dk_at dksX14_init_0 11 rfl rfl)
theorem dX14_init_14 : decode cX14_init 14 = .ok (.aload_n 0, 1) := dk_42 (dk_at dksX14_init_0 14 rfl rfl)
theorem dX14_init_15 : decode cX14_init 15 = .ok (.aload_n 3, 1) := dk_45 (dk_at dksX14_init_0 15 rfl rfl)
theorem dX14_init_16 : decode cX14_init 16 = .ok (.putfield 17, 3) := dk_181 0 17 (dk_at dksX14_init_0 16 rfl rfl)
theorem dX14_init_19 : decode cX14_init 19 = .ok (.return_, 1) := dk_177 (dk_at dksX14_init_0 19 rfl rfl)
abbrev cX14_holds : ByteArray := prog_5_method_2_code
def yX14_holds : MethodName := ⟨RX14, "holds", "([I)Z"⟩
def dkwX14_holds_3 : List UInt8 := [167, 0, 4, 3, 172]
abbrev dktX14_holds_3 : List UInt8 := dkwX14_holds_3 ++ []
def dkwX14_holds_2 : List UInt8 := [160, 0, 16, 28, 29, 162, 0, 7, 4, 167, 0, 17, 3, 167, 0, 13, 28, 29, 164, 0, 7, 4]
abbrev dktX14_holds_2 : List UInt8 := dkwX14_holds_2 ++ dktX14_holds_3
def dkwX14_holds_1 : List UInt8 := [160, 0, 16, 28, 29, 160, 0, 7, 4, 167, 0, 39, 3, 167, 0, 35, 42, 180, 0, 7, 16, 60]
abbrev dktX14_holds_1 : List UInt8 := dkwX14_holds_1 ++ dktX14_holds_2
def dkwX14_holds_0 : List UInt8 := [42, 180, 0, 13, 43, 182, 0, 20, 61, 42, 180, 0, 17, 43, 182, 0, 20, 62, 42, 180, 0, 7, 16, 61]
abbrev dktX14_holds_0 : List UInt8 := dkwX14_holds_0 ++ dktX14_holds_1
theorem dksX14_holds_0 : cX14_holds.data.toList.drop 0 = dktX14_holds_0 := by decide +kernel
theorem dksX14_holds_1 : cX14_holds.data.toList.drop 24 = dktX14_holds_1 := dk_seg dksX14_holds_0 24 rfl rfl
theorem dksX14_holds_2 : cX14_holds.data.toList.drop 46 = dktX14_holds_2 := dk_seg dksX14_holds_1 22 rfl rfl
theorem dksX14_holds_3 : cX14_holds.data.toList.drop 68 = dktX14_holds_3 := dk_seg dksX14_holds_2 22 rfl rfl
theorem dX14_holds_0 : decode cX14_holds 0 = .ok (.aload_n 0, 1) := dk_42 (dk_at dksX14_holds_0 0 rfl rfl)
theorem dX14_holds_1 : decode cX14_holds 1 = .ok (.getfield 13, 3) := dk_180 0 13 (dk_at dksX14_holds_0 1 rfl rfl)
theorem dX14_holds_4 : decode cX14_holds 4 = .ok (.aload_n 1, 1) := dk_43 (dk_at dksX14_holds_0 4 rfl rfl)
theorem dX14_holds_5 : decode cX14_holds 5 = .ok (.invokevirtual 20, 3) := dk_182 0 20 (dk_at dksX14_holds_0 5 rfl rfl)
theorem dX14_holds_8 : decode cX14_holds 8 = .ok (.istore_n 2, 1) := dk_61 (dk_at dksX14_holds_0 8 rfl rfl)
theorem dX14_holds_9 : decode cX14_holds 9 = .ok (.aload_n 0, 1) := dk_42 (dk_at dksX14_holds_0 9 rfl rfl)
theorem dX14_holds_10 : decode cX14_holds 10 = .ok (.getfield 17, 3) := dk_180 0 17 (dk_at dksX14_holds_0 10 rfl rfl)
theorem dX14_holds_13 : decode cX14_holds 13 = .ok (.aload_n 1, 1) := dk_43 (dk_at dksX14_holds_0 13 rfl rfl)
theorem dX14_holds_14 : decode cX14_holds 14 = .ok (.invokevirtual 20, 3) := dk_182 0 20 (dk_at dksX14_holds_0 14 rfl rfl)
theorem dX14_holds_17 : decode cX14_holds 17 = .ok (.istore_n 3, 1) := dk_62 (dk_at dksX14_holds_0 17 rfl rfl)
theorem dX14_holds_18 : decode cX14_holds 18 = .ok (.aload_n 0, 1) := dk_42 (dk_at dksX14_holds_0 18 rfl rfl)
theorem dX14_holds_19 : decode cX14_holds 19 = .ok (.getfield 7, 3) := dk_180 0 7 (dk_at dksX14_holds_0 19 rfl rfl)
theorem dX14_holds_22 : decode cX14_holds 22 = .ok (.bipush 61, 2) := dk_16 61 (dk_at dksX14_holds_0 22 rfl rfl)
theorem dX14_holds_24 : decode cX14_holds 24 = .ok (.if_icmp .ne 16, 3) := dk_160 0 16 (dk_at dksX14_holds_1 0 rfl rfl)
theorem dX14_holds_27 : decode cX14_holds 27 = .ok (.iload_n 2, 1) := dk_28 (dk_at dksX14_holds_1 3 rfl rfl)
theorem dX14_holds_28 : decode cX14_holds 28 = .ok (.iload_n 3, 1) := dk_29 (dk_at dksX14_holds_1 4 rfl rfl)
theorem dX14_holds_29 : decode cX14_holds 29 = .ok (.if_icmp .ne 7, 3) := dk_160 0 7 (dk_at dksX14_holds_1 5 rfl rfl)
theorem dX14_holds_32 : decode cX14_holds 32 = .ok (.iconst 1, 1) := dk_4 (dk_at dksX14_holds_1 8 rfl rfl)
theorem dX14_holds_33 : decode cX14_holds 33 = .ok (.goto 39, 3) := dk_167 0 39 (dk_at dksX14_holds_1 9 rfl rfl)
theorem dX14_holds_36 : decode cX14_holds 36 = .ok (.iconst 0, 1) := dk_3 (dk_at dksX14_holds_1 12 rfl rfl)
theorem dX14_holds_37 : decode cX14_holds 37 = .ok (.goto 35, 3) := dk_167 0 35 (dk_at dksX14_holds_1 13 rfl rfl)
theorem dX14_holds_40 : decode cX14_holds 40 = .ok (.aload_n 0, 1) := dk_42 (dk_at dksX14_holds_1 16 rfl rfl)
theorem dX14_holds_41 : decode cX14_holds 41 = .ok (.getfield 7, 3) := dk_180 0 7 (dk_at dksX14_holds_1 17 rfl rfl)
theorem dX14_holds_44 : decode cX14_holds 44 = .ok (.bipush 60, 2) := dk_16 60 (dk_at dksX14_holds_1 20 rfl rfl)
theorem dX14_holds_46 : decode cX14_holds 46 = .ok (.if_icmp .ne 16, 3) := dk_160 0 16 (dk_at dksX14_holds_2 0 rfl rfl)
theorem dX14_holds_49 : decode cX14_holds 49 = .ok (.iload_n 2, 1) := dk_28 (dk_at dksX14_holds_2 3 rfl rfl)
theorem dX14_holds_50 : decode cX14_holds 50 = .ok (.iload_n 3, 1) := dk_29 (dk_at dksX14_holds_2 4 rfl rfl)
theorem dX14_holds_51 : decode cX14_holds 51 = .ok (.if_icmp .ge 7, 3) := dk_162 0 7 (dk_at dksX14_holds_2 5 rfl rfl)
theorem dX14_holds_54 : decode cX14_holds 54 = .ok (.iconst 1, 1) := dk_4 (dk_at dksX14_holds_2 8 rfl rfl)
theorem dX14_holds_55 : decode cX14_holds 55 = .ok (.goto 17, 3) := dk_167 0 17 (dk_at dksX14_holds_2 9 rfl rfl)
theorem dX14_holds_58 : decode cX14_holds 58 = .ok (.iconst 0, 1) := dk_3 (dk_at dksX14_holds_2 12 rfl rfl)
theorem dX14_holds_59 : decode cX14_holds 59 = .ok (.goto 13, 3) := dk_167 0 13 (dk_at dksX14_holds_2 13 rfl rfl)
theorem dX14_holds_62 : decode cX14_holds 62 = .ok (.iload_n 2, 1) := dk_28 (dk_at dksX14_holds_2 16 rfl rfl)
theorem dX14_holds_63 : decode cX14_holds 63 = .ok (.iload_n 3, 1) := dk_29 (dk_at dksX14_holds_2 17 rfl rfl)
theorem dX14_holds_64 : decode cX14_holds 64 = .ok (.if_icmp .le 7, 3) := dk_164 0 7 (dk_at dksX14_holds_2 18 rfl rfl)
theorem dX14_holds_67 : decode cX14_holds 67 = .ok (.iconst 1, 1) := dk_4 (dk_at dksX14_holds_2 21 rfl rfl)
theorem dX14_holds_68 : decode cX14_holds 68 = .ok (.goto 4, 3) := dk_167 0 4 (dk_at dksX14_holds_3 0 rfl rfl)
theorem dX14_holds_71 : decode cX14_holds 71 = .ok (.iconst 0, 1) := dk_3 (dk_at dksX14_holds_3 3 rfl rfl)
theorem dX14_holds_72 : decode cX14_holds 72 = .ok (.ireturn, 1) := dk_172 (dk_at dksX14_holds_3 4 rfl rfl)
theorem q99 : (Jvm.Cond.initialized "OneBears$Compare") ∈ lw_all := lw_g (lw_at lw_m1 22 rfl) rfl
theorem q608 : (Jvm.Cond.instantiable "OneBears$Compare" (4 : Nat)) ∈ lw_all := lw_g (lw_at lw_m3 51 rfl) rfl
theorem q610 : (Jvm.Cond.instanceMethod ({ cls := "OneBears$Compare", name := "<init>", desc := "(ILOneBears$Sum;LOneBears$Sum;)V" } : Jvm.MethodName)) ∈ lw_all := lw_g (lw_at lw_m3 53 rfl) rfl
theorem q611 : (Jvm.Cond.code ({ cls := "OneBears$Compare", name := "<init>", desc := "(ILOneBears$Sum;LOneBears$Sum;)V" } : Jvm.MethodName) prog_5_method_1_code (4 : Nat) (Option.none : Option Jvm.ClassFile.FieldType)) ∈ lw_all := lw_g (lw_at lw_m3 54 rfl) rfl
theorem q612 : (Jvm.Cond.methodLinkNest "OneBears$Compare" (1 : Nat) ({ cls := "OneBears$Test", name := "<init>", desc := "()V" } : Jvm.MethodName) "OneBears") ∈ lw_tbl := lw_at lw_m3 55 rfl
theorem q613 : (Jvm.Cond.fieldLink "OneBears$Compare" (7 : Nat) "OneBears$Compare" "sign" "I") ∈ lw_all := lw_g (lw_at lw_m3 56 rfl) rfl
theorem q614 : (Jvm.Cond.fieldLink "OneBears$Compare" (13 : Nat) "OneBears$Compare" "one" "LOneBears$Sum;") ∈ lw_all := lw_g (lw_at lw_m3 57 rfl) rfl
theorem q615 : (Jvm.Cond.fieldLink "OneBears$Compare" (17 : Nat) "OneBears$Compare" "other" "LOneBears$Sum;") ∈ lw_all := lw_g (lw_at lw_m3 58 rfl) rfl
theorem q616 : (Jvm.Cond.laysFinal "OneBears$Compare" "OneBears$Compare" "sign" "I") ∈ lw_all := lw_g (lw_at lw_m3 59 rfl) rfl
theorem q617 : (Jvm.Cond.soleField "OneBears$Compare" "sign") ∈ lw_all := lw_g (lw_at lw_m3 60 rfl) rfl
theorem q618 : (Jvm.Cond.laysFinal "OneBears$Compare" "OneBears$Compare" "one" "LOneBears$Sum;") ∈ lw_all := lw_g (lw_at lw_m3 61 rfl) rfl
theorem q619 : (Jvm.Cond.soleField "OneBears$Compare" "one") ∈ lw_all := lw_g (lw_at lw_m3 62 rfl) rfl
theorem q620 : (Jvm.Cond.laysFinal "OneBears$Compare" "OneBears$Compare" "other" "LOneBears$Sum;") ∈ lw_all := lw_g (lw_at lw_m3 63 rfl) rfl
theorem q621 : (Jvm.Cond.soleField "OneBears$Compare" "other") ∈ lw_all := lw_g (lw_at lw_m3 64 rfl) rfl
theorem q622 : (Jvm.Cond.lays "OneBears$Compare" "OneBears$Test" "next" "LOneBears$Test;") ∈ lw_all := lw_g (lw_at lw_m3 65 rfl) rfl
theorem q623 : (Jvm.Cond.superclass "OneBears$Compare" "OneBears$Test") ∈ lw_all := lw_g (lw_at lw_m3 66 rfl) rfl
theorem q814 : (Jvm.Cond.selects "OneBears$Compare" ({ cls := "OneBears$Test", name := "holds", desc := "([I)Z" } : Jvm.MethodName) ({ cls := "OneBears$Compare", name := "holds", desc := "([I)Z" } : Jvm.MethodName)) ∈ lw_all := lw_g (lw_at lw_m4 17 rfl) rfl
theorem q815 : (Jvm.Cond.instanceMethod ({ cls := "OneBears$Compare", name := "holds", desc := "([I)Z" } : Jvm.MethodName)) ∈ lw_all := lw_g (lw_at lw_m4 18 rfl) rfl
theorem q816 : (Jvm.Cond.code ({ cls := "OneBears$Compare", name := "holds", desc := "([I)Z" } : Jvm.MethodName) prog_5_method_2_code (4 : Nat) (Option.some Jvm.ClassFile.FieldType.boolean)) ∈ lw_all := lw_g (lw_at lw_m4 19 rfl) rfl
theorem q817 : (Jvm.Cond.methodLink "OneBears$Compare" (20 : Nat) ({ cls := "OneBears$Sum", name := "value", desc := "([I)I" } : Jvm.MethodName)) ∈ lw_all := lw_g (lw_at lw_m4 20 rfl) rfl
theorem q1498 : (Jvm.Cond.castable "OneBears$Compare" "java/lang/Object") ∈ lw_tbl := lw_at lw_m6 221 rfl
theorem in_X14 : ∀ w ∈ wsX140, w ∈ lw_all := lw_in wsX140 [622, 616, 618, 620] (by decide +kernel) (by decide +kernel)

/-! OneBears$Several -/
set_option maxRecDepth 100000
def RX15 : String := "OneBears$Several"
def TX15 : u_T := fun k => match k with
  | 0 => ("OneBears$Test", "next", "LOneBears$Test;", false)
  | 1 => ("OneBears$Several", "isAll", "Z", true)
  | 2 => ("OneBears$Several", "first", "LOneBears$Test;", false)
  | _ => ("OneBears$Several", "last", "LOneBears$Test;", false)
def tyX15 : Nat → FieldType := fun k => match k with
  | 0 => .object "OneBears$Test"
  | 1 => .boolean
  | 2 => .object "OneBears$Test"
  | _ => .object "OneBears$Test"
abbrev wsX150 : List Cond := u_ws RX15 TX15 4
theorem nmX15 : ∀ a, a < 4 → ∀ b, b < 4 → a ≠ b → (TX15 a).2.1 ≠ (TX15 b).2.1 := by decide +kernel
theorem tyX15_ok : ∀ k, k < 4 → parseFieldDescriptor (TX15 k).2.2.1 = some (tyX15 k) := by decide +kernel
abbrev cX15_init : ByteArray := prog_11_method_1_code
def yX15_init : MethodName := ⟨RX15, "<init>", "(ZLOneBears$Test;)V"⟩
def dkwX15_init_0 : List UInt8 := [42, 183, 0, 1, 42, 27, 181, 0, 7, 42, 44, 181, 0, 13, 42, 44, 181, 0, 17, 177]
abbrev dktX15_init_0 : List UInt8 := dkwX15_init_0 ++ []
theorem dksX15_init_0 : cX15_init.data.toList.drop 0 = dktX15_init_0 := by decide +kernel
theorem dX15_init_0 : decode cX15_init 0 = .ok (.aload_n 0, 1) := dk_42 (dk_at dksX15_init_0 0 rfl rfl)
theorem dX15_init_1 : decode cX15_init 1 = .ok (.invokespecial 1, 3) := dk_183 0 1 (dk_at dksX15_init_0 1 rfl rfl)
theorem dX15_init_4 : decode cX15_init 4 = .ok (.aload_n 0, 1) := dk_42 (dk_at dksX15_init_0 4 rfl rfl)
theorem dX15_init_5 : decode cX15_init 5 = .ok (.iload_n 1, 1) := dk_27 (dk_at dksX15_init_0 5 rfl rfl)
theorem dX15_init_6 : decode cX15_init 6 = .ok (.putfield 7, 3) := dk_181 0 7 (dk_at dksX15_init_0 6 rfl rfl)
theorem dX15_init_9 : decode cX15_init 9 = .ok (.aload_n 0, 1) := dk_42 (dk_at dksX15_init_0 9 rfl rfl)
theorem dX15_init_10 : decode cX15_init 10 = .ok (.aload_n 2, 1) := dk_44 (dk_at dksX15_init_0 10 rfl rfl)
theorem dX15_init_11 : decode cX15_init 11 = .ok (.putfield 13, 3) := dk_181 0 13 (dk_at dksX15_init_0 11 rfl rfl)
theorem dX15_init_14 : decode cX15_init 14 = .ok (.aload_n 0, 1) := dk_42 (dk_at dksX15_init_0 14 rfl rfl)
theorem dX15_init_15 : decode cX15_init 15 = .ok (.aload_n 2, 1) := dk_44 (dk_at dksX15_init_0 15 rfl rfl)
theorem dX15_init_16 : decode cX15_init 16 = .ok (.putfield 17, 3) := dk_181 0 17 (dk_at dksX15_init_0 16 rfl rfl)
theorem dX15_init_19 : decode cX15_init 19 = .ok (.return_, 1) := dk_177 (dk_at dksX15_init_0 19 rfl rfl)
abbrev cX15_add : ByteArray := prog_11_method_2_code
def yX15_add : MethodName := ⟨RX15, "add", "(LOneBears$Test;)V"⟩
def dkwX15_add_0 : List UInt8 := [42, 180, 0, 17, 43, 181, 0, 20, 42, 43, 181, 0, 17, 177]
abbrev dktX15_add_0 : List UInt8 := dkwX15_add_0 ++ []
theorem dksX15_add_0 : cX15_add.data.toList.drop 0 = dktX15_add_0 := by decide +kernel
theorem dX15_add_0 : decode cX15_add 0 = .ok (.aload_n 0, 1) := dk_42 (dk_at dksX15_add_0 0 rfl rfl)
theorem dX15_add_1 : decode cX15_add 1 = .ok (.getfield 17, 3) := dk_180 0 17 (dk_at dksX15_add_0 1 rfl rfl)
theorem dX15_add_4 : decode cX15_add 4 = .ok (.aload_n 1, 1) := dk_43 (dk_at dksX15_add_0 4 rfl rfl)
theorem dX15_add_5 : decode cX15_add 5 = .ok (.putfield 20, 3) := dk_181 0 20 (dk_at dksX15_add_0 5 rfl rfl)
theorem dX15_add_8 : decode cX15_add 8 = .ok (.aload_n 0, 1) := dk_42 (dk_at dksX15_add_0 8 rfl rfl)
theorem dX15_add_9 : decode cX15_add 9 = .ok (.aload_n 1, 1) := dk_43 (dk_at dksX15_add_0 9 rfl rfl)
theorem dX15_add_10 : decode cX15_add 10 = .ok (.putfield 17, 3) := dk_181 0 17 (dk_at dksX15_add_0 10 rfl rfl)
theorem dX15_add_13 : decode cX15_add 13 = .ok (.return_, 1) := dk_177 (dk_at dksX15_add_0 13 rfl rfl)
abbrev cX15_holds : ByteArray := prog_11_method_3_code
def yX15_holds : MethodName := ⟨RX15, "holds", "([I)Z"⟩
def dkwX15_holds_2 : List UInt8 := [172]
abbrev dktX15_holds_2 : List UInt8 := dkwX15_holds_2 ++ []
def dkwX15_holds_1 : List UInt8 := [180, 0, 7, 154, 0, 7, 4, 167, 0, 4, 3, 172, 44, 180, 0, 20, 77, 167, 255, 222, 42, 180, 0, 7]
abbrev dktX15_holds_1 : List UInt8 := dkwX15_holds_1 ++ dktX15_holds_2
def dkwX15_holds_0 : List UInt8 := [42, 180, 0, 13, 77, 44, 198, 0, 36, 44, 43, 182, 0, 23, 42, 180, 0, 7, 159, 0, 16, 42]
abbrev dktX15_holds_0 : List UInt8 := dkwX15_holds_0 ++ dktX15_holds_1
theorem dksX15_holds_0 : cX15_holds.data.toList.drop 0 = dktX15_holds_0 := by decide +kernel
theorem dksX15_holds_1 : cX15_holds.data.toList.drop 22 = dktX15_holds_1 := dk_seg dksX15_holds_0 22 rfl rfl
theorem dksX15_holds_2 : cX15_holds.data.toList.drop 46 = dktX15_holds_2 := dk_seg dksX15_holds_1 24 rfl rfl
theorem dX15_holds_0 : decode cX15_holds 0 = .ok (.aload_n 0, 1) := dk_42 (dk_at dksX15_holds_0 0 rfl rfl)
theorem dX15_holds_1 : decode cX15_holds 1 = .ok (.getfield 13, 3) := dk_180 0 13 (dk_at dksX15_holds_0 1 rfl rfl)
theorem dX15_holds_4 : decode cX15_holds 4 = .ok (.astore_n 2, 1) := dk_77 (dk_at dksX15_holds_0 4 rfl rfl)
theorem dX15_holds_5 : decode cX15_holds 5 = .ok (.aload_n 2, 1) := dk_44 (dk_at dksX15_holds_0 5 rfl rfl)
theorem dX15_holds_6 : decode cX15_holds 6 = .ok (.ifnull 36, 3) := dk_198 0 36 (dk_at dksX15_holds_0 6 rfl rfl)
theorem dX15_holds_9 : decode cX15_holds 9 = .ok (.aload_n 2, 1) := dk_44 (dk_at dksX15_holds_0 9 rfl rfl)
theorem dX15_holds_10 : decode cX15_holds 10 = .ok (.aload_n 1, 1) := dk_43 (dk_at dksX15_holds_0 10 rfl rfl)
theorem dX15_holds_11 : decode cX15_holds 11 = .ok (.invokevirtual 23, 3) := dk_182 0 23 (dk_at dksX15_holds_0 11 rfl rfl)
theorem dX15_holds_14 : decode cX15_holds 14 = .ok (.aload_n 0, 1) := dk_42 (dk_at dksX15_holds_0 14 rfl rfl)
theorem dX15_holds_15 : decode cX15_holds 15 = .ok (.getfield 7, 3) := dk_180 0 7 (dk_at dksX15_holds_0 15 rfl rfl)
theorem dX15_holds_18 : decode cX15_holds 18 = .ok (.if_icmp .eq 16, 3) := dk_159 0 16 (dk_at dksX15_holds_0 18 rfl rfl)
theorem dX15_holds_21 : decode cX15_holds 21 = .ok (.aload_n 0, 1) := dk_42 (dk_at dksX15_holds_0 21 rfl rfl)
theorem dX15_holds_22 : decode cX15_holds 22 = .ok (.getfield 7, 3) := dk_180 0 7 (dk_at dksX15_holds_1 0 rfl rfl)
theorem dX15_holds_25 : decode cX15_holds 25 = .ok (.ifCond .ne 7, 3) := dk_154 0 7 (dk_at dksX15_holds_1 3 rfl rfl)
theorem dX15_holds_28 : decode cX15_holds 28 = .ok (.iconst 1, 1) := dk_4 (dk_at dksX15_holds_1 6 rfl rfl)
theorem dX15_holds_29 : decode cX15_holds 29 = .ok (.goto 4, 3) := dk_167 0 4 (dk_at dksX15_holds_1 7 rfl rfl)
theorem dX15_holds_32 : decode cX15_holds 32 = .ok (.iconst 0, 1) := dk_3 (dk_at dksX15_holds_1 10 rfl rfl)
theorem dX15_holds_33 : decode cX15_holds 33 = .ok (.ireturn, 1) := dk_172 (dk_at dksX15_holds_1 11 rfl rfl)
theorem dX15_holds_34 : decode cX15_holds 34 = .ok (.aload_n 2, 1) := dk_44 (dk_at dksX15_holds_1 12 rfl rfl)
theorem dX15_holds_35 : decode cX15_holds 35 = .ok (.getfield 20, 3) := dk_180 0 20 (dk_at dksX15_holds_1 13 rfl rfl)
theorem dX15_holds_38 : decode cX15_holds 38 = .ok (.astore_n 2, 1) := dk_77 (dk_at dksX15_holds_1 16 rfl rfl)
theorem dX15_holds_39 : decode cX15_holds 39 = .ok (.goto (-34), 3) := dk_167 255 222 (dk_at dksX15_holds_1 17 rfl rfl)
theorem dX15_holds_42 : decode cX15_holds 42 = .ok (.aload_n 0, 1) := dk_42 (dk_at dksX15_holds_1 20 rfl rfl)
theorem dX15_holds_43 : decode cX15_holds 43 = .ok (.getfield 7, 3) := dk_180 0 7 (dk_at dksX15_holds_1 21 rfl rfl)
theorem dX15_holds_46 : decode cX15_holds 46 = .ok (.ireturn, 1) := dk_172 (dk_at dksX15_holds_2 0 rfl rfl)
theorem q100 : (Jvm.Cond.initialized "OneBears$Several") ∈ lw_all := lw_g (lw_at lw_m1 23 rfl) rfl
theorem q597 : (Jvm.Cond.fieldLinkNest "OneBears$Several" (20 : Nat) "OneBears$Test" "next" "LOneBears$Test;" "OneBears") ∈ lw_tbl := lw_at lw_m3 40 rfl
theorem q625 : (Jvm.Cond.instantiable "OneBears$Several" (4 : Nat)) ∈ lw_all := lw_g (lw_at lw_m3 68 rfl) rfl
theorem q627 : (Jvm.Cond.instanceMethod ({ cls := "OneBears$Several", name := "<init>", desc := "(ZLOneBears$Test;)V" } : Jvm.MethodName)) ∈ lw_all := lw_g (lw_at lw_m3 70 rfl) rfl
theorem q628 : (Jvm.Cond.code ({ cls := "OneBears$Several", name := "<init>", desc := "(ZLOneBears$Test;)V" } : Jvm.MethodName) prog_11_method_1_code (3 : Nat) (Option.none : Option Jvm.ClassFile.FieldType)) ∈ lw_all := lw_g (lw_at lw_m3 71 rfl) rfl
theorem q629 : (Jvm.Cond.methodLinkNest "OneBears$Several" (1 : Nat) ({ cls := "OneBears$Test", name := "<init>", desc := "()V" } : Jvm.MethodName) "OneBears") ∈ lw_tbl := lw_at lw_m3 72 rfl
theorem q630 : (Jvm.Cond.fieldLink "OneBears$Several" (7 : Nat) "OneBears$Several" "isAll" "Z") ∈ lw_all := lw_g (lw_at lw_m3 73 rfl) rfl
theorem q631 : (Jvm.Cond.fieldLink "OneBears$Several" (13 : Nat) "OneBears$Several" "first" "LOneBears$Test;") ∈ lw_all := lw_g (lw_at lw_m3 74 rfl) rfl
theorem q632 : (Jvm.Cond.fieldLink "OneBears$Several" (17 : Nat) "OneBears$Several" "last" "LOneBears$Test;") ∈ lw_all := lw_g (lw_at lw_m3 75 rfl) rfl
theorem q633 : (Jvm.Cond.laysFinal "OneBears$Several" "OneBears$Several" "isAll" "Z") ∈ lw_all := lw_g (lw_at lw_m3 76 rfl) rfl
theorem q634 : (Jvm.Cond.soleField "OneBears$Several" "isAll") ∈ lw_all := lw_g (lw_at lw_m3 77 rfl) rfl
theorem q635 : (Jvm.Cond.lays "OneBears$Several" "OneBears$Several" "first" "LOneBears$Test;") ∈ lw_all := lw_g (lw_at lw_m3 78 rfl) rfl
theorem q636 : (Jvm.Cond.soleField "OneBears$Several" "first") ∈ lw_all := lw_g (lw_at lw_m3 79 rfl) rfl
theorem q637 : (Jvm.Cond.lays "OneBears$Several" "OneBears$Several" "last" "LOneBears$Test;") ∈ lw_all := lw_g (lw_at lw_m3 80 rfl) rfl
theorem q638 : (Jvm.Cond.soleField "OneBears$Several" "last") ∈ lw_all := lw_g (lw_at lw_m3 81 rfl) rfl
theorem q639 : (Jvm.Cond.lays "OneBears$Several" "OneBears$Test" "next" "LOneBears$Test;") ∈ lw_all := lw_g (lw_at lw_m3 82 rfl) rfl
theorem q640 : (Jvm.Cond.superclass "OneBears$Several" "OneBears$Test") ∈ lw_all := lw_g (lw_at lw_m3 83 rfl) rfl
theorem q642 : (Jvm.Cond.instanceMethod ({ cls := "OneBears$Several", name := "add", desc := "(LOneBears$Test;)V" } : Jvm.MethodName)) ∈ lw_all := lw_g (lw_at lw_m3 85 rfl) rfl
theorem q643 : (Jvm.Cond.selects "OneBears$Several" ({ cls := "OneBears$Several", name := "add", desc := "(LOneBears$Test;)V" } : Jvm.MethodName) ({ cls := "OneBears$Several", name := "add", desc := "(LOneBears$Test;)V" } : Jvm.MethodName)) ∈ lw_all := lw_g (lw_at lw_m3 86 rfl) rfl
theorem q644 : (Jvm.Cond.code ({ cls := "OneBears$Several", name := "add", desc := "(LOneBears$Test;)V" } : Jvm.MethodName) prog_11_method_2_code (2 : Nat) (Option.none : Option Jvm.ClassFile.FieldType)) ∈ lw_all := lw_g (lw_at lw_m3 87 rfl) rfl
theorem q847 : (Jvm.Cond.instanceMethod ({ cls := "OneBears$Several", name := "holds", desc := "([I)Z" } : Jvm.MethodName)) ∈ lw_all := lw_g (lw_at lw_m4 50 rfl) rfl
theorem q848 : (Jvm.Cond.code ({ cls := "OneBears$Several", name := "holds", desc := "([I)Z" } : Jvm.MethodName) prog_11_method_3_code (3 : Nat) (Option.some Jvm.ClassFile.FieldType.boolean)) ∈ lw_all := lw_g (lw_at lw_m4 51 rfl) rfl
theorem q849 : (Jvm.Cond.methodLink "OneBears$Several" (23 : Nat) ({ cls := "OneBears$Test", name := "holds", desc := "([I)Z" } : Jvm.MethodName)) ∈ lw_all := lw_g (lw_at lw_m4 52 rfl) rfl
theorem q850 : (Jvm.Cond.selects "OneBears$Several" ({ cls := "OneBears$Test", name := "holds", desc := "([I)Z" } : Jvm.MethodName) ({ cls := "OneBears$Several", name := "holds", desc := "([I)Z" } : Jvm.MethodName)) ∈ lw_all := lw_g (lw_at lw_m4 53 rfl) rfl
theorem q1499 : (Jvm.Cond.castable "OneBears$Several" "java/lang/Object") ∈ lw_tbl := lw_at lw_m6 222 rfl
theorem in_X15 : ∀ w ∈ wsX150, w ∈ lw_all := lw_in wsX150 [639, 633, 635, 637] (by decide +kernel) (by decide +kernel)

/-! OneBears$Fault -/
set_option maxRecDepth 100000
def RX2 : String := "OneBears$Fault"
def TX2 : u_T := fun k => match k with
  | 0 => ("java/lang/Throwable", "cause", "Ljava/lang/Throwable;", false)
  | 1 => ("java/lang/Throwable", "stackTrace", "[Ljava/lang/StackTraceElement;", false)
  | 2 => ("java/lang/Throwable", "suppressedExceptions", "Ljava/util/List;", false)
  | 3 => ("java/lang/Throwable", "detailMessage", "Ljava/lang/String;", false)
  | 4 => ("java/lang/Throwable", "backtrace", "Ljava/lang/Object;", false)
  | _ => ("java/lang/Throwable", "depth", "I", false)
def tyX2 : Nat → FieldType := fun k => match k with
  | 0 => .object "java/lang/Throwable"
  | 1 => .array (.object "java/lang/StackTraceElement")
  | 2 => .object "java/util/List"
  | 3 => .object "java/lang/String"
  | 4 => .object "java/lang/Object"
  | _ => .int
abbrev wsX20 : List Cond := u_ws RX2 TX2 6
theorem nmX2 : ∀ a, a < 6 → ∀ b, b < 6 → a ≠ b → (TX2 a).2.1 ≠ (TX2 b).2.1 := by decide +kernel
theorem tyX2_ok : ∀ k, k < 6 → parseFieldDescriptor (TX2 k).2.2.1 = some (tyX2 k) := by decide +kernel
abbrev cX2_init : ByteArray := prog_7_method_1_code
def yX2_init : MethodName := ⟨RX2, "<init>", "()V"⟩
theorem dX2_init_0 : decode cX2_init 0 = .ok (.aload_n 0, 1) := by decide +kernel
theorem dX2_init_1 : decode cX2_init 1 = .ok (.invokespecial 1, 3) := by decide +kernel
theorem dX2_init_4 : decode cX2_init 4 = .ok (.return_, 1) := by decide +kernel
theorem q81 : (Jvm.Cond.initialized "OneBears$Fault") ∈ lw_all := lw_g (lw_at lw_m1 4 rfl) rfl
theorem q112 : (Jvm.Cond.instantiable "OneBears$Fault" (6 : Nat)) ∈ lw_all := lw_g (lw_at lw_m1 35 rfl) rfl
theorem q113 : (Jvm.Cond.castable "OneBears$Fault" "OneBears$Fault") ∈ lw_tbl := lw_at lw_m1 36 rfl
theorem q118 : (Jvm.Cond.selects "OneBears$Fault" ({ cls := "java/lang/Throwable", name := "fillInStackTrace", desc := "(I)Ljava/lang/Throwable;" } : Jvm.MethodName) ({ cls := "java/lang/Throwable", name := "fillInStackTrace", desc := "(I)Ljava/lang/Throwable;" } : Jvm.MethodName)) ∈ lw_all := lw_g (lw_at lw_m1 41 rfl) rfl
theorem q119 : (Jvm.Cond.selects "OneBears$Fault" ({ cls := "java/lang/Throwable", name := "fillInStackTrace", desc := "()Ljava/lang/Throwable;" } : Jvm.MethodName) ({ cls := "java/lang/Throwable", name := "fillInStackTrace", desc := "()Ljava/lang/Throwable;" } : Jvm.MethodName)) ∈ lw_all := lw_g (lw_at lw_m1 42 rfl) rfl
theorem q120 : (Jvm.Cond.lays "OneBears$Fault" "java/lang/Throwable" "cause" "Ljava/lang/Throwable;") ∈ lw_all := lw_g (lw_at lw_m1 43 rfl) rfl
theorem q122 : (Jvm.Cond.lays "OneBears$Fault" "java/lang/Throwable" "stackTrace" "[Ljava/lang/StackTraceElement;") ∈ lw_all := lw_g (lw_at lw_m1 45 rfl) rfl
theorem q124 : (Jvm.Cond.lays "OneBears$Fault" "java/lang/Throwable" "suppressedExceptions" "Ljava/util/List;") ∈ lw_all := lw_g (lw_at lw_m1 47 rfl) rfl
theorem q126 : (Jvm.Cond.lays "OneBears$Fault" "java/lang/Throwable" "detailMessage" "Ljava/lang/String;") ∈ lw_all := lw_g (lw_at lw_m1 49 rfl) rfl
theorem q128 : (Jvm.Cond.lays "OneBears$Fault" "java/lang/Throwable" "backtrace" "Ljava/lang/Object;") ∈ lw_all := lw_g (lw_at lw_m1 51 rfl) rfl
theorem q150 : (Jvm.Cond.instanceMethod ({ cls := "OneBears$Fault", name := "<init>", desc := "()V" } : Jvm.MethodName)) ∈ lw_all := lw_g (lw_at lw_m1 73 rfl) rfl
theorem q151 : (Jvm.Cond.code ({ cls := "OneBears$Fault", name := "<init>", desc := "()V" } : Jvm.MethodName) prog_7_method_1_code (1 : Nat) (Option.none : Option Jvm.ClassFile.FieldType)) ∈ lw_all := lw_g (lw_at lw_m1 74 rfl) rfl
theorem q152 : (Jvm.Cond.methodLink "OneBears$Fault" (1 : Nat) ({ cls := "java/lang/Exception", name := "<init>", desc := "()V" } : Jvm.MethodName)) ∈ lw_all := lw_g (lw_at lw_m1 75 rfl) rfl
theorem q164 : (Jvm.Cond.lays "OneBears$Fault" "java/lang/Throwable" "depth" "I") ∈ lw_all := lw_g (lw_at lw_m1 87 rfl) rfl
theorem q167 : (Jvm.Cond.superclass "OneBears$Fault" "java/lang/Exception") ∈ lw_all := lw_g (lw_at lw_m1 90 rfl) rfl
theorem q1488 : (Jvm.Cond.castable "OneBears$Fault" "java/lang/Object") ∈ lw_tbl := lw_at lw_m6 211 rfl
theorem in_X2 : ∀ w ∈ wsX20, w ∈ lw_all := lw_in wsX20 [120, 122, 124, 126, 128, 164] (by decide +kernel) (by decide +kernel)

/-! OneBears$Tree -/
set_option maxRecDepth 100000
def RX3 : String := "OneBears$Tree"
def TX3 : u_T := fun k => match k with
  | 0 => ("OneBears$Tree", "mother", "[I", true)
  | 1 => ("OneBears$Tree", "father", "[I", true)
  | _ => ("OneBears$Tree", "kin", "[J", true)
def tyX3 : Nat → FieldType := fun k => match k with
  | 0 => .array .int
  | 1 => .array .int
  | _ => .array .long
abbrev wsX30 : List Cond := u_ws RX3 TX3 3
theorem nmX3 : ∀ a, a < 3 → ∀ b, b < 3 → a ≠ b → (TX3 a).2.1 ≠ (TX3 b).2.1 := by decide +kernel
theorem tyX3_ok : ∀ k, k < 3 → parseFieldDescriptor (TX3 k).2.2.1 = some (tyX3 k) := by decide +kernel
abbrev cX3_init : ByteArray := prog_14_method_1_code
def yX3_init : MethodName := ⟨RX3, "<init>", "()V"⟩
def dkwX3_init_1 : List UInt8 := [188, 11, 181, 0, 18, 177]
abbrev dktX3_init_1 : List UInt8 := dkwX3_init_1 ++ []
def dkwX3_init_0 : List UInt8 := [42, 183, 0, 3, 42, 16, 24, 188, 10, 181, 0, 9, 42, 16, 24, 188, 10, 181, 0, 15, 42, 17, 2, 64]
abbrev dktX3_init_0 : List UInt8 := dkwX3_init_0 ++ dktX3_init_1
theorem dksX3_init_0 : cX3_init.data.toList.drop 0 = dktX3_init_0 := by decide +kernel
theorem dksX3_init_1 : cX3_init.data.toList.drop 24 = dktX3_init_1 := dk_seg dksX3_init_0 24 rfl rfl
theorem dX3_init_0 : decode cX3_init 0 = .ok (.aload_n 0, 1) := dk_42 (dk_at dksX3_init_0 0 rfl rfl)
theorem dX3_init_1 : decode cX3_init 1 = .ok (.invokespecial 3, 3) := dk_183 0 3 (dk_at dksX3_init_0 1 rfl rfl)
theorem dX3_init_4 : decode cX3_init 4 = .ok (.aload_n 0, 1) := dk_42 (dk_at dksX3_init_0 4 rfl rfl)
theorem dX3_init_5 : decode cX3_init 5 = .ok (.bipush 24, 2) := dk_16 24 (dk_at dksX3_init_0 5 rfl rfl)
theorem dX3_init_7 : decode cX3_init 7 = .ok (.newarray .int, 2) := dk_188_10 (dk_at dksX3_init_0 7 rfl rfl)
theorem dX3_init_9 : decode cX3_init 9 = .ok (.putfield 9, 3) := dk_181 0 9 (dk_at dksX3_init_0 9 rfl rfl)
theorem dX3_init_12 : decode cX3_init 12 = .ok (.aload_n 0, 1) := dk_42 (dk_at dksX3_init_0 12 rfl rfl)
theorem dX3_init_13 : decode cX3_init 13 = .ok (.bipush 24, 2) := dk_16 24 (dk_at dksX3_init_0 13 rfl rfl)
theorem dX3_init_15 : decode cX3_init 15 = .ok (.newarray .int, 2) := dk_188_10 (dk_at dksX3_init_0 15 rfl rfl)
theorem dX3_init_17 : decode cX3_init 17 = .ok (.putfield 15, 3) := dk_181 0 15 (dk_at dksX3_init_0 17 rfl rfl)
theorem dX3_init_20 : decode cX3_init 20 = .ok (.aload_n 0, 1) := dk_42 (dk_at dksX3_init_0 20 rfl rfl)
theorem dX3_init_21 : decode cX3_init 21 = .ok (.sipush 576, 3) := dk_17 2 64 (dk_at dksX3_init_0 21 rfl rfl)
theorem dX3_init_24 : decode cX3_init 24 = .ok (.newarray .long, 2) := dk_188_11 (dk_at dksX3_init_1 0 rfl rfl)
theorem dX3_init_26 : decode cX3_init 26 = .ok (.putfield 18, 3) := dk_181 0 18 (dk_at dksX3_init_1 2 rfl rfl)
theorem dX3_init_29 : decode cX3_init 29 = .ok (.return_, 1) := dk_177 (dk_at dksX3_init_1 5 rfl rfl)
abbrev cX3_add : ByteArray := prog_14_method_2_code
def yX3_add : MethodName := ⟨RX3, "add", "(III)V"⟩
def dkwX3_add_1 : List UInt8 := [180, 0, 18, 16, 24, 27, 104, 21, 4, 96, 20, 0, 22, 80, 132, 4, 1, 167, 255, 232, 177]
abbrev dktX3_add_1 : List UInt8 := dkwX3_add_1 ++ []
def dkwX3_add_0 : List UInt8 := [42, 180, 0, 9, 27, 28, 79, 42, 180, 0, 15, 27, 29, 79, 3, 54, 4, 21, 4, 27, 163, 0, 24, 42]
abbrev dktX3_add_0 : List UInt8 := dkwX3_add_0 ++ dktX3_add_1
theorem dksX3_add_0 : cX3_add.data.toList.drop 0 = dktX3_add_0 := by decide +kernel
theorem dksX3_add_1 : cX3_add.data.toList.drop 24 = dktX3_add_1 := dk_seg dksX3_add_0 24 rfl rfl
theorem dX3_add_0 : decode cX3_add 0 = .ok (.aload_n 0, 1) := dk_42 (dk_at dksX3_add_0 0 rfl rfl)
theorem dX3_add_1 : decode cX3_add 1 = .ok (.getfield 9, 3) := dk_180 0 9 (dk_at dksX3_add_0 1 rfl rfl)
theorem dX3_add_4 : decode cX3_add 4 = .ok (.iload_n 1, 1) := dk_27 (dk_at dksX3_add_0 4 rfl rfl)
theorem dX3_add_5 : decode cX3_add 5 = .ok (.iload_n 2, 1) := dk_28 (dk_at dksX3_add_0 5 rfl rfl)
theorem dX3_add_6 : decode cX3_add 6 = .ok (.iastore, 1) := dk_79 (dk_at dksX3_add_0 6 rfl rfl)
theorem dX3_add_7 : decode cX3_add 7 = .ok (.aload_n 0, 1) := dk_42 (dk_at dksX3_add_0 7 rfl rfl)
theorem dX3_add_8 : decode cX3_add 8 = .ok (.getfield 15, 3) := dk_180 0 15 (dk_at dksX3_add_0 8 rfl rfl)
theorem dX3_add_11 : decode cX3_add 11 = .ok (.iload_n 1, 1) := dk_27 (dk_at dksX3_add_0 11 rfl rfl)
theorem dX3_add_12 : decode cX3_add 12 = .ok (.iload_n 3, 1) := dk_29 (dk_at dksX3_add_0 12 rfl rfl)
theorem dX3_add_13 : decode cX3_add 13 = .ok (.iastore, 1) := dk_79 (dk_at dksX3_add_0 13 rfl rfl)
theorem dX3_add_14 : decode cX3_add 14 = .ok (.iconst 0, 1) := dk_3 (dk_at dksX3_add_0 14 rfl rfl)
theorem dX3_add_15 : decode cX3_add 15 = .ok (.istore 4, 2) := dk_54 4 (dk_at dksX3_add_0 15 rfl rfl)
theorem dX3_add_17 : decode cX3_add 17 = .ok (.iload 4, 2) := dk_21 4 (dk_at dksX3_add_0 17 rfl rfl)
theorem dX3_add_19 : decode cX3_add 19 = .ok (.iload_n 1, 1) := dk_27 (dk_at dksX3_add_0 19 rfl rfl)
theorem dX3_add_20 : decode cX3_add 20 = .ok (.if_icmp .gt 24, 3) := dk_163 0 24 (dk_at dksX3_add_0 20 rfl rfl)
theorem dX3_add_23 : decode cX3_add 23 = .ok (.aload_n 0, 1) := dk_42 (dk_at dksX3_add_0 23 rfl rfl)
theorem dX3_add_24 : decode cX3_add 24 = .ok (.getfield 18, 3) := dk_180 0 18 (dk_at dksX3_add_1 0 rfl rfl)
theorem dX3_add_27 : decode cX3_add 27 = .ok (.bipush 24, 2) := dk_16 24 (dk_at dksX3_add_1 3 rfl rfl)
theorem dX3_add_29 : decode cX3_add 29 = .ok (.iload_n 1, 1) := dk_27 (dk_at dksX3_add_1 5 rfl rfl)
theorem dX3_add_30 : decode cX3_add 30 = .ok (.imul, 1) := dk_104 (dk_at dksX3_add_1 6 rfl rfl)
theorem dX3_add_31 : decode cX3_add 31 = .ok (.iload 4, 2) := dk_21 4 (dk_at dksX3_add_1 7 rfl rfl)
theorem dX3_add_33 : decode cX3_add 33 = .ok (.iadd, 1) := dk_96 (dk_at dksX3_add_1 9 rfl rfl)
theorem dX3_add_34 : decode cX3_add 34 = .ok (.ldc2_w 22, 3) := dk_20 0 22 (dk_at dksX3_add_1 10 rfl rfl)
theorem dX3_add_37 : decode cX3_add 37 = .ok (.lastore, 1) := dk_80 (dk_at dksX3_add_1 13 rfl rfl)
theorem dX3_add_38 : decode cX3_add 38 = .ok (.iinc 4 1, 3) := dk_132 4 1 (dk_at dksX3_add_1 14 rfl rfl)
theorem dX3_add_41 : decode cX3_add 41 = .ok (.goto (-24), 3) := dk_167 255 232 (dk_at dksX3_add_1 17 rfl rfl)
theorem dX3_add_44 : decode cX3_add 44 = .ok (.return_, 1) := dk_177 (dk_at dksX3_add_1 20 rfl rfl)
abbrev cX3_kin : ByteArray := prog_14_method_4_code
def yX3_kin : MethodName := ⟨RX3, "kin", "(II)J"⟩
def dkwX3_kin_2 : List UInt8 := [182, 0, 37, 80, 42, 180, 0, 18, 21, 5, 47, 173]
abbrev dktX3_kin_2 : List UInt8 := dkwX3_kin_2 ++ []
def dkwX3_kin_1 : List UInt8 := [180, 0, 18, 21, 5, 47, 20, 0, 22, 148, 154, 0, 17, 42, 180, 0, 18, 21, 5, 42, 29, 21, 4]
abbrev dktX3_kin_1 : List UInt8 := dkwX3_kin_1 ++ dktX3_kin_2
def dkwX3_kin_0 : List UInt8 := [27, 28, 184, 0, 28, 62, 27, 28, 184, 0, 34, 54, 4, 16, 24, 29, 104, 21, 4, 96, 54, 5, 42]
abbrev dktX3_kin_0 : List UInt8 := dkwX3_kin_0 ++ dktX3_kin_1
theorem dksX3_kin_0 : cX3_kin.data.toList.drop 0 = dktX3_kin_0 := by decide +kernel
theorem dksX3_kin_1 : cX3_kin.data.toList.drop 23 = dktX3_kin_1 := dk_seg dksX3_kin_0 23 rfl rfl
theorem dksX3_kin_2 : cX3_kin.data.toList.drop 46 = dktX3_kin_2 := dk_seg dksX3_kin_1 23 rfl rfl
theorem dX3_kin_0 : decode cX3_kin 0 = .ok (.iload_n 1, 1) := dk_27 (dk_at dksX3_kin_0 0 rfl rfl)
theorem dX3_kin_1 : decode cX3_kin 1 = .ok (.iload_n 2, 1) := dk_28 (dk_at dksX3_kin_0 1 rfl rfl)
theorem dX3_kin_2 : decode cX3_kin 2 = .ok (.invokestatic 28, 3) := dk_184 0 28 (dk_at dksX3_kin_0 2 rfl rfl)
theorem dX3_kin_5 : decode cX3_kin 5 = .ok (.istore_n 3, 1) := dk_62 (dk_at dksX3_kin_0 5 rfl rfl)
theorem dX3_kin_6 : decode cX3_kin 6 = .ok (.iload_n 1, 1) := dk_27 (dk_at dksX3_kin_0 6 rfl rfl)
theorem dX3_kin_7 : decode cX3_kin 7 = .ok (.iload_n 2, 1) := dk_28 (dk_at dksX3_kin_0 7 rfl rfl)
theorem dX3_kin_8 : decode cX3_kin 8 = .ok (.invokestatic 34, 3) := dk_184 0 34 (dk_at dksX3_kin_0 8 rfl rfl)
theorem dX3_kin_11 : decode cX3_kin 11 = .ok (.istore 4, 2) := dk_54 4 (dk_at dksX3_kin_0 11 rfl rfl)
theorem dX3_kin_13 : decode cX3_kin 13 = .ok (.bipush 24, 2) := dk_16 24 (dk_at dksX3_kin_0 13 rfl rfl)
theorem dX3_kin_15 : decode cX3_kin 15 = .ok (.iload_n 3, 1) := dk_29 (dk_at dksX3_kin_0 15 rfl rfl)
theorem dX3_kin_16 : decode cX3_kin 16 = .ok (.imul, 1) := dk_104 (dk_at dksX3_kin_0 16 rfl rfl)
theorem dX3_kin_17 : decode cX3_kin 17 = .ok (.iload 4, 2) := dk_21 4 (dk_at dksX3_kin_0 17 rfl rfl)
theorem dX3_kin_19 : decode cX3_kin 19 = .ok (.iadd, 1) := dk_96 (dk_at dksX3_kin_0 19 rfl rfl)
theorem dX3_kin_20 : decode cX3_kin 20 = .ok (.istore 5, 2) := dk_54 5 (dk_at dksX3_kin_0 20 rfl rfl)
theorem dX3_kin_22 : decode cX3_kin 22 = .ok (.aload_n 0, 1) := dk_42 (dk_at dksX3_kin_0 22 rfl rfl)
theorem dX3_kin_23 : decode cX3_kin 23 = .ok (.getfield 18, 3) := dk_180 0 18 (dk_at dksX3_kin_1 0 rfl rfl)
theorem dX3_kin_26 : decode cX3_kin 26 = .ok (.iload 5, 2) := dk_21 5 (dk_at dksX3_kin_1 3 rfl rfl)
theorem dX3_kin_28 : decode cX3_kin 28 = .ok (.laload, 1) := dk_47 (dk_at dksX3_kin_1 5 rfl rfl)
theorem dX3_kin_29 : decode cX3_kin 29 = .ok (.ldc2_w 22, 3) := dk_20 0 22 (dk_at dksX3_kin_1 6 rfl rfl)
theorem dX3_kin_32 : decode cX3_kin 32 = .ok (.lcmp, 1) := dk_148 (dk_at dksX3_kin_1 9 rfl rfl)
theorem dX3_kin_33 : decode cX3_kin 33 = .ok (.ifCond .ne 17, 3) := dk_154 0 17 (dk_at dksX3_kin_1 10 rfl rfl)
theorem dX3_kin_36 : decode cX3_kin 36 = .ok (.aload_n 0, 1) := dk_42 (dk_at dksX3_kin_1 13 rfl rfl)
theorem dX3_kin_37 : decode cX3_kin 37 = .ok (.getfield 18, 3) := dk_180 0 18 (dk_at dksX3_kin_1 14 rfl rfl)
theorem dX3_kin_40 : decode cX3_kin 40 = .ok (.iload 5, 2) := dk_21 5 (dk_at dksX3_kin_1 17 rfl rfl)
theorem dX3_kin_42 : decode cX3_kin 42 = .ok (.aload_n 0, 1) := dk_42 (dk_at dksX3_kin_1 19 rfl rfl)
theorem dX3_kin_43 : decode cX3_kin 43 = .ok (.iload_n 3, 1) := dk_29 (dk_at dksX3_kin_1 20 rfl rfl)
theorem dX3_kin_44 : decode cX3_kin 44 = .ok (.iload 4, 2) := dk_21 4 (dk_at dksX3_kin_1 21 rfl rfl)
theorem dX3_kin_46 : decode cX3_kin 46 = .ok (.invokevirtual 37, 3) := dk_182 0 37 (dk_at dksX3_kin_2 0 rfl rfl)
theorem dX3_kin_49 : decode cX3_kin 49 = .ok (.lastore, 1) := dk_80 (dk_at dksX3_kin_2 3 rfl rfl)
theorem dX3_kin_50 : decode cX3_kin 50 = .ok (.aload_n 0, 1) := dk_42 (dk_at dksX3_kin_2 4 rfl rfl)
theorem dX3_kin_51 : decode cX3_kin 51 = .ok (.getfield 18, 3) := dk_180 0 18 (dk_at dksX3_kin_2 5 rfl rfl)
theorem dX3_kin_54 : decode cX3_kin 54 = .ok (.iload 5, 2) := dk_21 5 (dk_at dksX3_kin_2 8 rfl rfl)
theorem dX3_kin_56 : decode cX3_kin 56 = .ok (.laload, 1) := dk_47 (dk_at dksX3_kin_2 10 rfl rfl)
theorem dX3_kin_57 : decode cX3_kin 57 = .ok (.lreturn, 1) := dk_173 (dk_at dksX3_kin_2 11 rfl rfl)
abbrev cX3_worked : ByteArray := prog_14_method_5_code
def yX3_worked : MethodName := ⟨RX3, "worked", "(II)J"⟩
def dkwX3_worked_3 : List UInt8 := [182, 0, 43, 20, 0, 45, 109, 42, 28, 42, 180, 0, 15, 27, 46, 182, 0, 43, 20, 0, 45, 109, 97, 173]
abbrev dktX3_worked_3 : List UInt8 := dkwX3_worked_3 ++ []
def dkwX3_worked_2 : List UInt8 := [20, 0, 45, 109, 97, 173, 29, 153, 0, 7, 9, 167, 0, 34, 42, 28, 42, 180, 0, 9, 27, 46]
abbrev dktX3_worked_2 : List UInt8 := dkwX3_worked_2 ++ dktX3_worked_3
def dkwX3_worked_1 : List UInt8 := [29, 153, 0, 7, 9, 167, 0, 23, 42, 42, 180, 0, 9, 27, 46, 42, 180, 0, 15, 27, 46, 182, 0, 43]
abbrev dktX3_worked_1 : List UInt8 := dkwX3_worked_1 ++ dktX3_worked_2
def dkwX3_worked_0 : List UInt8 := [42, 180, 0, 9, 27, 46, 2, 160, 0, 7, 4, 167, 0, 4, 3, 62, 27, 28, 160, 0, 36, 20, 0, 41]
abbrev dktX3_worked_0 : List UInt8 := dkwX3_worked_0 ++ dktX3_worked_1
theorem dksX3_worked_0 : cX3_worked.data.toList.drop 0 = dktX3_worked_0 := by decide +kernel
theorem dksX3_worked_1 : cX3_worked.data.toList.drop 24 = dktX3_worked_1 := dk_seg dksX3_worked_0 24 rfl rfl
theorem dksX3_worked_2 : cX3_worked.data.toList.drop 48 = dktX3_worked_2 := dk_seg dksX3_worked_1 24 rfl rfl
theorem dksX3_worked_3 : cX3_worked.data.toList.drop 70 = dktX3_worked_3 := dk_seg dksX3_worked_2 22 rfl rfl
theorem dX3_worked_0 : decode cX3_worked 0 = .ok (.aload_n 0, 1) := dk_42 (dk_at dksX3_worked_0 0 rfl rfl)
theorem dX3_worked_1 : decode cX3_worked 1 = .ok (.getfield 9, 3) := dk_180 0 9 (dk_at dksX3_worked_0 1 rfl rfl)
theorem dX3_worked_4 : decode cX3_worked 4 = .ok (.iload_n 1, 1) := dk_27 (dk_at dksX3_worked_0 4 rfl rfl)
theorem dX3_worked_5 : decode cX3_worked 5 = .ok (.iaload, 1) := dk_46 (dk_at dksX3_worked_0 5 rfl rfl)
theorem dX3_worked_6 : decode cX3_worked 6 = .ok (.iconst (-1), 1) := dk_2 (dk_at dksX3_worked_0 6 rfl rfl)
theorem dX3_worked_7 : decode cX3_worked 7 = .ok (.if_icmp .ne 7, 3) := dk_160 0 7 (dk_at dksX3_worked_0 7 rfl rfl)
theorem dX3_worked_10 : decode cX3_worked 10 = .ok (.iconst 1, 1) := dk_4 (dk_at dksX3_worked_0 10 rfl rfl)
theorem dX3_worked_11 : decode cX3_worked 11 = .ok (.goto 4, 3) := dk_167 0 4 (dk_at dksX3_worked_0 11 rfl rfl)
theorem dX3_worked_14 : decode cX3_worked 14 = .ok (.iconst 0, 1) := dk_3 (dk_at dksX3_worked_0 14 rfl rfl)
theorem dX3_worked_15 : decode cX3_worked 15 = .ok (.istore_n 3, 1) := dk_62 (dk_at dksX3_worked_0 15 rfl rfl)
theorem dX3_worked_16 : decode cX3_worked 16 = .ok (.iload_n 1, 1) := dk_27 (dk_at dksX3_worked_0 16 rfl rfl)
theorem dX3_worked_17 : decode cX3_worked 17 = .ok (.iload_n 2, 1) := dk_28 (dk_at dksX3_worked_0 17 rfl rfl)
theorem dX3_worked_18 : decode cX3_worked 18 = .ok (.if_icmp .ne 36, 3) := dk_160 0 36 (dk_at dksX3_worked_0 18 rfl rfl)
theorem dX3_worked_21 : decode cX3_worked 21 = .ok (.ldc2_w 41, 3) := dk_20 0 41 (dk_at dksX3_worked_0 21 rfl rfl)
theorem dX3_worked_24 : decode cX3_worked 24 = .ok (.iload_n 3, 1) := dk_29 (dk_at dksX3_worked_1 0 rfl rfl)
theorem dX3_worked_25 : decode cX3_worked 25 = .ok (.ifCond .eq 7, 3) := dk_153 0 7 (dk_at dksX3_worked_1 1 rfl rfl)
theorem dX3_worked_28 : decode cX3_worked 28 = .ok (.lconst 0, 1) := dk_9 (dk_at dksX3_worked_1 4 rfl rfl)
theorem dX3_worked_29 : decode cX3_worked 29 = .ok (.goto 23, 3) := dk_167 0 23 (dk_at dksX3_worked_1 5 rfl rfl)
theorem dX3_worked_32 : decode cX3_worked 32 = .ok (.aload_n 0, 1) := dk_42 (dk_at dksX3_worked_1 8 rfl rfl)
theorem dX3_worked_33 : decode cX3_worked 33 = .ok (.aload_n 0, 1) := dk_42 (dk_at dksX3_worked_1 9 rfl rfl)
theorem dX3_worked_34 : decode cX3_worked 34 = .ok (.getfield 9, 3) := dk_180 0 9 (dk_at dksX3_worked_1 10 rfl rfl)
theorem dX3_worked_37 : decode cX3_worked 37 = .ok (.iload_n 1, 1) := dk_27 (dk_at dksX3_worked_1 13 rfl rfl)
theorem dX3_worked_38 : decode cX3_worked 38 = .ok (.iaload, 1) := dk_46 (dk_at dksX3_worked_1 14 rfl rfl)
theorem dX3_worked_39 : decode cX3_worked 39 = .ok (.aload_n 0, 1) := dk_42 (dk_at dksX3_worked_1 15 rfl rfl)
theorem dX3_worked_40 : decode cX3_worked 40 = .ok (.getfield 15, 3) := dk_180 0 15 (dk_at dksX3_worked_1 16 rfl rfl)
theorem dX3_worked_43 : decode cX3_worked 43 = .ok (.iload_n 1, 1) := dk_27 (dk_at dksX3_worked_1 19 rfl rfl)
theorem dX3_worked_44 : decode cX3_worked 44 = .ok (.iaload, 1) := dk_46 (dk_at dksX3_worked_1 20 rfl rfl)
theorem dX3_worked_45 : decode cX3_worked 45 = .ok (.invokevirtual 43, 3) := dk_182 0 43 (dk_at dksX3_worked_1 21 rfl rfl)
theorem dX3_worked_48 : decode cX3_worked 48 = .ok (.ldc2_w 45, 3) := dk_20 0 45 (dk_at dksX3_worked_2 0 rfl rfl)
theorem dX3_worked_51 : decode cX3_worked 51 = .ok (.ldiv, 1) := dk_109 (dk_at dksX3_worked_2 3 rfl rfl)
theorem dX3_worked_52 : decode cX3_worked 52 = .ok (.ladd, 1) := dk_97 (dk_at dksX3_worked_2 4 rfl rfl)
theorem dX3_worked_53 : decode cX3_worked 53 = .ok (.lreturn, 1) := dk_173 (dk_at dksX3_worked_2 5 rfl rfl)
theorem dX3_worked_54 : decode cX3_worked 54 = .ok (.iload_n 3, 1) := dk_29 (dk_at dksX3_worked_2 6 rfl rfl)
theorem dX3_worked_55 : decode cX3_worked 55 = .ok (.ifCond .eq 7, 3) := dk_153 0 7 (dk_at dksX3_worked_2 7 rfl rfl)
theorem dX3_worked_58 : decode cX3_worked 58 = .ok (.lconst 0, 1) := dk_9 (dk_at dksX3_worked_2 10 rfl rfl)
theorem dX3_worked_59 : decode cX3_worked 59 = .ok (.goto 34, 3) := dk_167 0 34 (dk_at dksX3_worked_2 11 rfl rfl)
theorem dX3_worked_62 : decode cX3_worked 62 = .ok (.aload_n 0, 1) := dk_42 (dk_at dksX3_worked_2 14 rfl rfl)
theorem dX3_worked_63 : decode cX3_worked 63 = .ok (.iload_n 2, 1) := dk_28 (dk_at dksX3_worked_2 15 rfl rfl)
theorem dX3_worked_64 : decode cX3_worked 64 = .ok (.aload_n 0, 1) := dk_42 (dk_at dksX3_worked_2 16 rfl rfl)
theorem dX3_worked_65 : decode cX3_worked 65 = .ok (.getfield 9, 3) := dk_180 0 9 (dk_at dksX3_worked_2 17 rfl rfl)
theorem dX3_worked_68 : decode cX3_worked 68 = .ok (.iload_n 1, 1) := dk_27 (dk_at dksX3_worked_2 20 rfl rfl)
theorem dX3_worked_69 : decode cX3_worked 69 = .ok (.iaload, 1) := dk_46 (dk_at dksX3_worked_2 21 rfl rfl)
theorem dX3_worked_70 : decode cX3_worked 70 = .ok (.invokevirtual 43, 3) := dk_182 0 43 (dk_at dksX3_worked_3 0 rfl rfl)
theorem dX3_worked_73 : decode cX3_worked 73 = .ok (.ldc2_w 45, 3) := dk_20 0 45 (dk_at dksX3_worked_3 3 rfl rfl)
theorem dX3_worked_76 : decode cX3_worked 76 = .ok (.ldiv, 1) := dk_109 (dk_at dksX3_worked_3 6 rfl rfl)
theorem dX3_worked_77 : decode cX3_worked 77 = .ok (.aload_n 0, 1) := dk_42 (dk_at dksX3_worked_3 7 rfl rfl)
theorem dX3_worked_78 : decode cX3_worked 78 = .ok (.iload_n 2, 1) := dk_28 (dk_at dksX3_worked_3 8 rfl rfl)
theorem dX3_worked_79 : decode cX3_worked 79 = .ok (.aload_n 0, 1) := dk_42 (dk_at dksX3_worked_3 9 rfl rfl)
theorem dX3_worked_80 : decode cX3_worked 80 = .ok (.getfield 15, 3) := dk_180 0 15 (dk_at dksX3_worked_3 10 rfl rfl)
theorem dX3_worked_83 : decode cX3_worked 83 = .ok (.iload_n 1, 1) := dk_27 (dk_at dksX3_worked_3 13 rfl rfl)
theorem dX3_worked_84 : decode cX3_worked 84 = .ok (.iaload, 1) := dk_46 (dk_at dksX3_worked_3 14 rfl rfl)
theorem dX3_worked_85 : decode cX3_worked 85 = .ok (.invokevirtual 43, 3) := dk_182 0 43 (dk_at dksX3_worked_3 15 rfl rfl)
theorem dX3_worked_88 : decode cX3_worked 88 = .ok (.ldc2_w 45, 3) := dk_20 0 45 (dk_at dksX3_worked_3 18 rfl rfl)
theorem dX3_worked_91 : decode cX3_worked 91 = .ok (.ldiv, 1) := dk_109 (dk_at dksX3_worked_3 21 rfl rfl)
theorem dX3_worked_92 : decode cX3_worked 92 = .ok (.ladd, 1) := dk_97 (dk_at dksX3_worked_3 22 rfl rfl)
theorem dX3_worked_93 : decode cX3_worked 93 = .ok (.lreturn, 1) := dk_173 (dk_at dksX3_worked_3 23 rfl rfl)
abbrev cX3_young : ByteArray := prog_14_method_6_code
def yX3_young : MethodName := ⟨RX3, "young", "(III)J"⟩
def dkwX3_young_0 : List UInt8 := [42, 27, 28, 182, 0, 43, 20, 0, 45, 109, 42, 27, 29, 182, 0, 43, 20, 0, 45, 109, 97, 173]
abbrev dktX3_young_0 : List UInt8 := dkwX3_young_0 ++ []
theorem dksX3_young_0 : cX3_young.data.toList.drop 0 = dktX3_young_0 := by decide +kernel
theorem dX3_young_0 : decode cX3_young 0 = .ok (.aload_n 0, 1) := dk_42 (dk_at dksX3_young_0 0 rfl rfl)
theorem dX3_young_1 : decode cX3_young 1 = .ok (.iload_n 1, 1) := dk_27 (dk_at dksX3_young_0 1 rfl rfl)
theorem dX3_young_2 : decode cX3_young 2 = .ok (.iload_n 2, 1) := dk_28 (dk_at dksX3_young_0 2 rfl rfl)
theorem dX3_young_3 : decode cX3_young 3 = .ok (.invokevirtual 43, 3) := dk_182 0 43 (dk_at dksX3_young_0 3 rfl rfl)
theorem dX3_young_6 : decode cX3_young 6 = .ok (.ldc2_w 45, 3) := dk_20 0 45 (dk_at dksX3_young_0 6 rfl rfl)
theorem dX3_young_9 : decode cX3_young 9 = .ok (.ldiv, 1) := dk_109 (dk_at dksX3_young_0 9 rfl rfl)
theorem dX3_young_10 : decode cX3_young 10 = .ok (.aload_n 0, 1) := dk_42 (dk_at dksX3_young_0 10 rfl rfl)
theorem dX3_young_11 : decode cX3_young 11 = .ok (.iload_n 1, 1) := dk_27 (dk_at dksX3_young_0 11 rfl rfl)
theorem dX3_young_12 : decode cX3_young 12 = .ok (.iload_n 3, 1) := dk_29 (dk_at dksX3_young_0 12 rfl rfl)
theorem dX3_young_13 : decode cX3_young 13 = .ok (.invokevirtual 43, 3) := dk_182 0 43 (dk_at dksX3_young_0 13 rfl rfl)
theorem dX3_young_16 : decode cX3_young 16 = .ok (.ldc2_w 45, 3) := dk_20 0 45 (dk_at dksX3_young_0 16 rfl rfl)
theorem dX3_young_19 : decode cX3_young 19 = .ok (.ldiv, 1) := dk_109 (dk_at dksX3_young_0 19 rfl rfl)
theorem dX3_young_20 : decode cX3_young 20 = .ok (.ladd, 1) := dk_97 (dk_at dksX3_young_0 20 rfl rfl)
theorem dX3_young_21 : decode cX3_young 21 = .ok (.lreturn, 1) := dk_173 (dk_at dksX3_young_0 21 rfl rfl)
abbrev cX3_become : ByteArray := prog_14_method_3_code
def yX3_become : MethodName := ⟨RX3, "become", "(LOneBears$Tree;I)V"⟩
def dkwX3_become_1 : List UInt8 := [132, 3, 1, 167, 255, 231, 177]
abbrev dktX3_become_1 : List UInt8 := dkwX3_become_1 ++ []
def dkwX3_become_0 : List UInt8 := [3, 62, 29, 28, 162, 0, 26, 42, 29, 43, 180, 0, 9, 29, 46, 43, 180, 0, 15, 29, 46, 182, 0, 24]
abbrev dktX3_become_0 : List UInt8 := dkwX3_become_0 ++ dktX3_become_1
theorem dksX3_become_0 : cX3_become.data.toList.drop 0 = dktX3_become_0 := by decide +kernel
theorem dksX3_become_1 : cX3_become.data.toList.drop 24 = dktX3_become_1 := dk_seg dksX3_become_0 24 rfl rfl
theorem dX3_become_0 : decode cX3_become 0 = .ok (.iconst 0, 1) := dk_3 (dk_at dksX3_become_0 0 rfl rfl)
theorem dX3_become_1 : decode cX3_become 1 = .ok (.istore_n 3, 1) := dk_62 (dk_at dksX3_become_0 1 rfl rfl)
theorem dX3_become_2 : decode cX3_become 2 = .ok (.iload_n 3, 1) := dk_29 (dk_at dksX3_become_0 2 rfl rfl)
theorem dX3_become_3 : decode cX3_become 3 = .ok (.iload_n 2, 1) := dk_28 (dk_at dksX3_become_0 3 rfl rfl)
theorem dX3_become_4 : decode cX3_become 4 = .ok (.if_icmp .ge 26, 3) := dk_162 0 26 (dk_at dksX3_become_0 4 rfl rfl)
theorem dX3_become_7 : decode cX3_become 7 = .ok (.aload_n 0, 1) := dk_42 (dk_at dksX3_become_0 7 rfl rfl)
theorem dX3_become_8 : decode cX3_become 8 = .ok (.iload_n 3, 1) := dk_29 (dk_at dksX3_become_0 8 rfl rfl)
theorem dX3_become_9 : decode cX3_become 9 = .ok (.aload_n 1, 1) := dk_43 (dk_at dksX3_become_0 9 rfl rfl)
theorem dX3_become_10 : decode cX3_become 10 = .ok (.getfield 9, 3) := dk_180 0 9 (dk_at dksX3_become_0 10 rfl rfl)
theorem dX3_become_13 : decode cX3_become 13 = .ok (.iload_n 3, 1) := dk_29 (dk_at dksX3_become_0 13 rfl rfl)
theorem dX3_become_14 : decode cX3_become 14 = .ok (.iaload, 1) := dk_46 (dk_at dksX3_become_0 14 rfl rfl)
theorem dX3_become_15 : decode cX3_become 15 = .ok (.aload_n 1, 1) := dk_43 (dk_at dksX3_become_0 15 rfl rfl)
theorem dX3_become_16 : decode cX3_become 16 = .ok (.getfield 15, 3) := dk_180 0 15 (dk_at dksX3_become_0 16 rfl rfl)
theorem dX3_become_19 : decode cX3_become 19 = .ok (.iload_n 3, 1) := dk_29 (dk_at dksX3_become_0 19 rfl rfl)
theorem dX3_become_20 : decode cX3_become 20 = .ok (.iaload, 1) := dk_46 (dk_at dksX3_become_0 20 rfl rfl)
theorem dX3_become_21 : decode cX3_become 21 = .ok (.invokevirtual 24, 3) := dk_182 0 24 (dk_at dksX3_become_0 21 rfl rfl)
theorem dX3_become_24 : decode cX3_become 24 = .ok (.iinc 3 1, 3) := dk_132 3 1 (dk_at dksX3_become_1 0 rfl rfl)
theorem dX3_become_27 : decode cX3_become 27 = .ok (.goto (-25), 3) := dk_167 255 231 (dk_at dksX3_become_1 3 rfl rfl)
theorem dX3_become_30 : decode cX3_become 30 = .ok (.return_, 1) := dk_177 (dk_at dksX3_become_1 6 rfl rfl)
theorem q82 : (Jvm.Cond.initialized "OneBears$Tree") ∈ lw_all := lw_g (lw_at lw_m1 5 rfl) rfl
theorem q171 : (Jvm.Cond.instantiable "OneBears$Tree" (3 : Nat)) ∈ lw_all := lw_g (lw_at lw_m1 94 rfl) rfl
theorem q173 : (Jvm.Cond.instanceMethod ({ cls := "OneBears$Tree", name := "<init>", desc := "()V" } : Jvm.MethodName)) ∈ lw_all := lw_g (lw_at lw_m1 96 rfl) rfl
theorem q174 : (Jvm.Cond.code ({ cls := "OneBears$Tree", name := "<init>", desc := "()V" } : Jvm.MethodName) prog_14_method_1_code (1 : Nat) (Option.none : Option Jvm.ClassFile.FieldType)) ∈ lw_all := lw_g (lw_at lw_m1 97 rfl) rfl
theorem q175 : (Jvm.Cond.methodLink "OneBears$Tree" (3 : Nat) ({ cls := "java/lang/Object", name := "<init>", desc := "()V" } : Jvm.MethodName)) ∈ lw_all := lw_g (lw_at lw_m1 98 rfl) rfl
theorem q176 : (Jvm.Cond.fieldLink "OneBears$Tree" (9 : Nat) "OneBears$Tree" "mother" "[I") ∈ lw_all := lw_g (lw_at lw_m1 99 rfl) rfl
theorem q177 : (Jvm.Cond.fieldLink "OneBears$Tree" (15 : Nat) "OneBears$Tree" "father" "[I") ∈ lw_all := lw_g (lw_at lw_m1 100 rfl) rfl
theorem q178 : (Jvm.Cond.fieldLink "OneBears$Tree" (18 : Nat) "OneBears$Tree" "kin" "[J") ∈ lw_all := lw_g (lw_at lw_m1 101 rfl) rfl
theorem q179 : (Jvm.Cond.laysFinal "OneBears$Tree" "OneBears$Tree" "mother" "[I") ∈ lw_all := lw_g (lw_at lw_m1 102 rfl) rfl
theorem q180 : (Jvm.Cond.soleField "OneBears$Tree" "mother") ∈ lw_all := lw_g (lw_at lw_m1 103 rfl) rfl
theorem q181 : (Jvm.Cond.laysFinal "OneBears$Tree" "OneBears$Tree" "father" "[I") ∈ lw_all := lw_g (lw_at lw_m1 104 rfl) rfl
theorem q182 : (Jvm.Cond.soleField "OneBears$Tree" "father") ∈ lw_all := lw_g (lw_at lw_m1 105 rfl) rfl
theorem q183 : (Jvm.Cond.laysFinal "OneBears$Tree" "OneBears$Tree" "kin" "[J") ∈ lw_all := lw_g (lw_at lw_m1 106 rfl) rfl
theorem q184 : (Jvm.Cond.soleField "OneBears$Tree" "kin") ∈ lw_all := lw_g (lw_at lw_m1 107 rfl) rfl
theorem q185 : (Jvm.Cond.superclass "OneBears$Tree" "java/lang/Object") ∈ lw_all := lw_g (lw_at lw_m1 108 rfl) rfl
theorem q661 : (Jvm.Cond.instanceMethod ({ cls := "OneBears$Tree", name := "add", desc := "(III)V" } : Jvm.MethodName)) ∈ lw_all := lw_g (lw_at lw_m3 104 rfl) rfl
theorem q662 : (Jvm.Cond.selects "OneBears$Tree" ({ cls := "OneBears$Tree", name := "add", desc := "(III)V" } : Jvm.MethodName) ({ cls := "OneBears$Tree", name := "add", desc := "(III)V" } : Jvm.MethodName)) ∈ lw_all := lw_g (lw_at lw_m3 105 rfl) rfl
theorem q663 : (Jvm.Cond.code ({ cls := "OneBears$Tree", name := "add", desc := "(III)V" } : Jvm.MethodName) prog_14_method_2_code (5 : Nat) (Option.none : Option Jvm.ClassFile.FieldType)) ∈ lw_all := lw_g (lw_at lw_m3 106 rfl) rfl
theorem q664 : (Jvm.Cond.constantLong "OneBears$Tree" (22 : Nat) (-1 : Int64)) ∈ lw_all := lw_g (lw_at lw_m3 107 rfl) rfl
theorem q670 : (Jvm.Cond.instanceMethod ({ cls := "OneBears$Tree", name := "kin", desc := "(II)J" } : Jvm.MethodName)) ∈ lw_all := lw_g (lw_at lw_m3 113 rfl) rfl
theorem q671 : (Jvm.Cond.selects "OneBears$Tree" ({ cls := "OneBears$Tree", name := "kin", desc := "(II)J" } : Jvm.MethodName) ({ cls := "OneBears$Tree", name := "kin", desc := "(II)J" } : Jvm.MethodName)) ∈ lw_all := lw_g (lw_at lw_m3 114 rfl) rfl
theorem q672 : (Jvm.Cond.code ({ cls := "OneBears$Tree", name := "kin", desc := "(II)J" } : Jvm.MethodName) prog_14_method_4_code (6 : Nat) (Option.some Jvm.ClassFile.FieldType.long)) ∈ lw_all := lw_g (lw_at lw_m3 115 rfl) rfl
theorem q673 : (Jvm.Cond.methodLink "OneBears$Tree" (28 : Nat) ({ cls := "java/lang/Math", name := "max", desc := "(II)I" } : Jvm.MethodName)) ∈ lw_all := lw_g (lw_at lw_m3 116 rfl) rfl
theorem q674 : (Jvm.Cond.methodLink "OneBears$Tree" (34 : Nat) ({ cls := "java/lang/Math", name := "min", desc := "(II)I" } : Jvm.MethodName)) ∈ lw_all := lw_g (lw_at lw_m3 117 rfl) rfl
theorem q675 : (Jvm.Cond.methodLink "OneBears$Tree" (37 : Nat) ({ cls := "OneBears$Tree", name := "worked", desc := "(II)J" } : Jvm.MethodName)) ∈ lw_all := lw_g (lw_at lw_m3 118 rfl) rfl
theorem q676 : (Jvm.Cond.privateMethod ({ cls := "OneBears$Tree", name := "worked", desc := "(II)J" } : Jvm.MethodName)) ∈ lw_tbl := lw_at lw_m3 119 rfl
theorem q677 : (Jvm.Cond.instanceMethod ({ cls := "OneBears$Tree", name := "worked", desc := "(II)J" } : Jvm.MethodName)) ∈ lw_all := lw_g (lw_at lw_m3 120 rfl) rfl
theorem q678 : (Jvm.Cond.code ({ cls := "OneBears$Tree", name := "worked", desc := "(II)J" } : Jvm.MethodName) prog_14_method_5_code (4 : Nat) (Option.some Jvm.ClassFile.FieldType.long)) ∈ lw_all := lw_g (lw_at lw_m3 121 rfl) rfl
theorem q679 : (Jvm.Cond.constantLong "OneBears$Tree" (41 : Nat) (562949953421312 : Int64)) ∈ lw_all := lw_g (lw_at lw_m3 122 rfl) rfl
theorem q680 : (Jvm.Cond.methodLink "OneBears$Tree" (43 : Nat) ({ cls := "OneBears$Tree", name := "kin", desc := "(II)J" } : Jvm.MethodName)) ∈ lw_all := lw_g (lw_at lw_m3 123 rfl) rfl
theorem q681 : (Jvm.Cond.constantLong "OneBears$Tree" (45 : Nat) (2 : Int64)) ∈ lw_all := lw_g (lw_at lw_m3 124 rfl) rfl
theorem q688 : (Jvm.Cond.instanceMethod ({ cls := "OneBears$Tree", name := "young", desc := "(III)J" } : Jvm.MethodName)) ∈ lw_all := lw_g (lw_at lw_m3 131 rfl) rfl
theorem q689 : (Jvm.Cond.selects "OneBears$Tree" ({ cls := "OneBears$Tree", name := "young", desc := "(III)J" } : Jvm.MethodName) ({ cls := "OneBears$Tree", name := "young", desc := "(III)J" } : Jvm.MethodName)) ∈ lw_all := lw_g (lw_at lw_m3 132 rfl) rfl
theorem q690 : (Jvm.Cond.code ({ cls := "OneBears$Tree", name := "young", desc := "(III)J" } : Jvm.MethodName) prog_14_method_6_code (4 : Nat) (Option.some Jvm.ClassFile.FieldType.long)) ∈ lw_all := lw_g (lw_at lw_m3 133 rfl) rfl
theorem q734 : (Jvm.Cond.instanceMethod ({ cls := "OneBears$Tree", name := "become", desc := "(LOneBears$Tree;I)V" } : Jvm.MethodName)) ∈ lw_all := lw_g (lw_at lw_m3 177 rfl) rfl
theorem q735 : (Jvm.Cond.selects "OneBears$Tree" ({ cls := "OneBears$Tree", name := "become", desc := "(LOneBears$Tree;I)V" } : Jvm.MethodName) ({ cls := "OneBears$Tree", name := "become", desc := "(LOneBears$Tree;I)V" } : Jvm.MethodName)) ∈ lw_all := lw_g (lw_at lw_m3 178 rfl) rfl
theorem q736 : (Jvm.Cond.code ({ cls := "OneBears$Tree", name := "become", desc := "(LOneBears$Tree;I)V" } : Jvm.MethodName) prog_14_method_3_code (4 : Nat) (Option.none : Option Jvm.ClassFile.FieldType)) ∈ lw_all := lw_g (lw_at lw_m3 179 rfl) rfl
theorem q737 : (Jvm.Cond.methodLink "OneBears$Tree" (24 : Nat) ({ cls := "OneBears$Tree", name := "add", desc := "(III)V" } : Jvm.MethodName)) ∈ lw_all := lw_g (lw_at lw_m3 180 rfl) rfl
theorem q1489 : (Jvm.Cond.castable "OneBears$Tree" "java/lang/Object") ∈ lw_tbl := lw_at lw_m6 212 rfl
theorem in_X3 : ∀ w ∈ wsX30, w ∈ lw_all := lw_in wsX30 [179, 181, 183] (by decide +kernel) (by decide +kernel)

/-! OneBears$Sum -/
set_option maxRecDepth 100000
def RX6 : String := "OneBears$Sum"
abbrev cX6_init : ByteArray := prog_12_method_1_code
def yX6_init : MethodName := ⟨RX6, "<init>", "()V"⟩
theorem dX6_init_0 : decode cX6_init 0 = .ok (.aload_n 0, 1) := by decide +kernel
theorem dX6_init_1 : decode cX6_init 1 = .ok (.invokespecial 1, 3) := by decide +kernel
theorem dX6_init_4 : decode cX6_init 4 = .ok (.return_, 1) := by decide +kernel
theorem q91 : (Jvm.Cond.initialized "OneBears$Sum") ∈ lw_all := lw_g (lw_at lw_m1 14 rfl) rfl
theorem q495 : (Jvm.Cond.instanceMethod ({ cls := "OneBears$Sum", name := "<init>", desc := "()V" } : Jvm.MethodName)) ∈ lw_all := lw_g (lw_at lw_m2 178 rfl) rfl
theorem q496 : (Jvm.Cond.code ({ cls := "OneBears$Sum", name := "<init>", desc := "()V" } : Jvm.MethodName) prog_12_method_1_code (1 : Nat) (Option.none : Option Jvm.ClassFile.FieldType)) ∈ lw_all := lw_g (lw_at lw_m2 179 rfl) rfl
theorem q497 : (Jvm.Cond.methodLink "OneBears$Sum" (1 : Nat) ({ cls := "java/lang/Object", name := "<init>", desc := "()V" } : Jvm.MethodName)) ∈ lw_all := lw_g (lw_at lw_m2 180 rfl) rfl
theorem q818 : (Jvm.Cond.declares ({ cls := "OneBears$Sum", name := "value", desc := "([I)I" } : Jvm.MethodName)) ∈ lw_tbl := lw_at lw_m4 21 rfl
theorem q819 : (Jvm.Cond.sameMethod "OneBears$Sum" "OneBears$Sum" "value" "([I)I") ∈ lw_all := lw_g (lw_at lw_m4 22 rfl) rfl

/-! OneBears$Letter -/
set_option maxRecDepth 100000
def RX7 : String := "OneBears$Letter"
def TX7 : u_T := fun k => match k with
  | _ => ("OneBears$Letter", "c", "I", true)
def tyX7 : Nat → FieldType := fun k => match k with
  | _ => .int
abbrev wsX70 : List Cond := u_ws RX7 TX7 1
theorem nmX7 : ∀ a, a < 1 → ∀ b, b < 1 → a ≠ b → (TX7 a).2.1 ≠ (TX7 b).2.1 := by decide +kernel
theorem tyX7_ok : ∀ k, k < 1 → parseFieldDescriptor (TX7 k).2.2.1 = some (tyX7 k) := by decide +kernel
abbrev cX7_init : ByteArray := prog_8_method_1_code
def yX7_init : MethodName := ⟨RX7, "<init>", "(I)V"⟩
def dkwX7_init_0 : List UInt8 := [42, 183, 0, 1, 42, 27, 181, 0, 7, 177]
abbrev dktX7_init_0 : List UInt8 := dkwX7_init_0 ++ []
theorem dksX7_init_0 : cX7_init.data.toList.drop 0 = dktX7_init_0 := by decide +kernel
theorem dX7_init_0 : decode cX7_init 0 = .ok (.aload_n 0, 1) := dk_42 (dk_at dksX7_init_0 0 rfl rfl)
theorem dX7_init_1 : decode cX7_init 1 = .ok (.invokespecial 1, 3) := dk_183 0 1 (dk_at dksX7_init_0 1 rfl rfl)
theorem dX7_init_4 : decode cX7_init 4 = .ok (.aload_n 0, 1) := dk_42 (dk_at dksX7_init_0 4 rfl rfl)
theorem dX7_init_5 : decode cX7_init 5 = .ok (.iload_n 1, 1) := dk_27 (dk_at dksX7_init_0 5 rfl rfl)
theorem dX7_init_6 : decode cX7_init 6 = .ok (.putfield 7, 3) := dk_181 0 7 (dk_at dksX7_init_0 6 rfl rfl)
theorem dX7_init_9 : decode cX7_init 9 = .ok (.return_, 1) := dk_177 (dk_at dksX7_init_0 9 rfl rfl)
abbrev cX7_value : ByteArray := prog_8_method_2_code
def yX7_value : MethodName := ⟨RX7, "value", "([I)I"⟩
def dkwX7_value_0 : List UInt8 := [43, 42, 180, 0, 7, 46, 172]
abbrev dktX7_value_0 : List UInt8 := dkwX7_value_0 ++ []
theorem dksX7_value_0 : cX7_value.data.toList.drop 0 = dktX7_value_0 := by decide +kernel
theorem dX7_value_0 : decode cX7_value 0 = .ok (.aload_n 1, 1) := dk_43 (dk_at dksX7_value_0 0 rfl rfl)
theorem dX7_value_1 : decode cX7_value 1 = .ok (.aload_n 0, 1) := dk_42 (dk_at dksX7_value_0 1 rfl rfl)
theorem dX7_value_2 : decode cX7_value 2 = .ok (.getfield 7, 3) := dk_180 0 7 (dk_at dksX7_value_0 2 rfl rfl)
theorem dX7_value_5 : decode cX7_value 5 = .ok (.iaload, 1) := dk_46 (dk_at dksX7_value_0 5 rfl rfl)
theorem dX7_value_6 : decode cX7_value 6 = .ok (.ireturn, 1) := dk_172 (dk_at dksX7_value_0 6 rfl rfl)
theorem q92 : (Jvm.Cond.initialized "OneBears$Letter") ∈ lw_all := lw_g (lw_at lw_m1 15 rfl) rfl
theorem q490 : (Jvm.Cond.instantiable "OneBears$Letter" (1 : Nat)) ∈ lw_all := lw_g (lw_at lw_m2 173 rfl) rfl
theorem q492 : (Jvm.Cond.instanceMethod ({ cls := "OneBears$Letter", name := "<init>", desc := "(I)V" } : Jvm.MethodName)) ∈ lw_all := lw_g (lw_at lw_m2 175 rfl) rfl
theorem q493 : (Jvm.Cond.code ({ cls := "OneBears$Letter", name := "<init>", desc := "(I)V" } : Jvm.MethodName) prog_8_method_1_code (2 : Nat) (Option.none : Option Jvm.ClassFile.FieldType)) ∈ lw_all := lw_g (lw_at lw_m2 176 rfl) rfl
theorem q494 : (Jvm.Cond.methodLinkNest "OneBears$Letter" (1 : Nat) ({ cls := "OneBears$Sum", name := "<init>", desc := "()V" } : Jvm.MethodName) "OneBears") ∈ lw_tbl := lw_at lw_m2 177 rfl
theorem q498 : (Jvm.Cond.fieldLink "OneBears$Letter" (7 : Nat) "OneBears$Letter" "c" "I") ∈ lw_all := lw_g (lw_at lw_m2 181 rfl) rfl
theorem q499 : (Jvm.Cond.laysFinal "OneBears$Letter" "OneBears$Letter" "c" "I") ∈ lw_all := lw_g (lw_at lw_m2 182 rfl) rfl
theorem q500 : (Jvm.Cond.soleField "OneBears$Letter" "c") ∈ lw_all := lw_g (lw_at lw_m2 183 rfl) rfl
theorem q501 : (Jvm.Cond.superclass "OneBears$Letter" "OneBears$Sum") ∈ lw_all := lw_g (lw_at lw_m2 184 rfl) rfl
theorem q826 : (Jvm.Cond.instanceMethod ({ cls := "OneBears$Letter", name := "value", desc := "([I)I" } : Jvm.MethodName)) ∈ lw_all := lw_g (lw_at lw_m4 29 rfl) rfl
theorem q827 : (Jvm.Cond.code ({ cls := "OneBears$Letter", name := "value", desc := "([I)I" } : Jvm.MethodName) prog_8_method_2_code (2 : Nat) (Option.some Jvm.ClassFile.FieldType.int)) ∈ lw_all := lw_g (lw_at lw_m4 30 rfl) rfl
theorem q842 : (Jvm.Cond.selects "OneBears$Letter" ({ cls := "OneBears$Sum", name := "value", desc := "([I)I" } : Jvm.MethodName) ({ cls := "OneBears$Letter", name := "value", desc := "([I)I" } : Jvm.MethodName)) ∈ lw_all := lw_g (lw_at lw_m4 45 rfl) rfl
theorem q1492 : (Jvm.Cond.castable "OneBears$Letter" "java/lang/Object") ∈ lw_tbl := lw_at lw_m6 215 rfl
theorem in_X7 : ∀ w ∈ wsX70, w ∈ lw_all := lw_in wsX70 [499] (by decide +kernel) (by decide +kernel)

/-! OneBears$Constant -/
set_option maxRecDepth 100000
def RX8 : String := "OneBears$Constant"
def TX8 : u_T := fun k => match k with
  | _ => ("OneBears$Constant", "v", "I", true)
def tyX8 : Nat → FieldType := fun k => match k with
  | _ => .int
abbrev wsX80 : List Cond := u_ws RX8 TX8 1
theorem nmX8 : ∀ a, a < 1 → ∀ b, b < 1 → a ≠ b → (TX8 a).2.1 ≠ (TX8 b).2.1 := by decide +kernel
theorem tyX8_ok : ∀ k, k < 1 → parseFieldDescriptor (TX8 k).2.2.1 = some (tyX8 k) := by decide +kernel
abbrev cX8_init : ByteArray := prog_6_method_1_code
def yX8_init : MethodName := ⟨RX8, "<init>", "(I)V"⟩
def dkwX8_init_0 : List UInt8 := [42, 183, 0, 1, 42, 27, 181, 0, 7, 177]
abbrev dktX8_init_0 : List UInt8 := dkwX8_init_0 ++ []
theorem dksX8_init_0 : cX8_init.data.toList.drop 0 = dktX8_init_0 := by decide +kernel
theorem dX8_init_0 : decode cX8_init 0 = .ok (.aload_n 0, 1) := dk_42 (dk_at dksX8_init_0 0 rfl rfl)
theorem dX8_init_1 : decode cX8_init 1 = .ok (.invokespecial 1, 3) := dk_183 0 1 (dk_at dksX8_init_0 1 rfl rfl)
theorem dX8_init_4 : decode cX8_init 4 = .ok (.aload_n 0, 1) := dk_42 (dk_at dksX8_init_0 4 rfl rfl)
theorem dX8_init_5 : decode cX8_init 5 = .ok (.iload_n 1, 1) := dk_27 (dk_at dksX8_init_0 5 rfl rfl)
theorem dX8_init_6 : decode cX8_init 6 = .ok (.putfield 7, 3) := dk_181 0 7 (dk_at dksX8_init_0 6 rfl rfl)
theorem dX8_init_9 : decode cX8_init 9 = .ok (.return_, 1) := dk_177 (dk_at dksX8_init_0 9 rfl rfl)
abbrev cX8_value : ByteArray := prog_6_method_2_code
def yX8_value : MethodName := ⟨RX8, "value", "([I)I"⟩
theorem dX8_value_0 : decode cX8_value 0 = .ok (.aload_n 0, 1) := by decide +kernel
theorem dX8_value_1 : decode cX8_value 1 = .ok (.getfield 7, 3) := by decide +kernel
theorem dX8_value_4 : decode cX8_value 4 = .ok (.ireturn, 1) := by decide +kernel
theorem q93 : (Jvm.Cond.initialized "OneBears$Constant") ∈ lw_all := lw_g (lw_at lw_m1 16 rfl) rfl
theorem q506 : (Jvm.Cond.instantiable "OneBears$Constant" (1 : Nat)) ∈ lw_all := lw_g (lw_at lw_m2 189 rfl) rfl
theorem q508 : (Jvm.Cond.instanceMethod ({ cls := "OneBears$Constant", name := "<init>", desc := "(I)V" } : Jvm.MethodName)) ∈ lw_all := lw_g (lw_at lw_m2 191 rfl) rfl
theorem q509 : (Jvm.Cond.code ({ cls := "OneBears$Constant", name := "<init>", desc := "(I)V" } : Jvm.MethodName) prog_6_method_1_code (2 : Nat) (Option.none : Option Jvm.ClassFile.FieldType)) ∈ lw_all := lw_g (lw_at lw_m2 192 rfl) rfl
theorem q510 : (Jvm.Cond.methodLinkNest "OneBears$Constant" (1 : Nat) ({ cls := "OneBears$Sum", name := "<init>", desc := "()V" } : Jvm.MethodName) "OneBears") ∈ lw_tbl := lw_at lw_m2 193 rfl
theorem q511 : (Jvm.Cond.fieldLink "OneBears$Constant" (7 : Nat) "OneBears$Constant" "v" "I") ∈ lw_all := lw_g (lw_at lw_m2 194 rfl) rfl
theorem q512 : (Jvm.Cond.laysFinal "OneBears$Constant" "OneBears$Constant" "v" "I") ∈ lw_all := lw_g (lw_at lw_m2 195 rfl) rfl
theorem q513 : (Jvm.Cond.soleField "OneBears$Constant" "v") ∈ lw_all := lw_g (lw_at lw_m2 196 rfl) rfl
theorem q514 : (Jvm.Cond.superclass "OneBears$Constant" "OneBears$Sum") ∈ lw_all := lw_g (lw_at lw_m2 197 rfl) rfl
theorem q824 : (Jvm.Cond.instanceMethod ({ cls := "OneBears$Constant", name := "value", desc := "([I)I" } : Jvm.MethodName)) ∈ lw_all := lw_g (lw_at lw_m4 27 rfl) rfl
theorem q825 : (Jvm.Cond.code ({ cls := "OneBears$Constant", name := "value", desc := "([I)I" } : Jvm.MethodName) prog_6_method_2_code (2 : Nat) (Option.some Jvm.ClassFile.FieldType.int)) ∈ lw_all := lw_g (lw_at lw_m4 28 rfl) rfl
theorem q841 : (Jvm.Cond.selects "OneBears$Constant" ({ cls := "OneBears$Sum", name := "value", desc := "([I)I" } : Jvm.MethodName) ({ cls := "OneBears$Constant", name := "value", desc := "([I)I" } : Jvm.MethodName)) ∈ lw_all := lw_g (lw_at lw_m4 44 rfl) rfl
theorem q1493 : (Jvm.Cond.castable "OneBears$Constant" "java/lang/Object") ∈ lw_tbl := lw_at lw_m6 216 rfl
theorem in_X8 : ∀ w ∈ wsX80, w ∈ lw_all := lw_in wsX80 [512] (by decide +kernel) (by decide +kernel)

/-! OneBears$Chain -/
set_option maxRecDepth 100000
def RX9 : String := "OneBears$Chain"
def TX9 : u_T := fun k => match k with
  | 0 => ("OneBears$Chain", "first", "LOneBears$Sum;", true)
  | 1 => ("OneBears$Chain", "links", "LOneBears$Link;", false)
  | _ => ("OneBears$Chain", "last", "LOneBears$Link;", false)
def tyX9 : Nat → FieldType := fun k => match k with
  | 0 => .object "OneBears$Sum"
  | 1 => .object "OneBears$Link"
  | _ => .object "OneBears$Link"
abbrev wsX90 : List Cond := u_ws RX9 TX9 3
theorem nmX9 : ∀ a, a < 3 → ∀ b, b < 3 → a ≠ b → (TX9 a).2.1 ≠ (TX9 b).2.1 := by decide +kernel
theorem tyX9_ok : ∀ k, k < 3 → parseFieldDescriptor (TX9 k).2.2.1 = some (tyX9 k) := by decide +kernel
abbrev cX9_init : ByteArray := prog_2_method_1_code
def yX9_init : MethodName := ⟨RX9, "<init>", "(LOneBears$Sum;)V"⟩
def dkwX9_init_0 : List UInt8 := [42, 183, 0, 3, 42, 43, 181, 0, 9, 177]
abbrev dktX9_init_0 : List UInt8 := dkwX9_init_0 ++ []
theorem dksX9_init_0 : cX9_init.data.toList.drop 0 = dktX9_init_0 := by decide +kernel
theorem dX9_init_0 : decode cX9_init 0 = .ok (.aload_n 0, 1) := dk_42 (dk_at dksX9_init_0 0 rfl rfl)
theorem dX9_init_1 : decode cX9_init 1 = .ok (.invokespecial 3, 3) := dk_183 0 3 (dk_at dksX9_init_0 1 rfl rfl)
theorem dX9_init_4 : decode cX9_init 4 = .ok (.aload_n 0, 1) := dk_42 (dk_at dksX9_init_0 4 rfl rfl)
theorem dX9_init_5 : decode cX9_init 5 = .ok (.aload_n 1, 1) := dk_43 (dk_at dksX9_init_0 5 rfl rfl)
theorem dX9_init_6 : decode cX9_init 6 = .ok (.putfield 9, 3) := dk_181 0 9 (dk_at dksX9_init_0 6 rfl rfl)
theorem dX9_init_9 : decode cX9_init 9 = .ok (.return_, 1) := dk_177 (dk_at dksX9_init_0 9 rfl rfl)
abbrev cX9_add : ByteArray := prog_2_method_2_code
def yX9_add : MethodName := ⟨RX9, "add", "(ILOneBears$Sum;)V"⟩
def dkwX9_add_1 : List UInt8 := [167, 0, 11, 42, 180, 0, 20, 45, 181, 0, 27, 42, 45, 181, 0, 20, 177]
abbrev dktX9_add_1 : List UInt8 := dkwX9_add_1 ++ []
def dkwX9_add_0 : List UInt8 := [187, 0, 15, 89, 27, 44, 183, 0, 17, 78, 42, 180, 0, 20, 199, 0, 11, 42, 45, 181, 0, 24]
abbrev dktX9_add_0 : List UInt8 := dkwX9_add_0 ++ dktX9_add_1
theorem dksX9_add_0 : cX9_add.data.toList.drop 0 = dktX9_add_0 := by decide +kernel
theorem dksX9_add_1 : cX9_add.data.toList.drop 22 = dktX9_add_1 := dk_seg dksX9_add_0 22 rfl rfl
theorem dX9_add_0 : decode cX9_add 0 = .ok (.new 15, 3) := dk_187 0 15 (dk_at dksX9_add_0 0 rfl rfl)
theorem dX9_add_3 : decode cX9_add 3 = .ok (.dup, 1) := dk_89 (dk_at dksX9_add_0 3 rfl rfl)
theorem dX9_add_4 : decode cX9_add 4 = .ok (.iload_n 1, 1) := dk_27 (dk_at dksX9_add_0 4 rfl rfl)
theorem dX9_add_5 : decode cX9_add 5 = .ok (.aload_n 2, 1) := dk_44 (dk_at dksX9_add_0 5 rfl rfl)
theorem dX9_add_6 : decode cX9_add 6 = .ok (.invokespecial 17, 3) := dk_183 0 17 (dk_at dksX9_add_0 6 rfl rfl)
theorem dX9_add_9 : decode cX9_add 9 = .ok (.astore_n 3, 1) := dk_78 (dk_at dksX9_add_0 9 rfl rfl)
theorem dX9_add_10 : decode cX9_add 10 = .ok (.aload_n 0, 1) := dk_42 (dk_at dksX9_add_0 10 rfl rfl)
theorem dX9_add_11 : decode cX9_add 11 = .ok (.getfield 20, 3) := dk_180 0 20 (dk_at dksX9_add_0 11 rfl rfl)
theorem dX9_add_14 : decode cX9_add 14 = .ok (.ifnonnull 11, 3) := dk_199 0 11 (dk_at dksX9_add_0 14 rfl rfl)
theorem dX9_add_17 : decode cX9_add 17 = .ok (.aload_n 0, 1) := dk_42 (dk_at dksX9_add_0 17 rfl rfl)
theorem dX9_add_18 : decode cX9_add 18 = .ok (.aload_n 3, 1) := dk_45 (dk_at dksX9_add_0 18 rfl rfl)
theorem dX9_add_19 : decode cX9_add 19 = .ok (.putfield 24, 3) := dk_181 0 24 (dk_at dksX9_add_0 19 rfl rfl)
theorem dX9_add_22 : decode cX9_add 22 = .ok (.goto 11, 3) := dk_167 0 11 (dk_at dksX9_add_1 0 rfl rfl)
theorem dX9_add_25 : decode cX9_add 25 = .ok (.aload_n 0, 1) := dk_42 (dk_at dksX9_add_1 3 rfl rfl)
theorem dX9_add_26 : decode cX9_add 26 = .ok (.getfield 20, 3) := dk_180 0 20 (dk_at dksX9_add_1 4 rfl rfl)
theorem dX9_add_29 : decode cX9_add 29 = .ok (.aload_n 3, 1) := dk_45 (dk_at dksX9_add_1 7 rfl rfl)
theorem dX9_add_30 : decode cX9_add 30 = .ok (.putfield 27, 3) := dk_181 0 27 (dk_at dksX9_add_1 8 rfl rfl)
theorem dX9_add_33 : decode cX9_add 33 = .ok (.aload_n 0, 1) := dk_42 (dk_at dksX9_add_1 11 rfl rfl)
theorem dX9_add_34 : decode cX9_add 34 = .ok (.aload_n 3, 1) := dk_45 (dk_at dksX9_add_1 12 rfl rfl)
theorem dX9_add_35 : decode cX9_add 35 = .ok (.putfield 20, 3) := dk_181 0 20 (dk_at dksX9_add_1 13 rfl rfl)
theorem dX9_add_38 : decode cX9_add 38 = .ok (.return_, 1) := dk_177 (dk_at dksX9_add_1 16 rfl rfl)
abbrev cX9_value : ByteArray := prog_2_method_3_code
def yX9_value : MethodName := ⟨RX9, "value", "([I)I"⟩
def dkwX9_value_2 : List UInt8 := [167, 255, 224, 32, 136, 172]
abbrev dktX9_value_2 : List UInt8 := dkwX9_value_2 ++ []
def dkwX9_value_1 : List UInt8 := [20, 0, 36, 25, 4, 32, 43, 182, 0, 38, 184, 0, 42, 184, 0, 48, 65, 25, 4, 180, 0, 27, 58, 4]
abbrev dktX9_value_1 : List UInt8 := dkwX9_value_1 ++ dktX9_value_2
def dkwX9_value_0 : List UInt8 := [42, 180, 0, 9, 43, 182, 0, 30, 133, 65, 42, 180, 0, 24, 58, 4, 25, 4, 198, 0, 33, 20, 0, 34]
abbrev dktX9_value_0 : List UInt8 := dkwX9_value_0 ++ dktX9_value_1
theorem dksX9_value_0 : cX9_value.data.toList.drop 0 = dktX9_value_0 := by decide +kernel
theorem dksX9_value_1 : cX9_value.data.toList.drop 24 = dktX9_value_1 := dk_seg dksX9_value_0 24 rfl rfl
theorem dksX9_value_2 : cX9_value.data.toList.drop 48 = dktX9_value_2 := dk_seg dksX9_value_1 24 rfl rfl
theorem dX9_value_0 : decode cX9_value 0 = .ok (.aload_n 0, 1) := dk_42 (dk_at dksX9_value_0 0 rfl rfl)
theorem dX9_value_1 : decode cX9_value 1 = .ok (.getfield 9, 3) := dk_180 0 9 (dk_at dksX9_value_0 1 rfl rfl)
theorem dX9_value_4 : decode cX9_value 4 = .ok (.aload_n 1, 1) := dk_43 (dk_at dksX9_value_0 4 rfl rfl)
theorem dX9_value_5 : decode cX9_value 5 = .ok (.invokevirtual 30, 3) := dk_182 0 30 (dk_at dksX9_value_0 5 rfl rfl)
theorem dX9_value_8 : decode cX9_value 8 = .ok (.i2l, 1) := dk_133 (dk_at dksX9_value_0 8 rfl rfl)
theorem dX9_value_9 : decode cX9_value 9 = .ok (.lstore_n 2, 1) := dk_65 (dk_at dksX9_value_0 9 rfl rfl)
theorem dX9_value_10 : decode cX9_value 10 = .ok (.aload_n 0, 1) := dk_42 (dk_at dksX9_value_0 10 rfl rfl)
theorem dX9_value_11 : decode cX9_value 11 = .ok (.getfield 24, 3) := dk_180 0 24 (dk_at dksX9_value_0 11 rfl rfl)
theorem dX9_value_14 : decode cX9_value 14 = .ok (.astore 4, 2) := dk_58 4 (dk_at dksX9_value_0 14 rfl rfl)
theorem dX9_value_16 : decode cX9_value 16 = .ok (.aload 4, 2) := dk_25 4 (dk_at dksX9_value_0 16 rfl rfl)
theorem dX9_value_18 : decode cX9_value 18 = .ok (.ifnull 33, 3) := dk_198 0 33 (dk_at dksX9_value_0 18 rfl rfl)
theorem dX9_value_21 : decode cX9_value 21 = .ok (.ldc2_w 34, 3) := dk_20 0 34 (dk_at dksX9_value_0 21 rfl rfl)
theorem dX9_value_24 : decode cX9_value 24 = .ok (.ldc2_w 36, 3) := dk_20 0 36 (dk_at dksX9_value_1 0 rfl rfl)
theorem dX9_value_27 : decode cX9_value 27 = .ok (.aload 4, 2) := dk_25 4 (dk_at dksX9_value_1 3 rfl rfl)
theorem dX9_value_29 : decode cX9_value 29 = .ok (.lload_n 2, 1) := dk_32 (dk_at dksX9_value_1 5 rfl rfl)
theorem dX9_value_30 : decode cX9_value 30 = .ok (.aload_n 1, 1) := dk_43 (dk_at dksX9_value_1 6 rfl rfl)
theorem dX9_value_31 : decode cX9_value 31 = .ok (.invokevirtual 38, 3) := dk_182 0 38 (dk_at dksX9_value_1 7 rfl rfl)
theorem dX9_value_34 : decode cX9_value 34 = .ok (.invokestatic 42, 3) := dk_184 0 42 (dk_at dksX9_value_1 10 rfl rfl)
theorem dX9_value_37 : decode cX9_value 37 = .ok (.invokestatic 48, 3) := dk_184 0 48 (dk_at dksX9_value_1 13 rfl rfl)
theorem dX9_value_40 : decode cX9_value 40 = .ok (.lstore_n 2, 1) := dk_65 (dk_at dksX9_value_1 16 rfl rfl)
theorem dX9_value_41 : decode cX9_value 41 = .ok (.aload 4, 2) := dk_25 4 (dk_at dksX9_value_1 17 rfl rfl)
theorem dX9_value_43 : decode cX9_value 43 = .ok (.getfield 27, 3) := dk_180 0 27 (dk_at dksX9_value_1 19 rfl rfl)
theorem dX9_value_46 : decode cX9_value 46 = .ok (.astore 4, 2) := dk_58 4 (dk_at dksX9_value_1 22 rfl rfl)
theorem dX9_value_48 : decode cX9_value 48 = .ok (.goto (-32), 3) := dk_167 255 224 (dk_at dksX9_value_2 0 rfl rfl)
theorem dX9_value_51 : decode cX9_value 51 = .ok (.lload_n 2, 1) := dk_32 (dk_at dksX9_value_2 3 rfl rfl)
theorem dX9_value_52 : decode cX9_value 52 = .ok (.l2i, 1) := dk_136 (dk_at dksX9_value_2 4 rfl rfl)
theorem dX9_value_53 : decode cX9_value 53 = .ok (.ireturn, 1) := dk_172 (dk_at dksX9_value_2 5 rfl rfl)
theorem q94 : (Jvm.Cond.initialized "OneBears$Chain") ∈ lw_all := lw_g (lw_at lw_m1 17 rfl) rfl
theorem q516 : (Jvm.Cond.instantiable "OneBears$Chain" (3 : Nat)) ∈ lw_all := lw_g (lw_at lw_m2 199 rfl) rfl
theorem q518 : (Jvm.Cond.instanceMethod ({ cls := "OneBears$Chain", name := "<init>", desc := "(LOneBears$Sum;)V" } : Jvm.MethodName)) ∈ lw_all := lw_g (lw_at lw_m2 201 rfl) rfl
theorem q519 : (Jvm.Cond.code ({ cls := "OneBears$Chain", name := "<init>", desc := "(LOneBears$Sum;)V" } : Jvm.MethodName) prog_2_method_1_code (2 : Nat) (Option.none : Option Jvm.ClassFile.FieldType)) ∈ lw_all := lw_g (lw_at lw_m2 202 rfl) rfl
theorem q520 : (Jvm.Cond.methodLinkNest "OneBears$Chain" (3 : Nat) ({ cls := "OneBears$Sum", name := "<init>", desc := "()V" } : Jvm.MethodName) "OneBears") ∈ lw_tbl := lw_at lw_m2 203 rfl
theorem q521 : (Jvm.Cond.fieldLink "OneBears$Chain" (9 : Nat) "OneBears$Chain" "first" "LOneBears$Sum;") ∈ lw_all := lw_g (lw_at lw_m2 204 rfl) rfl
theorem q522 : (Jvm.Cond.fieldLink "OneBears$Chain" (24 : Nat) "OneBears$Chain" "links" "LOneBears$Link;") ∈ lw_all := lw_g (lw_at lw_m2 205 rfl) rfl
theorem q523 : (Jvm.Cond.fieldLink "OneBears$Chain" (20 : Nat) "OneBears$Chain" "last" "LOneBears$Link;") ∈ lw_all := lw_g (lw_at lw_m2 206 rfl) rfl
theorem q524 : (Jvm.Cond.laysFinal "OneBears$Chain" "OneBears$Chain" "first" "LOneBears$Sum;") ∈ lw_all := lw_g (lw_at lw_m2 207 rfl) rfl
theorem q525 : (Jvm.Cond.soleField "OneBears$Chain" "first") ∈ lw_all := lw_g (lw_at lw_m2 208 rfl) rfl
theorem q526 : (Jvm.Cond.lays "OneBears$Chain" "OneBears$Chain" "links" "LOneBears$Link;") ∈ lw_all := lw_g (lw_at lw_m2 209 rfl) rfl
theorem q527 : (Jvm.Cond.soleField "OneBears$Chain" "links") ∈ lw_all := lw_g (lw_at lw_m2 210 rfl) rfl
theorem q528 : (Jvm.Cond.lays "OneBears$Chain" "OneBears$Chain" "last" "LOneBears$Link;") ∈ lw_all := lw_g (lw_at lw_m2 211 rfl) rfl
theorem q529 : (Jvm.Cond.soleField "OneBears$Chain" "last") ∈ lw_all := lw_g (lw_at lw_m2 212 rfl) rfl
theorem q530 : (Jvm.Cond.superclass "OneBears$Chain" "OneBears$Sum") ∈ lw_all := lw_g (lw_at lw_m2 213 rfl) rfl
theorem q532 : (Jvm.Cond.instanceMethod ({ cls := "OneBears$Chain", name := "add", desc := "(ILOneBears$Sum;)V" } : Jvm.MethodName)) ∈ lw_all := lw_g (lw_at lw_m2 215 rfl) rfl
theorem q533 : (Jvm.Cond.selects "OneBears$Chain" ({ cls := "OneBears$Chain", name := "add", desc := "(ILOneBears$Sum;)V" } : Jvm.MethodName) ({ cls := "OneBears$Chain", name := "add", desc := "(ILOneBears$Sum;)V" } : Jvm.MethodName)) ∈ lw_all := lw_g (lw_at lw_m2 216 rfl) rfl
theorem q534 : (Jvm.Cond.code ({ cls := "OneBears$Chain", name := "add", desc := "(ILOneBears$Sum;)V" } : Jvm.MethodName) prog_2_method_2_code (4 : Nat) (Option.none : Option Jvm.ClassFile.FieldType)) ∈ lw_all := lw_g (lw_at lw_m2 217 rfl) rfl
theorem q535 : (Jvm.Cond.classLink "OneBears$Chain" (15 : Nat) "OneBears$Link") ∈ lw_all := lw_g (lw_at lw_m2 218 rfl) rfl
theorem q537 : (Jvm.Cond.methodLink "OneBears$Chain" (17 : Nat) ({ cls := "OneBears$Link", name := "<init>", desc := "(ILOneBears$Sum;)V" } : Jvm.MethodName)) ∈ lw_all := lw_g (lw_at lw_m2 220 rfl) rfl
theorem q543 : (Jvm.Cond.fieldLinkNest "OneBears$Chain" (27 : Nat) "OneBears$Link" "next" "LOneBears$Link;" "OneBears") ∈ lw_tbl := lw_at lw_m2 226 rfl
theorem q820 : (Jvm.Cond.selects "OneBears$Chain" ({ cls := "OneBears$Sum", name := "value", desc := "([I)I" } : Jvm.MethodName) ({ cls := "OneBears$Chain", name := "value", desc := "([I)I" } : Jvm.MethodName)) ∈ lw_all := lw_g (lw_at lw_m4 23 rfl) rfl
theorem q821 : (Jvm.Cond.instanceMethod ({ cls := "OneBears$Chain", name := "value", desc := "([I)I" } : Jvm.MethodName)) ∈ lw_all := lw_g (lw_at lw_m4 24 rfl) rfl
theorem q822 : (Jvm.Cond.code ({ cls := "OneBears$Chain", name := "value", desc := "([I)I" } : Jvm.MethodName) prog_2_method_3_code (5 : Nat) (Option.some Jvm.ClassFile.FieldType.int)) ∈ lw_all := lw_g (lw_at lw_m4 25 rfl) rfl
theorem q823 : (Jvm.Cond.methodLink "OneBears$Chain" (30 : Nat) ({ cls := "OneBears$Sum", name := "value", desc := "([I)I" } : Jvm.MethodName)) ∈ lw_all := lw_g (lw_at lw_m4 26 rfl) rfl
theorem q828 : (Jvm.Cond.constantLong "OneBears$Chain" (34 : Nat) (-1000000 : Int64)) ∈ lw_all := lw_g (lw_at lw_m4 31 rfl) rfl
theorem q829 : (Jvm.Cond.constantLong "OneBears$Chain" (36 : Nat) (1000000 : Int64)) ∈ lw_all := lw_g (lw_at lw_m4 32 rfl) rfl
theorem q830 : (Jvm.Cond.methodLink "OneBears$Chain" (38 : Nat) ({ cls := "OneBears$Link", name := "on", desc := "(J[I)J" } : Jvm.MethodName)) ∈ lw_all := lw_g (lw_at lw_m4 33 rfl) rfl
theorem q835 : (Jvm.Cond.methodLink "OneBears$Chain" (42 : Nat) ({ cls := "java/lang/Math", name := "min", desc := "(JJ)J" } : Jvm.MethodName)) ∈ lw_all := lw_g (lw_at lw_m4 38 rfl) rfl
theorem q838 : (Jvm.Cond.methodLink "OneBears$Chain" (48 : Nat) ({ cls := "java/lang/Math", name := "max", desc := "(JJ)J" } : Jvm.MethodName)) ∈ lw_all := lw_g (lw_at lw_m4 41 rfl) rfl
theorem q1494 : (Jvm.Cond.castable "OneBears$Chain" "java/lang/Object") ∈ lw_tbl := lw_at lw_m6 217 rfl
theorem in_X9 : ∀ w ∈ wsX90, w ∈ lw_all := lw_in wsX90 [524, 526, 528] (by decide +kernel) (by decide +kernel)

theorem q169 : (Jvm.Cond.arrayOver (Jvm.ClassFile.FieldType.object "OneBears$Clause")) ∈ lw_tbl := lw_at lw_m1 92 rfl
set_option maxRecDepth 100000
theorem q186 : (Jvm.Cond.arrayClass Jvm.ClassFile.FieldType.byte) ∈ lw_all := lw_g (lw_at lw_m1 109 rfl) rfl
theorem q187 : (Jvm.Cond.arrayClass Jvm.ClassFile.FieldType.int) ∈ lw_all := lw_g (lw_at lw_m1 110 rfl) rfl
theorem q188 : (Jvm.Cond.arrayClass Jvm.ClassFile.FieldType.long) ∈ lw_all := lw_g (lw_at lw_m1 111 rfl) rfl
