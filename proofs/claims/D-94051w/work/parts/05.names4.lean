/-! OneBears$Colony -/
set_option maxRecDepth 100000
def RX4 : String := "OneBears$Colony"
def TX4 : u_T := fun k => match k with
  | 0 => ("OneBears$Colony", "law", "LOneBears$Clause;", false)
  | 1 => ("OneBears$Colony", "draws", "J", false)
  | 2 => ("OneBears$Colony", "month", "I", false)
  | 3 => ("OneBears$Colony", "change", "I", false)
  | 4 => ("OneBears$Colony", "many", "I", false)
  | 5 => ("OneBears$Colony", "store", "I", false)
  | 6 => ("OneBears$Colony", "chance", "I", false)
  | 7 => ("OneBears$Colony", "first", "I", false)
  | 8 => ("OneBears$Colony", "reigns", "I", false)
  | 9 => ("OneBears$Colony", "partner", "I", false)
  | 10 => ("OneBears$Colony", "wars", "I", false)
  | 11 => ("OneBears$Colony", "family", "LOneBears$Tree;", true)
  | 12 => ("OneBears$Colony", "state", "[I", true)
  | 13 => ("OneBears$Colony", "weight", "[I", true)
  | 14 => ("OneBears$Colony", "when", "[I", true)
  | 15 => ("OneBears$Colony", "born", "[I", true)
  | 16 => ("OneBears$Colony", "digs", "[I", true)
  | 17 => ("OneBears$Colony", "eats", "[I", true)
  | 18 => ("OneBears$Colony", "stays", "[I", true)
  | 19 => ("OneBears$Colony", "fights", "[I", true)
  | _ => ("OneBears$Colony", "this$0", "LOneBears;", true)
def tyX4 : Nat → FieldType := fun k => match k with
  | 0 => .object "OneBears$Clause"
  | 1 => .long
  | 2 => .int
  | 3 => .int
  | 4 => .int
  | 5 => .int
  | 6 => .int
  | 7 => .int
  | 8 => .int
  | 9 => .int
  | 10 => .int
  | 11 => .object "OneBears$Tree"
  | 12 => .array .int
  | 13 => .array .int
  | 14 => .array .int
  | 15 => .array .int
  | 16 => .array .int
  | 17 => .array .int
  | 18 => .array .int
  | 19 => .array .int
  | _ => .object "OneBears"
abbrev wsX40 : List Cond := u_ws RX4 TX4 21
set_option maxRecDepth 100000 in
theorem nmX4 : ∀ a, a < 21 → ∀ b, b < 21 → a ≠ b → (TX4 a).2.1 ≠ (TX4 b).2.1 := by decide +kernel
set_option maxRecDepth 100000 in
theorem tyX4_ok : ∀ k, k < 21 → parseFieldDescriptor (TX4 k).2.2.1 = some (tyX4 k) := by decide +kernel
abbrev cX4_init : ByteArray := prog_4_method_1_code
def yX4_init : MethodName := ⟨RX4, "<init>", "(LOneBears;)V"⟩
def dkwX4_init_3 : List UInt8 := [188, 10, 181, 0, 41, 42, 16, 24, 188, 10, 181, 0, 44, 177]
abbrev dktX4_init_3 : List UInt8 := dkwX4_init_3 ++ []
def dkwX4_init_2 : List UInt8 := [188, 10, 181, 0, 32, 42, 16, 24, 188, 10, 181, 0, 35, 42, 16, 24, 188, 10, 181, 0, 38, 42, 16, 24]
abbrev dktX4_init_2 : List UInt8 := dkwX4_init_2 ++ dktX4_init_3
def dkwX4_init_1 : List UInt8 := [188, 10, 181, 0, 22, 42, 16, 24, 188, 10, 181, 0, 26, 42, 16, 24, 188, 10, 181, 0, 29, 42, 16, 24]
abbrev dktX4_init_1 : List UInt8 := dkwX4_init_1 ++ dktX4_init_2
def dkwX4_init_0 : List UInt8 := [42, 43, 181, 0, 3, 42, 183, 0, 9, 42, 187, 0, 15, 89, 183, 0, 17, 181, 0, 18, 42, 16, 24]
abbrev dktX4_init_0 : List UInt8 := dkwX4_init_0 ++ dktX4_init_1
theorem dksX4_init_0 : cX4_init.data.toList.drop 0 = dktX4_init_0 := by decide +kernel
theorem dksX4_init_1 : cX4_init.data.toList.drop 23 = dktX4_init_1 := dk_seg dksX4_init_0 23 rfl rfl
theorem dksX4_init_2 : cX4_init.data.toList.drop 47 = dktX4_init_2 := dk_seg dksX4_init_1 24 rfl rfl
theorem dksX4_init_3 : cX4_init.data.toList.drop 71 = dktX4_init_3 := dk_seg dksX4_init_2 24 rfl rfl
theorem dX4_init_0 : decode cX4_init 0 = .ok (.aload_n 0, 1) := dk_42 (dk_at dksX4_init_0 0 rfl rfl)
theorem dX4_init_1 : decode cX4_init 1 = .ok (.aload_n 1, 1) := dk_43 (dk_at dksX4_init_0 1 rfl rfl)
theorem dX4_init_2 : decode cX4_init 2 = .ok (.putfield 3, 3) := dk_181 0 3 (dk_at dksX4_init_0 2 rfl rfl)
theorem dX4_init_5 : decode cX4_init 5 = .ok (.aload_n 0, 1) := dk_42 (dk_at dksX4_init_0 5 rfl rfl)
theorem dX4_init_6 : decode cX4_init 6 = .ok (.invokespecial 9, 3) := dk_183 0 9 (dk_at dksX4_init_0 6 rfl rfl)
theorem dX4_init_9 : decode cX4_init 9 = .ok (.aload_n 0, 1) := dk_42 (dk_at dksX4_init_0 9 rfl rfl)
theorem dX4_init_10 : decode cX4_init 10 = .ok (.new 15, 3) := dk_187 0 15 (dk_at dksX4_init_0 10 rfl rfl)
theorem dX4_init_13 : decode cX4_init 13 = .ok (.dup, 1) := dk_89 (dk_at dksX4_init_0 13 rfl rfl)
theorem dX4_init_14 : decode cX4_init 14 = .ok (.invokespecial 17, 3) := dk_183 0 17 (dk_at dksX4_init_0 14 rfl rfl)
theorem dX4_init_17 : decode cX4_init 17 = .ok (.putfield 18, 3) := dk_181 0 18 (dk_at dksX4_init_0 17 rfl rfl)
theorem dX4_init_20 : decode cX4_init 20 = .ok (.aload_n 0, 1) := dk_42 (dk_at dksX4_init_0 20 rfl rfl)
theorem dX4_init_21 : decode cX4_init 21 = .ok (.bipush 24, 2) := dk_16 24 (dk_at dksX4_init_0 21 rfl rfl)
theorem dX4_init_23 : decode cX4_init 23 = .ok (.newarray .int, 2) := dk_188_10 (dk_at dksX4_init_1 0 rfl rfl)
theorem dX4_init_25 : decode cX4_init 25 = .ok (.putfield 22, 3) := dk_181 0 22 (dk_at dksX4_init_1 2 rfl rfl)
theorem dX4_init_28 : decode cX4_init 28 = .ok (.aload_n 0, 1) := dk_42 (dk_at dksX4_init_1 5 rfl rfl)
theorem dX4_init_29 : decode cX4_init 29 = .ok (.bipush 24, 2) := dk_16 24 (dk_at dksX4_init_1 6 rfl rfl)
theorem dX4_init_31 : decode cX4_init 31 = .ok (.newarray .int, 2) := dk_188_10 (dk_at dksX4_init_1 8 rfl rfl)
theorem dX4_init_33 : decode cX4_init 33 = .ok (.putfield 26, 3) := dk_181 0 26 (dk_at dksX4_init_1 10 rfl rfl)
theorem dX4_init_36 : decode cX4_init 36 = .ok (.aload_n 0, 1) := dk_42 (dk_at dksX4_init_1 13 rfl rfl)
theorem dX4_init_37 : decode cX4_init 37 = .ok (.bipush 24, 2) := dk_16 24 (dk_at dksX4_init_1 14 rfl rfl)
theorem dX4_init_39 : decode cX4_init 39 = .ok (.newarray .int, 2) := dk_188_10 (dk_at dksX4_init_1 16 rfl rfl)
theorem dX4_init_41 : decode cX4_init 41 = .ok (.putfield 29, 3) := dk_181 0 29 (dk_at dksX4_init_1 18 rfl rfl)
theorem dX4_init_44 : decode cX4_init 44 = .ok (.aload_n 0, 1) := dk_42 (dk_at dksX4_init_1 21 rfl rfl)
theorem dX4_init_45 : decode cX4_init 45 = .ok (.bipush 24, 2) := dk_16 24 (dk_at dksX4_init_1 22 rfl rfl)
theorem dX4_init_47 : decode cX4_init 47 = .ok (.newarray .int, 2) := dk_188_10 (dk_at dksX4_init_2 0 rfl rfl)
theorem dX4_init_49 : decode cX4_init 49 = .ok (.putfield 32, 3) := dk_181 0 32 (dk_at dksX4_init_2 2 rfl rfl)
theorem dX4_init_52 : decode cX4_init 52 = .ok (.aload_n 0, 1) := dk_42 (dk_at dksX4_init_2 5 rfl rfl)
theorem dX4_init_53 : decode cX4_init 53 = .ok (.bipush 24, 2) := dk_16 24 (dk_at dksX4_init_2 6 rfl rfl)
theorem dX4_init_55 : decode cX4_init 55 = .ok (.newarray .int, 2) := dk_188_10 (dk_at dksX4_init_2 8 rfl rfl)
theorem dX4_init_57 : decode cX4_init 57 = .ok (.putfield 35, 3) := dk_181 0 35 (dk_at dksX4_init_2 10 rfl rfl)
theorem dX4_init_60 : decode cX4_init 60 = .ok (.aload_n 0, 1) := dk_42 (dk_at dksX4_init_2 13 rfl rfl)
theorem dX4_init_61 : decode cX4_init 61 = .ok (.bipush 24, 2) := dk_16 24 (dk_at dksX4_init_2 14 rfl rfl)
theorem dX4_init_63 : decode cX4_init 63 = .ok (.newarray .int, 2) := dk_188_10 (dk_at dksX4_init_2 16 rfl rfl)
theorem dX4_init_65 : decode cX4_init 65 = .ok (.putfield 38, 3) := dk_181 0 38 (dk_at dksX4_init_2 18 rfl rfl)
theorem dX4_init_68 : decode cX4_init 68 = .ok (.aload_n 0, 1) := dk_42 (dk_at dksX4_init_2 21 rfl rfl)
theorem dX4_init_69 : decode cX4_init 69 = .ok (.bipush 24, 2) := dk_16 24 (dk_at dksX4_init_2 22 rfl rfl)
theorem dX4_init_71 : decode cX4_init 71 = .ok (.newarray .int, 2) := dk_188_10 (dk_at dksX4_init_3 0 rfl rfl)
theorem dX4_init_73 : decode cX4_init 73 = .ok (.putfield 41, 3) := dk_181 0 41 (dk_at dksX4_init_3 2 rfl rfl)
theorem dX4_init_76 : decode cX4_init 76 = .ok (.aload_n 0, 1) := dk_42 (dk_at dksX4_init_3 5 rfl rfl)
theorem dX4_init_77 : decode cX4_init 77 = .ok (.bipush 24, 2) := dk_16 24 (dk_at dksX4_init_3 6 rfl rfl)
theorem dX4_init_79 : decode cX4_init 79 = .ok (.newarray .int, 2) := dk_188_10 (dk_at dksX4_init_3 8 rfl rfl)
theorem dX4_init_81 : decode cX4_init 81 = .ok (.putfield 44, 3) := dk_181 0 44 (dk_at dksX4_init_3 10 rfl rfl)
theorem dX4_init_84 : decode cX4_init 84 = .ok (.return_, 1) := dk_177 (dk_at dksX4_init_3 13 rfl rfl)
abbrev cX4_begin : ByteArray := prog_4_method_2_code
def yX4_begin : MethodName := ⟨RX4, "begin", "(LOneBears$Clause;JII)V"⟩
def dkwX4_begin_8 : List UInt8 := [132, 6, 1, 167, 255, 205, 177]
abbrev dktX4_begin_8 : List UInt8 := dkwX4_begin_8 ++ []
def dkwX4_begin_7 : List UInt8 := [180, 0, 99, 21, 6, 46, 79, 42, 180, 0, 29, 21, 6, 2, 79, 42, 180, 0, 32, 21, 6, 2, 79]
abbrev dktX4_begin_7 : List UInt8 := dkwX4_begin_7 ++ dktX4_begin_8
def dkwX4_begin_6 : List UInt8 := [21, 4, 162, 0, 50, 42, 180, 0, 22, 21, 6, 3, 79, 42, 180, 0, 26, 21, 6, 42, 180, 0, 3]
abbrev dktX4_begin_6 : List UInt8 := dkwX4_begin_6 ++ dktX4_begin_7
def dkwX4_begin_5 : List UInt8 := [181, 0, 89, 42, 180, 0, 18, 42, 180, 0, 3, 180, 0, 92, 21, 4, 182, 0, 95, 3, 54, 6, 21, 6]
abbrev dktX4_begin_5 : List UInt8 := dkwX4_begin_5 ++ dktX4_begin_6
def dkwX4_begin_4 : List UInt8 := [180, 0, 3, 180, 0, 86, 21, 4, 162, 0, 13, 42, 180, 0, 3, 180, 0, 86, 167, 0, 4, 2]
abbrev dktX4_begin_4 : List UInt8 := dkwX4_begin_4 ++ dktX4_begin_5
def dkwX4_begin_3 : List UInt8 := [42, 180, 0, 3, 180, 0, 77, 167, 0, 4, 2, 181, 0, 80, 42, 42, 180, 0, 80, 181, 0, 83, 42, 42]
abbrev dktX4_begin_3 : List UInt8 := dkwX4_begin_3 ++ dktX4_begin_4
def dkwX4_begin_2 : List UInt8 := [180, 0, 3, 180, 0, 68, 4, 46, 181, 0, 74, 42, 42, 180, 0, 3, 180, 0, 77, 21, 4, 162, 0, 13]
abbrev dktX4_begin_2 : List UInt8 := dkwX4_begin_2 ++ dktX4_begin_3
def dkwX4_begin_1 : List UInt8 := [181, 0, 62, 42, 3, 181, 0, 65, 42, 42, 180, 0, 3, 180, 0, 68, 3, 46, 181, 0, 71, 42, 42]
abbrev dktX4_begin_1 : List UInt8 := dkwX4_begin_1 ++ dktX4_begin_2
def dkwX4_begin_0 : List UInt8 := [42, 43, 181, 0, 47, 42, 32, 181, 0, 51, 42, 21, 5, 181, 0, 55, 42, 21, 4, 181, 0, 59, 42, 3]
abbrev dktX4_begin_0 : List UInt8 := dkwX4_begin_0 ++ dktX4_begin_1
theorem dksX4_begin_0 : cX4_begin.data.toList.drop 0 = dktX4_begin_0 := by decide +kernel
theorem dksX4_begin_1 : cX4_begin.data.toList.drop 24 = dktX4_begin_1 := dk_seg dksX4_begin_0 24 rfl rfl
theorem dksX4_begin_2 : cX4_begin.data.toList.drop 47 = dktX4_begin_2 := dk_seg dksX4_begin_1 23 rfl rfl
theorem dksX4_begin_3 : cX4_begin.data.toList.drop 71 = dktX4_begin_3 := dk_seg dksX4_begin_2 24 rfl rfl
theorem dksX4_begin_4 : cX4_begin.data.toList.drop 95 = dktX4_begin_4 := dk_seg dksX4_begin_3 24 rfl rfl
theorem dksX4_begin_5 : cX4_begin.data.toList.drop 117 = dktX4_begin_5 := dk_seg dksX4_begin_4 22 rfl rfl
theorem dksX4_begin_6 : cX4_begin.data.toList.drop 141 = dktX4_begin_6 := dk_seg dksX4_begin_5 24 rfl rfl
theorem dksX4_begin_7 : cX4_begin.data.toList.drop 164 = dktX4_begin_7 := dk_seg dksX4_begin_6 23 rfl rfl
theorem dksX4_begin_8 : cX4_begin.data.toList.drop 187 = dktX4_begin_8 := dk_seg dksX4_begin_7 23 rfl rfl
theorem dX4_begin_0 : decode cX4_begin 0 = .ok (.aload_n 0, 1) := dk_42 (dk_at dksX4_begin_0 0 rfl rfl)
theorem dX4_begin_1 : decode cX4_begin 1 = .ok (.aload_n 1, 1) := dk_43 (dk_at dksX4_begin_0 1 rfl rfl)
theorem dX4_begin_2 : decode cX4_begin 2 = .ok (.putfield 47, 3) := dk_181 0 47 (dk_at dksX4_begin_0 2 rfl rfl)
theorem dX4_begin_5 : decode cX4_begin 5 = .ok (.aload_n 0, 1) := dk_42 (dk_at dksX4_begin_0 5 rfl rfl)
theorem dX4_begin_6 : decode cX4_begin 6 = .ok (.lload_n 2, 1) := dk_32 (dk_at dksX4_begin_0 6 rfl rfl)
theorem dX4_begin_7 : decode cX4_begin 7 = .ok (.putfield 51, 3) := dk_181 0 51 (dk_at dksX4_begin_0 7 rfl rfl)
theorem dX4_begin_10 : decode cX4_begin 10 = .ok (.aload_n 0, 1) := dk_42 (dk_at dksX4_begin_0 10 rfl rfl)
theorem dX4_begin_11 : decode cX4_begin 11 = .ok (.iload 5, 2) := dk_21 5 (dk_at dksX4_begin_0 11 rfl rfl)
theorem dX4_begin_13 : decode cX4_begin 13 = .ok (.putfield 55, 3) := dk_181 0 55 (dk_at dksX4_begin_0 13 rfl rfl)
theorem dX4_begin_16 : decode cX4_begin 16 = .ok (.aload_n 0, 1) := dk_42 (dk_at dksX4_begin_0 16 rfl rfl)
theorem dX4_begin_17 : decode cX4_begin 17 = .ok (.iload 4, 2) := dk_21 4 (dk_at dksX4_begin_0 17 rfl rfl)
theorem dX4_begin_19 : decode cX4_begin 19 = .ok (.putfield 59, 3) := dk_181 0 59 (dk_at dksX4_begin_0 19 rfl rfl)
theorem dX4_begin_22 : decode cX4_begin 22 = .ok (.aload_n 0, 1) := dk_42 (dk_at dksX4_begin_0 22 rfl rfl)
theorem dX4_begin_23 : decode cX4_begin 23 = .ok (.iconst 0, 1) := dk_3 (dk_at dksX4_begin_0 23 rfl rfl)
theorem dX4_begin_24 : decode cX4_begin 24 = .ok (.putfield 62, 3) := dk_181 0 62 (dk_at dksX4_begin_1 0 rfl rfl)
theorem dX4_begin_27 : decode cX4_begin 27 = .ok (.aload_n 0, 1) := dk_42 (dk_at dksX4_begin_1 3 rfl rfl)
theorem dX4_begin_28 : decode cX4_begin 28 = .ok (.iconst 0, 1) := dk_3 (dk_at dksX4_begin_1 4 rfl rfl)
theorem dX4_begin_29 : decode cX4_begin 29 = .ok (.putfield 65, 3) := dk_181 0 65 (dk_at dksX4_begin_1 5 rfl rfl)
theorem dX4_begin_32 : decode cX4_begin 32 = .ok (.aload_n 0, 1) := dk_42 (dk_at dksX4_begin_1 8 rfl rfl)
theorem dX4_begin_33 : decode cX4_begin 33 = .ok (.aload_n 0, 1) := dk_42 (dk_at dksX4_begin_1 9 rfl rfl)
theorem dX4_begin_34 : decode cX4_begin 34 = .ok (.getfield 3, 3) := dk_180 0 3 (dk_at dksX4_begin_1 10 rfl rfl)
theorem dX4_begin_37 : decode cX4_begin 37 = .ok (.getfield 68, 3) := dk_180 0 68 (dk_at dksX4_begin_1 13 rfl rfl)
theorem dX4_begin_40 : decode cX4_begin 40 = .ok (.iconst 0, 1) := dk_3 (dk_at dksX4_begin_1 16 rfl rfl)
theorem dX4_begin_41 : decode cX4_begin 41 = .ok (.iaload, 1) := dk_46 (dk_at dksX4_begin_1 17 rfl rfl)
theorem dX4_begin_42 : decode cX4_begin 42 = .ok (.putfield 71, 3) := dk_181 0 71 (dk_at dksX4_begin_1 18 rfl rfl)
theorem dX4_begin_45 : decode cX4_begin 45 = .ok (.aload_n 0, 1) := dk_42 (dk_at dksX4_begin_1 21 rfl rfl)
theorem dX4_begin_46 : decode cX4_begin 46 = .ok (.aload_n 0, 1) := dk_42 (dk_at dksX4_begin_1 22 rfl rfl)
theorem dX4_begin_47 : decode cX4_begin 47 = .ok (.getfield 3, 3) := dk_180 0 3 (dk_at dksX4_begin_2 0 rfl rfl)
theorem dX4_begin_50 : decode cX4_begin 50 = .ok (.getfield 68, 3) := dk_180 0 68 (dk_at dksX4_begin_2 3 rfl rfl)
theorem dX4_begin_53 : decode cX4_begin 53 = .ok (.iconst 1, 1) := dk_4 (dk_at dksX4_begin_2 6 rfl rfl)
theorem dX4_begin_54 : decode cX4_begin 54 = .ok (.iaload, 1) := dk_46 (dk_at dksX4_begin_2 7 rfl rfl)
theorem dX4_begin_55 : decode cX4_begin 55 = .ok (.putfield 74, 3) := dk_181 0 74 (dk_at dksX4_begin_2 8 rfl rfl)
theorem dX4_begin_58 : decode cX4_begin 58 = .ok (.aload_n 0, 1) := dk_42 (dk_at dksX4_begin_2 11 rfl rfl)
theorem dX4_begin_59 : decode cX4_begin 59 = .ok (.aload_n 0, 1) := dk_42 (dk_at dksX4_begin_2 12 rfl rfl)
theorem dX4_begin_60 : decode cX4_begin 60 = .ok (.getfield 3, 3) := dk_180 0 3 (dk_at dksX4_begin_2 13 rfl rfl)
theorem dX4_begin_63 : decode cX4_begin 63 = .ok (.getfield 77, 3) := dk_180 0 77 (dk_at dksX4_begin_2 16 rfl rfl)
theorem dX4_begin_66 : decode cX4_begin 66 = .ok (.iload 4, 2) := dk_21 4 (dk_at dksX4_begin_2 19 rfl rfl)
theorem dX4_begin_68 : decode cX4_begin 68 = .ok (.if_icmp .ge 13, 3) := dk_162 0 13 (dk_at dksX4_begin_2 21 rfl rfl)
theorem dX4_begin_71 : decode cX4_begin 71 = .ok (.aload_n 0, 1) := dk_42 (dk_at dksX4_begin_3 0 rfl rfl)
theorem dX4_begin_72 : decode cX4_begin 72 = .ok (.getfield 3, 3) := dk_180 0 3 (dk_at dksX4_begin_3 1 rfl rfl)
theorem dX4_begin_75 : decode cX4_begin 75 = .ok (.getfield 77, 3) := dk_180 0 77 (dk_at dksX4_begin_3 4 rfl rfl)
theorem dX4_begin_78 : decode cX4_begin 78 = .ok (.goto 4, 3) := dk_167 0 4 (dk_at dksX4_begin_3 7 rfl rfl)
theorem dX4_begin_81 : decode cX4_begin 81 = .ok (.iconst (-1), 1) := dk_2 (dk_at dksX4_begin_3 10 rfl rfl)
theorem dX4_begin_82 : decode cX4_begin 82 = .ok (.putfield 80, 3) := dk_181 0 80 (dk_at dksX4_begin_3 11 rfl rfl)
theorem dX4_begin_85 : decode cX4_begin 85 = .ok (.aload_n 0, 1) := dk_42 (dk_at dksX4_begin_3 14 rfl rfl)
theorem dX4_begin_86 : decode cX4_begin 86 = .ok (.aload_n 0, 1) := dk_42 (dk_at dksX4_begin_3 15 rfl rfl)
theorem dX4_begin_87 : decode cX4_begin 87 = .ok (.getfield 80, 3) := dk_180 0 80 (dk_at dksX4_begin_3 16 rfl rfl)
theorem dX4_begin_90 : decode cX4_begin 90 = .ok (.putfield 83, 3) := dk_181 0 83 (dk_at dksX4_begin_3 19 rfl rfl)
theorem dX4_begin_93 : decode cX4_begin 93 = .ok (.aload_n 0, 1) := dk_42 (dk_at dksX4_begin_3 22 rfl rfl)
theorem dX4_begin_94 : decode cX4_begin 94 = .ok (.aload_n 0, 1) := dk_42 (dk_at dksX4_begin_3 23 rfl rfl)
theorem dX4_begin_95 : decode cX4_begin 95 = .ok (.getfield 3, 3) := dk_180 0 3 (dk_at dksX4_begin_4 0 rfl rfl)
theorem dX4_begin_98 : decode cX4_begin 98 = .ok (.getfield 86, 3) := dk_180 0 86 (dk_at dksX4_begin_4 3 rfl rfl)
theorem dX4_begin_101 : decode cX4_begin 101 = .ok (.iload 4, 2) := dk_21 4 (dk_at dksX4_begin_4 6 rfl rfl)
theorem dX4_begin_103 : decode cX4_begin 103 = .ok (.if_icmp .ge 13, 3) := dk_162 0 13 (dk_at dksX4_begin_4 8 rfl rfl)
theorem dX4_begin_106 : decode cX4_begin 106 = .ok (.aload_n 0, 1) := dk_42 (dk_at dksX4_begin_4 11 rfl rfl)
theorem dX4_begin_107 : decode cX4_begin 107 = .ok (.getfield 3, 3) := dk_180 0 3 (dk_at dksX4_begin_4 12 rfl rfl)
theorem dX4_begin_110 : decode cX4_begin 110 = .ok (.getfield 86, 3) := dk_180 0 86 (dk_at dksX4_begin_4 15 rfl rfl)
theorem dX4_begin_113 : decode cX4_begin 113 = .ok (.goto 4, 3) := dk_167 0 4 (dk_at dksX4_begin_4 18 rfl rfl)
theorem dX4_begin_116 : decode cX4_begin 116 = .ok (.iconst (-1), 1) := dk_2 (dk_at dksX4_begin_4 21 rfl rfl)
theorem dX4_begin_117 : decode cX4_begin 117 = .ok (.putfield 89, 3) := dk_181 0 89 (dk_at dksX4_begin_5 0 rfl rfl)
theorem dX4_begin_120 : decode cX4_begin 120 = .ok (.aload_n 0, 1) := dk_42 (dk_at dksX4_begin_5 3 rfl rfl)
theorem dX4_begin_121 : decode cX4_begin 121 = .ok (.getfield 18, 3) := dk_180 0 18 (dk_at dksX4_begin_5 4 rfl rfl)
theorem dX4_begin_124 : decode cX4_begin 124 = .ok (.aload_n 0, 1) := dk_42 (dk_at dksX4_begin_5 7 rfl rfl)
theorem dX4_begin_125 : decode cX4_begin 125 = .ok (.getfield 3, 3) := dk_180 0 3 (dk_at dksX4_begin_5 8 rfl rfl)
theorem dX4_begin_128 : decode cX4_begin 128 = .ok (.getfield 92, 3) := dk_180 0 92 (dk_at dksX4_begin_5 11 rfl rfl)
theorem dX4_begin_131 : decode cX4_begin 131 = .ok (.iload 4, 2) := dk_21 4 (dk_at dksX4_begin_5 14 rfl rfl)
theorem dX4_begin_133 : decode cX4_begin 133 = .ok (.invokevirtual 95, 3) := dk_182 0 95 (dk_at dksX4_begin_5 16 rfl rfl)
theorem dX4_begin_136 : decode cX4_begin 136 = .ok (.iconst 0, 1) := dk_3 (dk_at dksX4_begin_5 19 rfl rfl)
theorem dX4_begin_137 : decode cX4_begin 137 = .ok (.istore 6, 2) := dk_54 6 (dk_at dksX4_begin_5 20 rfl rfl)
theorem dX4_begin_139 : decode cX4_begin 139 = .ok (.iload 6, 2) := dk_21 6 (dk_at dksX4_begin_5 22 rfl rfl)
theorem dX4_begin_141 : decode cX4_begin 141 = .ok (.iload 4, 2) := dk_21 4 (dk_at dksX4_begin_6 0 rfl rfl)
theorem dX4_begin_143 : decode cX4_begin 143 = .ok (.if_icmp .ge 50, 3) := dk_162 0 50 (dk_at dksX4_begin_6 2 rfl rfl)
theorem dX4_begin_146 : decode cX4_begin 146 = .ok (.aload_n 0, 1) := dk_42 (dk_at dksX4_begin_6 5 rfl rfl)
theorem dX4_begin_147 : decode cX4_begin 147 = .ok (.getfield 22, 3) := dk_180 0 22 (dk_at dksX4_begin_6 6 rfl rfl)
theorem dX4_begin_150 : decode cX4_begin 150 = .ok (.iload 6, 2) := dk_21 6 (dk_at dksX4_begin_6 9 rfl rfl)
theorem dX4_begin_152 : decode cX4_begin 152 = .ok (.iconst 0, 1) := dk_3 (dk_at dksX4_begin_6 11 rfl rfl)
theorem dX4_begin_153 : decode cX4_begin 153 = .ok (.iastore, 1) := dk_79 (dk_at dksX4_begin_6 12 rfl rfl)
theorem dX4_begin_154 : decode cX4_begin 154 = .ok (.aload_n 0, 1) := dk_42 (dk_at dksX4_begin_6 13 rfl rfl)
theorem dX4_begin_155 : decode cX4_begin 155 = .ok (.getfield 26, 3) := dk_180 0 26 (dk_at dksX4_begin_6 14 rfl rfl)
theorem dX4_begin_158 : decode cX4_begin 158 = .ok (.iload 6, 2) := dk_21 6 (dk_at dksX4_begin_6 17 rfl rfl)
theorem dX4_begin_160 : decode cX4_begin 160 = .ok (.aload_n 0, 1) := dk_42 (dk_at dksX4_begin_6 19 rfl rfl)
theorem dX4_begin_161 : decode cX4_begin 161 = .ok (.getfield 3, 3) := dk_180 0 3 (dk_at dksX4_begin_6 20 rfl rfl)
theorem dX4_begin_164 : decode cX4_begin 164 = .ok (.getfield 99, 3) := dk_180 0 99 (dk_at dksX4_begin_7 0 rfl rfl)
theorem dX4_begin_167 : decode cX4_begin 167 = .ok (.iload 6, 2) := dk_21 6 (dk_at dksX4_begin_7 3 rfl rfl)
theorem dX4_begin_169 : decode cX4_begin 169 = .ok (.iaload, 1) := dk_46 (dk_at dksX4_begin_7 5 rfl rfl)
theorem dX4_begin_170 : decode cX4_begin 170 = .ok (.iastore, 1) := dk_79 (dk_at dksX4_begin_7 6 rfl rfl)
theorem dX4_begin_171 : decode cX4_begin 171 = .ok (.aload_n 0, 1) := dk_42 (dk_at dksX4_begin_7 7 rfl rfl)
theorem dX4_begin_172 : decode cX4_begin 172 = .ok (.getfield 29, 3) := dk_180 0 29 (dk_at dksX4_begin_7 8 rfl rfl)
theorem dX4_begin_175 : decode cX4_begin 175 = .ok (.iload 6, 2) := dk_21 6 (dk_at dksX4_begin_7 11 rfl rfl)
theorem dX4_begin_177 : decode cX4_begin 177 = .ok (.iconst (-1), 1) := dk_2 (dk_at dksX4_begin_7 13 rfl rfl)
theorem dX4_begin_178 : decode cX4_begin 178 = .ok (.iastore, 1) := dk_79 (dk_at dksX4_begin_7 14 rfl rfl)
theorem dX4_begin_179 : decode cX4_begin 179 = .ok (.aload_n 0, 1) := dk_42 (dk_at dksX4_begin_7 15 rfl rfl)
theorem dX4_begin_180 : decode cX4_begin 180 = .ok (.getfield 32, 3) := dk_180 0 32 (dk_at dksX4_begin_7 16 rfl rfl)
theorem dX4_begin_183 : decode cX4_begin 183 = .ok (.iload 6, 2) := dk_21 6 (dk_at dksX4_begin_7 19 rfl rfl)
theorem dX4_begin_185 : decode cX4_begin 185 = .ok (.iconst (-1), 1) := dk_2 (dk_at dksX4_begin_7 21 rfl rfl)
theorem dX4_begin_186 : decode cX4_begin 186 = .ok (.iastore, 1) := dk_79 (dk_at dksX4_begin_7 22 rfl rfl)
theorem dX4_begin_187 : decode cX4_begin 187 = .ok (.iinc 6 1, 3) := dk_132 6 1 (dk_at dksX4_begin_8 0 rfl rfl)
theorem dX4_begin_190 : decode cX4_begin 190 = .ok (.goto (-51), 3) := dk_167 255 205 (dk_at dksX4_begin_8 3 rfl rfl)
theorem dX4_begin_193 : decode cX4_begin 193 = .ok (.return_, 1) := dk_177 (dk_at dksX4_begin_8 6 rfl rfl)
abbrev cX4_go : ByteArray := prog_4_method_18_code
def yX4_go : MethodName := ⟨RX4, "go", "(I)V"⟩
def dkwX4_go_0 : List UInt8 := [3, 61, 28, 27, 162, 0, 13, 42, 182, 0, 186, 132, 2, 1, 167, 255, 244, 177]
abbrev dktX4_go_0 : List UInt8 := dkwX4_go_0 ++ []
theorem dksX4_go_0 : cX4_go.data.toList.drop 0 = dktX4_go_0 := by decide +kernel
theorem dX4_go_0 : decode cX4_go 0 = .ok (.iconst 0, 1) := dk_3 (dk_at dksX4_go_0 0 rfl rfl)
theorem dX4_go_1 : decode cX4_go 1 = .ok (.istore_n 2, 1) := dk_61 (dk_at dksX4_go_0 1 rfl rfl)
theorem dX4_go_2 : decode cX4_go 2 = .ok (.iload_n 2, 1) := dk_28 (dk_at dksX4_go_0 2 rfl rfl)
theorem dX4_go_3 : decode cX4_go 3 = .ok (.iload_n 1, 1) := dk_27 (dk_at dksX4_go_0 3 rfl rfl)
theorem dX4_go_4 : decode cX4_go 4 = .ok (.if_icmp .ge 13, 3) := dk_162 0 13 (dk_at dksX4_go_0 4 rfl rfl)
theorem dX4_go_7 : decode cX4_go 7 = .ok (.aload_n 0, 1) := dk_42 (dk_at dksX4_go_0 7 rfl rfl)
theorem dX4_go_8 : decode cX4_go 8 = .ok (.invokevirtual 186, 3) := dk_182 0 186 (dk_at dksX4_go_0 8 rfl rfl)
theorem dX4_go_11 : decode cX4_go 11 = .ok (.iinc 2 1, 3) := dk_132 2 1 (dk_at dksX4_go_0 11 rfl rfl)
theorem dX4_go_14 : decode cX4_go 14 = .ok (.goto (-12), 3) := dk_167 255 244 (dk_at dksX4_go_0 14 rfl rfl)
theorem dX4_go_17 : decode cX4_go 17 = .ok (.return_, 1) := dk_177 (dk_at dksX4_go_0 17 rfl rfl)
abbrev cX4_step : ByteArray := prog_4_method_13_code
def yX4_step : MethodName := ⟨RX4, "step", "()V"⟩
def dkwX4_step_16 : List UInt8 := [4, 96, 181, 0, 62, 177]
abbrev dktX4_step_16 : List UInt8 := dkwX4_step_16 ++ []
def dkwX4_step_15 : List UInt8 := [154, 0, 7, 42, 182, 0, 172, 42, 182, 0, 106, 154, 0, 8, 42, 28, 182, 0, 175, 42, 89, 180, 0, 62]
abbrev dktX4_step_15 : List UInt8 := dkwX4_step_15 ++ dktX4_step_16
def dkwX4_step_14 : List UInt8 := [61, 42, 182, 0, 126, 153, 0, 26, 42, 180, 0, 62, 4, 96, 42, 180, 0, 3, 180, 0, 68, 7, 46, 112]
abbrev dktX4_step_14 : List UInt8 := dkwX4_step_14 ++ dktX4_step_15
def dkwX4_step_13 : List UInt8 := [180, 0, 55, 7, 126, 154, 0, 9, 42, 28, 5, 182, 0, 147, 132, 2, 1, 167, 255, 198, 42, 180, 0, 59]
abbrev dktX4_step_13 : List UInt8 := dkwX4_step_13 ++ dktX4_step_14
def dkwX4_step_12 : List UInt8 := [182, 0, 102, 153, 0, 35, 28, 42, 180, 0, 83, 159, 0, 27, 42, 180, 0, 41, 28, 46, 154, 0, 18, 42]
abbrev dktX4_step_12 : List UInt8 := dkwX4_step_12 ++ dktX4_step_13
def dkwX4_step_11 : List UInt8 := [181, 0, 71, 3, 61, 28, 42, 180, 0, 59, 162, 0, 56, 42, 182, 0, 123, 158, 0, 43, 42, 28]
abbrev dktX4_step_11 : List UInt8 := dkwX4_step_11 ++ dktX4_step_12
def dkwX4_step_10 : List UInt8 := [180, 0, 71, 42, 180, 0, 71, 42, 180, 0, 3, 180, 0, 68, 6, 46, 104, 16, 100, 108, 96, 184, 0, 158]
abbrev dktX4_step_10 : List UInt8 := dkwX4_step_10 ++ dktX4_step_11
def dkwX4_step_9 : List UInt8 := [153, 0, 13, 28, 27, 159, 0, 8, 42, 28, 182, 0, 169, 132, 2, 1, 167, 255, 227, 42, 17, 39, 15, 42]
abbrev dktX4_step_9 : List UInt8 := dkwX4_step_9 ++ dktX4_step_10
def dkwX4_step_8 : List UInt8 := [182, 0, 169, 42, 180, 0, 83, 60, 3, 61, 28, 42, 180, 0, 59, 162, 0, 27, 42, 28, 182, 0, 102]
abbrev dktX4_step_8 : List UInt8 := dkwX4_step_8 ++ dktX4_step_9
def dkwX4_step_7 : List UInt8 := [132, 2, 1, 167, 255, 200, 132, 1, 1, 167, 255, 184, 42, 182, 0, 106, 153, 0, 11, 42, 42, 180, 0, 83]
abbrev dktX4_step_7 : List UInt8 := dkwX4_step_7 ++ dktX4_step_8
def dkwX4_step_6 : List UInt8 := [17, 39, 15, 42, 180, 0, 71, 42, 180, 0, 3, 180, 0, 68, 5, 46, 96, 184, 0, 158, 181, 0, 71]
abbrev dktX4_step_6 : List UInt8 := dkwX4_step_6 ++ dktX4_step_7
def dkwX4_step_5 : List UInt8 := [162, 0, 52, 42, 27, 182, 0, 102, 153, 0, 44, 42, 182, 0, 166, 42, 180, 0, 74, 162, 0, 27, 42]
abbrev dktX4_step_5 : List UInt8 := dkwX4_step_5 ++ dktX4_step_6
def dkwX4_step_4 : List UInt8 := [167, 255, 169, 3, 60, 27, 42, 180, 0, 59, 162, 0, 70, 3, 61, 28, 42, 180, 0, 35, 27, 46]
abbrev dktX4_step_4 : List UInt8 := dkwX4_step_4 ++ dktX4_step_5
def dkwX4_step_3 : List UInt8 := [27, 16, 115, 182, 0, 154, 79, 42, 180, 0, 44, 27, 42, 27, 16, 99, 182, 0, 154, 79, 132, 1, 1]
abbrev dktX4_step_3 : List UInt8 := dkwX4_step_3 ++ dktX4_step_4
def dkwX4_step_2 : List UInt8 := [79, 42, 180, 0, 38, 27, 3, 42, 27, 16, 101, 182, 0, 154, 184, 0, 163, 79, 42, 180, 0, 41, 27, 42]
abbrev dktX4_step_2 : List UInt8 := dkwX4_step_2 ++ dktX4_step_3
def dkwX4_step_1 : List UInt8 := [167, 0, 68, 42, 180, 0, 35, 27, 3, 16, 9, 42, 27, 16, 100, 182, 0, 154, 184, 0, 158, 184, 0, 163]
abbrev dktX4_step_1 : List UInt8 := dkwX4_step_1 ++ dktX4_step_2
def dkwX4_step_0 : List UInt8 := [42, 182, 0, 151, 3, 60, 27, 42, 180, 0, 59, 162, 0, 85, 42, 27, 182, 0, 102, 154, 0, 6]
abbrev dktX4_step_0 : List UInt8 := dkwX4_step_0 ++ dktX4_step_1
theorem dksX4_step_0 : cX4_step.data.toList.drop 0 = dktX4_step_0 := by decide +kernel
theorem dksX4_step_1 : cX4_step.data.toList.drop 22 = dktX4_step_1 := dk_seg dksX4_step_0 22 rfl rfl
theorem dksX4_step_2 : cX4_step.data.toList.drop 46 = dktX4_step_2 := dk_seg dksX4_step_1 24 rfl rfl
theorem dksX4_step_3 : cX4_step.data.toList.drop 70 = dktX4_step_3 := dk_seg dksX4_step_2 24 rfl rfl
theorem dksX4_step_4 : cX4_step.data.toList.drop 93 = dktX4_step_4 := dk_seg dksX4_step_3 23 rfl rfl
theorem dksX4_step_5 : cX4_step.data.toList.drop 115 = dktX4_step_5 := dk_seg dksX4_step_4 22 rfl rfl
theorem dksX4_step_6 : cX4_step.data.toList.drop 138 = dktX4_step_6 := dk_seg dksX4_step_5 23 rfl rfl
theorem dksX4_step_7 : cX4_step.data.toList.drop 161 = dktX4_step_7 := dk_seg dksX4_step_6 23 rfl rfl
theorem dksX4_step_8 : cX4_step.data.toList.drop 185 = dktX4_step_8 := dk_seg dksX4_step_7 24 rfl rfl
theorem dksX4_step_9 : cX4_step.data.toList.drop 208 = dktX4_step_9 := dk_seg dksX4_step_8 23 rfl rfl
theorem dksX4_step_10 : cX4_step.data.toList.drop 232 = dktX4_step_10 := dk_seg dksX4_step_9 24 rfl rfl
theorem dksX4_step_11 : cX4_step.data.toList.drop 256 = dktX4_step_11 := dk_seg dksX4_step_10 24 rfl rfl
theorem dksX4_step_12 : cX4_step.data.toList.drop 278 = dktX4_step_12 := dk_seg dksX4_step_11 22 rfl rfl
theorem dksX4_step_13 : cX4_step.data.toList.drop 302 = dktX4_step_13 := dk_seg dksX4_step_12 24 rfl rfl
theorem dksX4_step_14 : cX4_step.data.toList.drop 326 = dktX4_step_14 := dk_seg dksX4_step_13 24 rfl rfl
theorem dksX4_step_15 : cX4_step.data.toList.drop 350 = dktX4_step_15 := dk_seg dksX4_step_14 24 rfl rfl
theorem dksX4_step_16 : cX4_step.data.toList.drop 374 = dktX4_step_16 := dk_seg dksX4_step_15 24 rfl rfl
theorem dX4_step_0 : decode cX4_step 0 = .ok (.aload_n 0, 1) := dk_42 (dk_at dksX4_step_0 0 rfl rfl)
theorem dX4_step_1 : decode cX4_step 1 = .ok (.invokevirtual 151, 3) := dk_182 0 151 (dk_at dksX4_step_0 1 rfl rfl)
theorem dX4_step_4 : decode cX4_step 4 = .ok (.iconst 0, 1) := dk_3 (dk_at dksX4_step_0 4 rfl rfl)
theorem dX4_step_5 : decode cX4_step 5 = .ok (.istore_n 1, 1) := dk_60 (dk_at dksX4_step_0 5 rfl rfl)
theorem dX4_step_6 : decode cX4_step 6 = .ok (.iload_n 1, 1) := dk_27 (dk_at dksX4_step_0 6 rfl rfl)
theorem dX4_step_7 : decode cX4_step 7 = .ok (.aload_n 0, 1) := dk_42 (dk_at dksX4_step_0 7 rfl rfl)
theorem dX4_step_8 : decode cX4_step 8 = .ok (.getfield 59, 3) := dk_180 0 59 (dk_at dksX4_step_0 8 rfl rfl)
theorem dX4_step_11 : decode cX4_step 11 = .ok (.if_icmp .ge 85, 3) := dk_162 0 85 (dk_at dksX4_step_0 11 rfl rfl)
theorem dX4_step_14 : decode cX4_step 14 = .ok (.aload_n 0, 1) := dk_42 (dk_at dksX4_step_0 14 rfl rfl)
theorem dX4_step_15 : decode cX4_step 15 = .ok (.iload_n 1, 1) := dk_27 (dk_at dksX4_step_0 15 rfl rfl)
theorem dX4_step_16 : decode cX4_step 16 = .ok (.invokevirtual 102, 3) := dk_182 0 102 (dk_at dksX4_step_0 16 rfl rfl)
theorem dX4_step_19 : decode cX4_step 19 = .ok (.ifCond .ne 6, 3) := dk_154 0 6 (dk_at dksX4_step_0 19 rfl rfl)
theorem dX4_step_22 : decode cX4_step 22 = .ok (.goto 68, 3) := dk_167 0 68 (dk_at dksX4_step_1 0 rfl rfl)
theorem dX4_step_25 : decode cX4_step 25 = .ok (.aload_n 0, 1) := dk_42 (dk_at dksX4_step_1 3 rfl rfl)
theorem dX4_step_26 : decode cX4_step 26 = .ok (.getfield 35, 3) := dk_180 0 35 (dk_at dksX4_step_1 4 rfl rfl)
theorem dX4_step_29 : decode cX4_step 29 = .ok (.iload_n 1, 1) := dk_27 (dk_at dksX4_step_1 7 rfl rfl)
theorem dX4_step_30 : decode cX4_step 30 = .ok (.iconst 0, 1) := dk_3 (dk_at dksX4_step_1 8 rfl rfl)
theorem dX4_step_31 : decode cX4_step 31 = .ok (.bipush 9, 2) := dk_16 9 (dk_at dksX4_step_1 9 rfl rfl)
theorem dX4_step_33 : decode cX4_step 33 = .ok (.aload_n 0, 1) := dk_42 (dk_at dksX4_step_1 11 rfl rfl)
theorem dX4_step_34 : decode cX4_step 34 = .ok (.iload_n 1, 1) := dk_27 (dk_at dksX4_step_1 12 rfl rfl)
theorem dX4_step_35 : decode cX4_step 35 = .ok (.bipush 100, 2) := dk_16 100 (dk_at dksX4_step_1 13 rfl rfl)
theorem dX4_step_37 : decode cX4_step 37 = .ok (.invokevirtual 154, 3) := dk_182 0 154 (dk_at dksX4_step_1 15 rfl rfl)
theorem dX4_step_40 : decode cX4_step 40 = .ok (.invokestatic 158, 3) := dk_184 0 158 (dk_at dksX4_step_1 18 rfl rfl)
theorem dX4_step_43 : decode cX4_step 43 = .ok (.invokestatic 163, 3) := dk_184 0 163 (dk_at dksX4_step_1 21 rfl rfl)
theorem dX4_step_46 : decode cX4_step 46 = .ok (.iastore, 1) := dk_79 (dk_at dksX4_step_2 0 rfl rfl)
theorem dX4_step_47 : decode cX4_step 47 = .ok (.aload_n 0, 1) := dk_42 (dk_at dksX4_step_2 1 rfl rfl)
theorem dX4_step_48 : decode cX4_step 48 = .ok (.getfield 38, 3) := dk_180 0 38 (dk_at dksX4_step_2 2 rfl rfl)
theorem dX4_step_51 : decode cX4_step 51 = .ok (.iload_n 1, 1) := dk_27 (dk_at dksX4_step_2 5 rfl rfl)
theorem dX4_step_52 : decode cX4_step 52 = .ok (.iconst 0, 1) := dk_3 (dk_at dksX4_step_2 6 rfl rfl)
theorem dX4_step_53 : decode cX4_step 53 = .ok (.aload_n 0, 1) := dk_42 (dk_at dksX4_step_2 7 rfl rfl)
theorem dX4_step_54 : decode cX4_step 54 = .ok (.iload_n 1, 1) := dk_27 (dk_at dksX4_step_2 8 rfl rfl)
theorem dX4_step_55 : decode cX4_step 55 = .ok (.bipush 101, 2) := dk_16 101 (dk_at dksX4_step_2 9 rfl rfl)
theorem dX4_step_57 : decode cX4_step 57 = .ok (.invokevirtual 154, 3) := dk_182 0 154 (dk_at dksX4_step_2 11 rfl rfl)
theorem dX4_step_60 : decode cX4_step 60 = .ok (.invokestatic 163, 3) := dk_184 0 163 (dk_at dksX4_step_2 14 rfl rfl)
theorem dX4_step_63 : decode cX4_step 63 = .ok (.iastore, 1) := dk_79 (dk_at dksX4_step_2 17 rfl rfl)
theorem dX4_step_64 : decode cX4_step 64 = .ok (.aload_n 0, 1) := dk_42 (dk_at dksX4_step_2 18 rfl rfl)
theorem dX4_step_65 : decode cX4_step 65 = .ok (.getfield 41, 3) := dk_180 0 41 (dk_at dksX4_step_2 19 rfl rfl)
theorem dX4_step_68 : decode cX4_step 68 = .ok (.iload_n 1, 1) := dk_27 (dk_at dksX4_step_2 22 rfl rfl)
theorem dX4_step_69 : decode cX4_step 69 = .ok (.aload_n 0, 1) := dk_42 (dk_at dksX4_step_2 23 rfl rfl)
theorem dX4_step_70 : decode cX4_step 70 = .ok (.iload_n 1, 1) := dk_27 (dk_at dksX4_step_3 0 rfl rfl)
theorem dX4_step_71 : decode cX4_step 71 = .ok (.bipush 115, 2) := dk_16 115 (dk_at dksX4_step_3 1 rfl rfl)
theorem dX4_step_73 : decode cX4_step 73 = .ok (.invokevirtual 154, 3) := dk_182 0 154 (dk_at dksX4_step_3 3 rfl rfl)
theorem dX4_step_76 : decode cX4_step 76 = .ok (.iastore, 1) := dk_79 (dk_at dksX4_step_3 6 rfl rfl)
theorem dX4_step_77 : decode cX4_step 77 = .ok (.aload_n 0, 1) := dk_42 (dk_at dksX4_step_3 7 rfl rfl)
theorem dX4_step_78 : decode cX4_step 78 = .ok (.getfield 44, 3) := dk_180 0 44 (dk_at dksX4_step_3 8 rfl rfl)
theorem dX4_step_81 : decode cX4_step 81 = .ok (.iload_n 1, 1) := dk_27 (dk_at dksX4_step_3 11 rfl rfl)
theorem dX4_step_82 : decode cX4_step 82 = .ok (.aload_n 0, 1) := dk_42 (dk_at dksX4_step_3 12 rfl rfl)
theorem dX4_step_83 : decode cX4_step 83 = .ok (.iload_n 1, 1) := dk_27 (dk_at dksX4_step_3 13 rfl rfl)
theorem dX4_step_84 : decode cX4_step 84 = .ok (.bipush 99, 2) := dk_16 99 (dk_at dksX4_step_3 14 rfl rfl)
theorem dX4_step_86 : decode cX4_step 86 = .ok (.invokevirtual 154, 3) := dk_182 0 154 (dk_at dksX4_step_3 16 rfl rfl)
theorem dX4_step_89 : decode cX4_step 89 = .ok (.iastore, 1) := dk_79 (dk_at dksX4_step_3 19 rfl rfl)
theorem dX4_step_90 : decode cX4_step 90 = .ok (.iinc 1 1, 3) := dk_132 1 1 (dk_at dksX4_step_3 20 rfl rfl)
theorem dX4_step_93 : decode cX4_step 93 = .ok (.goto (-87), 3) := dk_167 255 169 (dk_at dksX4_step_4 0 rfl rfl)
theorem dX4_step_96 : decode cX4_step 96 = .ok (.iconst 0, 1) := dk_3 (dk_at dksX4_step_4 3 rfl rfl)
theorem dX4_step_97 : decode cX4_step 97 = .ok (.istore_n 1, 1) := dk_60 (dk_at dksX4_step_4 4 rfl rfl)
theorem dX4_step_98 : decode cX4_step 98 = .ok (.iload_n 1, 1) := dk_27 (dk_at dksX4_step_4 5 rfl rfl)
theorem dX4_step_99 : decode cX4_step 99 = .ok (.aload_n 0, 1) := dk_42 (dk_at dksX4_step_4 6 rfl rfl)
theorem dX4_step_100 : decode cX4_step 100 = .ok (.getfield 59, 3) := dk_180 0 59 (dk_at dksX4_step_4 7 rfl rfl)
theorem dX4_step_103 : decode cX4_step 103 = .ok (.if_icmp .ge 70, 3) := dk_162 0 70 (dk_at dksX4_step_4 10 rfl rfl)
theorem dX4_step_106 : decode cX4_step 106 = .ok (.iconst 0, 1) := dk_3 (dk_at dksX4_step_4 13 rfl rfl)
theorem dX4_step_107 : decode cX4_step 107 = .ok (.istore_n 2, 1) := dk_61 (dk_at dksX4_step_4 14 rfl rfl)
theorem dX4_step_108 : decode cX4_step 108 = .ok (.iload_n 2, 1) := dk_28 (dk_at dksX4_step_4 15 rfl rfl)
theorem dX4_step_109 : decode cX4_step 109 = .ok (.aload_n 0, 1) := dk_42 (dk_at dksX4_step_4 16 rfl rfl)
theorem dX4_step_110 : decode cX4_step 110 = .ok (.getfield 35, 3) := dk_180 0 35 (dk_at dksX4_step_4 17 rfl rfl)
theorem dX4_step_113 : decode cX4_step 113 = .ok (.iload_n 1, 1) := dk_27 (dk_at dksX4_step_4 20 rfl rfl)
theorem dX4_step_114 : decode cX4_step 114 = .ok (.iaload, 1) := dk_46 (dk_at dksX4_step_4 21 rfl rfl)
theorem dX4_step_115 : decode cX4_step 115 = .ok (.if_icmp .ge 52, 3) := dk_162 0 52 (dk_at dksX4_step_5 0 rfl rfl)
theorem dX4_step_118 : decode cX4_step 118 = .ok (.aload_n 0, 1) := dk_42 (dk_at dksX4_step_5 3 rfl rfl)
theorem dX4_step_119 : decode cX4_step 119 = .ok (.iload_n 1, 1) := dk_27 (dk_at dksX4_step_5 4 rfl rfl)
theorem dX4_step_120 : decode cX4_step 120 = .ok (.invokevirtual 102, 3) := dk_182 0 102 (dk_at dksX4_step_5 5 rfl rfl)
theorem dX4_step_123 : decode cX4_step 123 = .ok (.ifCond .eq 44, 3) := dk_153 0 44 (dk_at dksX4_step_5 8 rfl rfl)
theorem dX4_step_126 : decode cX4_step 126 = .ok (.aload_n 0, 1) := dk_42 (dk_at dksX4_step_5 11 rfl rfl)
theorem dX4_step_127 : decode cX4_step 127 = .ok (.invokevirtual 166, 3) := dk_182 0 166 (dk_at dksX4_step_5 12 rfl rfl)
theorem dX4_step_130 : decode cX4_step 130 = .ok (.aload_n 0, 1) := dk_42 (dk_at dksX4_step_5 15 rfl rfl)
theorem dX4_step_131 : decode cX4_step 131 = .ok (.getfield 74, 3) := dk_180 0 74 (dk_at dksX4_step_5 16 rfl rfl)
theorem dX4_step_134 : decode cX4_step 134 = .ok (.if_icmp .ge 27, 3) := dk_162 0 27 (dk_at dksX4_step_5 19 rfl rfl)
theorem dX4_step_137 : decode cX4_step 137 = .ok (.aload_n 0, 1) := dk_42 (dk_at dksX4_step_5 22 rfl rfl)
theorem dX4_step_138 : decode cX4_step 138 = .ok (.sipush 9999, 3) := dk_17 39 15 (dk_at dksX4_step_6 0 rfl rfl)
theorem dX4_step_141 : decode cX4_step 141 = .ok (.aload_n 0, 1) := dk_42 (dk_at dksX4_step_6 3 rfl rfl)
theorem dX4_step_142 : decode cX4_step 142 = .ok (.getfield 71, 3) := dk_180 0 71 (dk_at dksX4_step_6 4 rfl rfl)
theorem dX4_step_145 : decode cX4_step 145 = .ok (.aload_n 0, 1) := dk_42 (dk_at dksX4_step_6 7 rfl rfl)
theorem dX4_step_146 : decode cX4_step 146 = .ok (.getfield 3, 3) := dk_180 0 3 (dk_at dksX4_step_6 8 rfl rfl)
theorem dX4_step_149 : decode cX4_step 149 = .ok (.getfield 68, 3) := dk_180 0 68 (dk_at dksX4_step_6 11 rfl rfl)
theorem dX4_step_152 : decode cX4_step 152 = .ok (.iconst 2, 1) := dk_5 (dk_at dksX4_step_6 14 rfl rfl)
theorem dX4_step_153 : decode cX4_step 153 = .ok (.iaload, 1) := dk_46 (dk_at dksX4_step_6 15 rfl rfl)
theorem dX4_step_154 : decode cX4_step 154 = .ok (.iadd, 1) := dk_96 (dk_at dksX4_step_6 16 rfl rfl)
theorem dX4_step_155 : decode cX4_step 155 = .ok (.invokestatic 158, 3) := dk_184 0 158 (dk_at dksX4_step_6 17 rfl rfl)
theorem dX4_step_158 : decode cX4_step 158 = .ok (.putfield 71, 3) := dk_181 0 71 (dk_at dksX4_step_6 20 rfl rfl)
theorem dX4_step_161 : decode cX4_step 161 = .ok (.iinc 2 1, 3) := dk_132 2 1 (dk_at dksX4_step_7 0 rfl rfl)
theorem dX4_step_164 : decode cX4_step 164 = .ok (.goto (-56), 3) := dk_167 255 200 (dk_at dksX4_step_7 3 rfl rfl)
theorem dX4_step_167 : decode cX4_step 167 = .ok (.iinc 1 1, 3) := dk_132 1 1 (dk_at dksX4_step_7 6 rfl rfl)
theorem dX4_step_170 : decode cX4_step 170 = .ok (.goto (-72), 3) := dk_167 255 184 (dk_at dksX4_step_7 9 rfl rfl)
theorem dX4_step_173 : decode cX4_step 173 = .ok (.aload_n 0, 1) := dk_42 (dk_at dksX4_step_7 12 rfl rfl)
theorem dX4_step_174 : decode cX4_step 174 = .ok (.invokevirtual 106, 3) := dk_182 0 106 (dk_at dksX4_step_7 13 rfl rfl)
theorem dX4_step_177 : decode cX4_step 177 = .ok (.ifCond .eq 11, 3) := dk_153 0 11 (dk_at dksX4_step_7 16 rfl rfl)
theorem dX4_step_180 : decode cX4_step 180 = .ok (.aload_n 0, 1) := dk_42 (dk_at dksX4_step_7 19 rfl rfl)
theorem dX4_step_181 : decode cX4_step 181 = .ok (.aload_n 0, 1) := dk_42 (dk_at dksX4_step_7 20 rfl rfl)
theorem dX4_step_182 : decode cX4_step 182 = .ok (.getfield 83, 3) := dk_180 0 83 (dk_at dksX4_step_7 21 rfl rfl)
theorem dX4_step_185 : decode cX4_step 185 = .ok (.invokevirtual 169, 3) := dk_182 0 169 (dk_at dksX4_step_8 0 rfl rfl)
theorem dX4_step_188 : decode cX4_step 188 = .ok (.aload_n 0, 1) := dk_42 (dk_at dksX4_step_8 3 rfl rfl)
theorem dX4_step_189 : decode cX4_step 189 = .ok (.getfield 83, 3) := dk_180 0 83 (dk_at dksX4_step_8 4 rfl rfl)
theorem dX4_step_192 : decode cX4_step 192 = .ok (.istore_n 1, 1) := dk_60 (dk_at dksX4_step_8 7 rfl rfl)
theorem dX4_step_193 : decode cX4_step 193 = .ok (.iconst 0, 1) := dk_3 (dk_at dksX4_step_8 8 rfl rfl)
theorem dX4_step_194 : decode cX4_step 194 = .ok (.istore_n 2, 1) := dk_61 (dk_at dksX4_step_8 9 rfl rfl)
theorem dX4_step_195 : decode cX4_step 195 = .ok (.iload_n 2, 1) := dk_28 (dk_at dksX4_step_8 10 rfl rfl)
theorem dX4_step_196 : decode cX4_step 196 = .ok (.aload_n 0, 1) := dk_42 (dk_at dksX4_step_8 11 rfl rfl)
theorem dX4_step_197 : decode cX4_step 197 = .ok (.getfield 59, 3) := dk_180 0 59 (dk_at dksX4_step_8 12 rfl rfl)
theorem dX4_step_200 : decode cX4_step 200 = .ok (.if_icmp .ge 27, 3) := dk_162 0 27 (dk_at dksX4_step_8 15 rfl rfl)
theorem dX4_step_203 : decode cX4_step 203 = .ok (.aload_n 0, 1) := dk_42 (dk_at dksX4_step_8 18 rfl rfl)
theorem dX4_step_204 : decode cX4_step 204 = .ok (.iload_n 2, 1) := dk_28 (dk_at dksX4_step_8 19 rfl rfl)
theorem dX4_step_205 : decode cX4_step 205 = .ok (.invokevirtual 102, 3) := dk_182 0 102 (dk_at dksX4_step_8 20 rfl rfl)
theorem dX4_step_208 : decode cX4_step 208 = .ok (.ifCond .eq 13, 3) := dk_153 0 13 (dk_at dksX4_step_9 0 rfl rfl)
theorem dX4_step_211 : decode cX4_step 211 = .ok (.iload_n 2, 1) := dk_28 (dk_at dksX4_step_9 3 rfl rfl)
theorem dX4_step_212 : decode cX4_step 212 = .ok (.iload_n 1, 1) := dk_27 (dk_at dksX4_step_9 4 rfl rfl)
theorem dX4_step_213 : decode cX4_step 213 = .ok (.if_icmp .eq 8, 3) := dk_159 0 8 (dk_at dksX4_step_9 5 rfl rfl)
theorem dX4_step_216 : decode cX4_step 216 = .ok (.aload_n 0, 1) := dk_42 (dk_at dksX4_step_9 8 rfl rfl)
theorem dX4_step_217 : decode cX4_step 217 = .ok (.iload_n 2, 1) := dk_28 (dk_at dksX4_step_9 9 rfl rfl)
theorem dX4_step_218 : decode cX4_step 218 = .ok (.invokevirtual 169, 3) := dk_182 0 169 (dk_at dksX4_step_9 10 rfl rfl)
theorem dX4_step_221 : decode cX4_step 221 = .ok (.iinc 2 1, 3) := dk_132 2 1 (dk_at dksX4_step_9 13 rfl rfl)
theorem dX4_step_224 : decode cX4_step 224 = .ok (.goto (-29), 3) := dk_167 255 227 (dk_at dksX4_step_9 16 rfl rfl)
theorem dX4_step_227 : decode cX4_step 227 = .ok (.aload_n 0, 1) := dk_42 (dk_at dksX4_step_9 19 rfl rfl)
theorem dX4_step_228 : decode cX4_step 228 = .ok (.sipush 9999, 3) := dk_17 39 15 (dk_at dksX4_step_9 20 rfl rfl)
theorem dX4_step_231 : decode cX4_step 231 = .ok (.aload_n 0, 1) := dk_42 (dk_at dksX4_step_9 23 rfl rfl)
theorem dX4_step_232 : decode cX4_step 232 = .ok (.getfield 71, 3) := dk_180 0 71 (dk_at dksX4_step_10 0 rfl rfl)
theorem dX4_step_235 : decode cX4_step 235 = .ok (.aload_n 0, 1) := dk_42 (dk_at dksX4_step_10 3 rfl rfl)
theorem dX4_step_236 : decode cX4_step 236 = .ok (.getfield 71, 3) := dk_180 0 71 (dk_at dksX4_step_10 4 rfl rfl)
theorem dX4_step_239 : decode cX4_step 239 = .ok (.aload_n 0, 1) := dk_42 (dk_at dksX4_step_10 7 rfl rfl)
theorem dX4_step_240 : decode cX4_step 240 = .ok (.getfield 3, 3) := dk_180 0 3 (dk_at dksX4_step_10 8 rfl rfl)
theorem dX4_step_243 : decode cX4_step 243 = .ok (.getfield 68, 3) := dk_180 0 68 (dk_at dksX4_step_10 11 rfl rfl)
theorem dX4_step_246 : decode cX4_step 246 = .ok (.iconst 3, 1) := dk_6 (dk_at dksX4_step_10 14 rfl rfl)
theorem dX4_step_247 : decode cX4_step 247 = .ok (.iaload, 1) := dk_46 (dk_at dksX4_step_10 15 rfl rfl)
theorem dX4_step_248 : decode cX4_step 248 = .ok (.imul, 1) := dk_104 (dk_at dksX4_step_10 16 rfl rfl)
theorem dX4_step_249 : decode cX4_step 249 = .ok (.bipush 100, 2) := dk_16 100 (dk_at dksX4_step_10 17 rfl rfl)
theorem dX4_step_251 : decode cX4_step 251 = .ok (.idiv, 1) := dk_108 (dk_at dksX4_step_10 19 rfl rfl)
theorem dX4_step_252 : decode cX4_step 252 = .ok (.iadd, 1) := dk_96 (dk_at dksX4_step_10 20 rfl rfl)
theorem dX4_step_253 : decode cX4_step 253 = .ok (.invokestatic 158, 3) := dk_184 0 158 (dk_at dksX4_step_10 21 rfl rfl)
theorem dX4_step_256 : decode cX4_step 256 = .ok (.putfield 71, 3) := dk_181 0 71 (dk_at dksX4_step_11 0 rfl rfl)
theorem dX4_step_259 : decode cX4_step 259 = .ok (.iconst 0, 1) := dk_3 (dk_at dksX4_step_11 3 rfl rfl)
theorem dX4_step_260 : decode cX4_step 260 = .ok (.istore_n 2, 1) := dk_61 (dk_at dksX4_step_11 4 rfl rfl)
theorem dX4_step_261 : decode cX4_step 261 = .ok (.iload_n 2, 1) := dk_28 (dk_at dksX4_step_11 5 rfl rfl)
theorem dX4_step_262 : decode cX4_step 262 = .ok (.aload_n 0, 1) := dk_42 (dk_at dksX4_step_11 6 rfl rfl)
theorem dX4_step_263 : decode cX4_step 263 = .ok (.getfield 59, 3) := dk_180 0 59 (dk_at dksX4_step_11 7 rfl rfl)
theorem dX4_step_266 : decode cX4_step 266 = .ok (.if_icmp .ge 56, 3) := dk_162 0 56 (dk_at dksX4_step_11 10 rfl rfl)
theorem dX4_step_269 : decode cX4_step 269 = .ok (.aload_n 0, 1) := dk_42 (dk_at dksX4_step_11 13 rfl rfl)
theorem dX4_step_270 : decode cX4_step 270 = .ok (.invokevirtual 123, 3) := dk_182 0 123 (dk_at dksX4_step_11 14 rfl rfl)
theorem dX4_step_273 : decode cX4_step 273 = .ok (.ifCond .le 43, 3) := dk_158 0 43 (dk_at dksX4_step_11 17 rfl rfl)
theorem dX4_step_276 : decode cX4_step 276 = .ok (.aload_n 0, 1) := dk_42 (dk_at dksX4_step_11 20 rfl rfl)
theorem dX4_step_277 : decode cX4_step 277 = .ok (.iload_n 2, 1) := dk_28 (dk_at dksX4_step_11 21 rfl rfl)
theorem dX4_step_278 : decode cX4_step 278 = .ok (.invokevirtual 102, 3) := dk_182 0 102 (dk_at dksX4_step_12 0 rfl rfl)
theorem dX4_step_281 : decode cX4_step 281 = .ok (.ifCond .eq 35, 3) := dk_153 0 35 (dk_at dksX4_step_12 3 rfl rfl)
theorem dX4_step_284 : decode cX4_step 284 = .ok (.iload_n 2, 1) := dk_28 (dk_at dksX4_step_12 6 rfl rfl)
theorem dX4_step_285 : decode cX4_step 285 = .ok (.aload_n 0, 1) := dk_42 (dk_at dksX4_step_12 7 rfl rfl)
theorem dX4_step_286 : decode cX4_step 286 = .ok (.getfield 83, 3) := dk_180 0 83 (dk_at dksX4_step_12 8 rfl rfl)
theorem dX4_step_289 : decode cX4_step 289 = .ok (.if_icmp .eq 27, 3) := dk_159 0 27 (dk_at dksX4_step_12 11 rfl rfl)
theorem dX4_step_292 : decode cX4_step 292 = .ok (.aload_n 0, 1) := dk_42 (dk_at dksX4_step_12 14 rfl rfl)
theorem dX4_step_293 : decode cX4_step 293 = .ok (.getfield 41, 3) := dk_180 0 41 (dk_at dksX4_step_12 15 rfl rfl)
theorem dX4_step_296 : decode cX4_step 296 = .ok (.iload_n 2, 1) := dk_28 (dk_at dksX4_step_12 18 rfl rfl)
theorem dX4_step_297 : decode cX4_step 297 = .ok (.iaload, 1) := dk_46 (dk_at dksX4_step_12 19 rfl rfl)
theorem dX4_step_298 : decode cX4_step 298 = .ok (.ifCond .ne 18, 3) := dk_154 0 18 (dk_at dksX4_step_12 20 rfl rfl)
theorem dX4_step_301 : decode cX4_step 301 = .ok (.aload_n 0, 1) := dk_42 (dk_at dksX4_step_12 23 rfl rfl)
theorem dX4_step_302 : decode cX4_step 302 = .ok (.getfield 55, 3) := dk_180 0 55 (dk_at dksX4_step_13 0 rfl rfl)
theorem dX4_step_305 : decode cX4_step 305 = .ok (.iconst 4, 1) := dk_7 (dk_at dksX4_step_13 3 rfl rfl)
theorem dX4_step_306 : decode cX4_step 306 = .ok (.iand, 1) := dk_126 (dk_at dksX4_step_13 4 rfl rfl)
theorem dX4_step_307 : decode cX4_step 307 = .ok (.ifCond .ne 9, 3) := dk_154 0 9 (dk_at dksX4_step_13 5 rfl rfl)
theorem dX4_step_310 : decode cX4_step 310 = .ok (.aload_n 0, 1) := dk_42 (dk_at dksX4_step_13 8 rfl rfl)
theorem dX4_step_311 : decode cX4_step 311 = .ok (.iload_n 2, 1) := dk_28 (dk_at dksX4_step_13 9 rfl rfl)
theorem dX4_step_312 : decode cX4_step 312 = .ok (.iconst 2, 1) := dk_5 (dk_at dksX4_step_13 10 rfl rfl)
theorem dX4_step_313 : decode cX4_step 313 = .ok (.invokevirtual 147, 3) := dk_182 0 147 (dk_at dksX4_step_13 11 rfl rfl)
theorem dX4_step_316 : decode cX4_step 316 = .ok (.iinc 2 1, 3) := dk_132 2 1 (dk_at dksX4_step_13 14 rfl rfl)
theorem dX4_step_319 : decode cX4_step 319 = .ok (.goto (-58), 3) := dk_167 255 198 (dk_at dksX4_step_13 17 rfl rfl)
theorem dX4_step_322 : decode cX4_step 322 = .ok (.aload_n 0, 1) := dk_42 (dk_at dksX4_step_13 20 rfl rfl)
theorem dX4_step_323 : decode cX4_step 323 = .ok (.getfield 59, 3) := dk_180 0 59 (dk_at dksX4_step_13 21 rfl rfl)
theorem dX4_step_326 : decode cX4_step 326 = .ok (.istore_n 2, 1) := dk_61 (dk_at dksX4_step_14 0 rfl rfl)
theorem dX4_step_327 : decode cX4_step 327 = .ok (.aload_n 0, 1) := dk_42 (dk_at dksX4_step_14 1 rfl rfl)
theorem dX4_step_328 : decode cX4_step 328 = .ok (.invokevirtual 126, 3) := dk_182 0 126 (dk_at dksX4_step_14 2 rfl rfl)
theorem dX4_step_331 : decode cX4_step 331 = .ok (.ifCond .eq 26, 3) := dk_153 0 26 (dk_at dksX4_step_14 5 rfl rfl)
theorem dX4_step_334 : decode cX4_step 334 = .ok (.aload_n 0, 1) := dk_42 (dk_at dksX4_step_14 8 rfl rfl)
theorem dX4_step_335 : decode cX4_step 335 = .ok (.getfield 62, 3) := dk_180 0 62 (dk_at dksX4_step_14 9 rfl rfl)
theorem dX4_step_338 : decode cX4_step 338 = .ok (.iconst 1, 1) := dk_4 (dk_at dksX4_step_14 12 rfl rfl)
theorem dX4_step_339 : decode cX4_step 339 = .ok (.iadd, 1) := dk_96 (dk_at dksX4_step_14 13 rfl rfl)
theorem dX4_step_340 : decode cX4_step 340 = .ok (.aload_n 0, 1) := dk_42 (dk_at dksX4_step_14 14 rfl rfl)
theorem dX4_step_341 : decode cX4_step 341 = .ok (.getfield 3, 3) := dk_180 0 3 (dk_at dksX4_step_14 15 rfl rfl)
theorem dX4_step_344 : decode cX4_step 344 = .ok (.getfield 68, 3) := dk_180 0 68 (dk_at dksX4_step_14 18 rfl rfl)
theorem dX4_step_347 : decode cX4_step 347 = .ok (.iconst 4, 1) := dk_7 (dk_at dksX4_step_14 21 rfl rfl)
theorem dX4_step_348 : decode cX4_step 348 = .ok (.iaload, 1) := dk_46 (dk_at dksX4_step_14 22 rfl rfl)
theorem dX4_step_349 : decode cX4_step 349 = .ok (.irem, 1) := dk_112 (dk_at dksX4_step_14 23 rfl rfl)
theorem dX4_step_350 : decode cX4_step 350 = .ok (.ifCond .ne 7, 3) := dk_154 0 7 (dk_at dksX4_step_15 0 rfl rfl)
theorem dX4_step_353 : decode cX4_step 353 = .ok (.aload_n 0, 1) := dk_42 (dk_at dksX4_step_15 3 rfl rfl)
theorem dX4_step_354 : decode cX4_step 354 = .ok (.invokevirtual 172, 3) := dk_182 0 172 (dk_at dksX4_step_15 4 rfl rfl)
theorem dX4_step_357 : decode cX4_step 357 = .ok (.aload_n 0, 1) := dk_42 (dk_at dksX4_step_15 7 rfl rfl)
theorem dX4_step_358 : decode cX4_step 358 = .ok (.invokevirtual 106, 3) := dk_182 0 106 (dk_at dksX4_step_15 8 rfl rfl)
theorem dX4_step_361 : decode cX4_step 361 = .ok (.ifCond .ne 8, 3) := dk_154 0 8 (dk_at dksX4_step_15 11 rfl rfl)
theorem dX4_step_364 : decode cX4_step 364 = .ok (.aload_n 0, 1) := dk_42 (dk_at dksX4_step_15 14 rfl rfl)
theorem dX4_step_365 : decode cX4_step 365 = .ok (.iload_n 2, 1) := dk_28 (dk_at dksX4_step_15 15 rfl rfl)
theorem dX4_step_366 : decode cX4_step 366 = .ok (.invokevirtual 175, 3) := dk_182 0 175 (dk_at dksX4_step_15 16 rfl rfl)
theorem dX4_step_369 : decode cX4_step 369 = .ok (.aload_n 0, 1) := dk_42 (dk_at dksX4_step_15 19 rfl rfl)
theorem dX4_step_370 : decode cX4_step 370 = .ok (.dup, 1) := dk_89 (dk_at dksX4_step_15 20 rfl rfl)
theorem dX4_step_371 : decode cX4_step 371 = .ok (.getfield 62, 3) := dk_180 0 62 (dk_at dksX4_step_15 21 rfl rfl)
theorem dX4_step_374 : decode cX4_step 374 = .ok (.iconst 1, 1) := dk_4 (dk_at dksX4_step_16 0 rfl rfl)
theorem dX4_step_375 : decode cX4_step 375 = .ok (.iadd, 1) := dk_96 (dk_at dksX4_step_16 1 rfl rfl)
theorem dX4_step_376 : decode cX4_step 376 = .ok (.putfield 62, 3) := dk_181 0 62 (dk_at dksX4_step_16 2 rfl rfl)
theorem dX4_step_379 : decode cX4_step 379 = .ok (.return_, 1) := dk_177 (dk_at dksX4_step_16 5 rfl rfl)
abbrev cX4_opens : ByteArray := prog_4_method_12_code
def yX4_opens : MethodName := ⟨RX4, "opens", "()V"⟩
def dkwX4_opens_2 : List UInt8 := [180, 0, 83, 4, 182, 0, 147, 177]
abbrev dktX4_opens_2 : List UInt8 := dkwX4_opens_2 ++ []
def dkwX4_opens_1 : List UInt8 := [159, 0, 30, 42, 180, 0, 83, 42, 180, 0, 80, 160, 0, 19, 42, 182, 0, 106, 153, 0, 12, 42, 42]
abbrev dktX4_opens_1 : List UInt8 := dkwX4_opens_1 ++ dktX4_opens_2
def dkwX4_opens_0 : List UInt8 := [42, 180, 0, 62, 42, 180, 0, 3, 180, 0, 68, 16, 8, 46, 160, 0, 38, 42, 180, 0, 80, 2]
abbrev dktX4_opens_0 : List UInt8 := dkwX4_opens_0 ++ dktX4_opens_1
theorem dksX4_opens_0 : cX4_opens.data.toList.drop 0 = dktX4_opens_0 := by decide +kernel
theorem dksX4_opens_1 : cX4_opens.data.toList.drop 22 = dktX4_opens_1 := dk_seg dksX4_opens_0 22 rfl rfl
theorem dksX4_opens_2 : cX4_opens.data.toList.drop 45 = dktX4_opens_2 := dk_seg dksX4_opens_1 23 rfl rfl
theorem dX4_opens_0 : decode cX4_opens 0 = .ok (.aload_n 0, 1) := dk_42 (dk_at dksX4_opens_0 0 rfl rfl)
theorem dX4_opens_1 : decode cX4_opens 1 = .ok (.getfield 62, 3) := dk_180 0 62 (dk_at dksX4_opens_0 1 rfl rfl)
theorem dX4_opens_4 : decode cX4_opens 4 = .ok (.aload_n 0, 1) := dk_42 (dk_at dksX4_opens_0 4 rfl rfl)
theorem dX4_opens_5 : decode cX4_opens 5 = .ok (.getfield 3, 3) := dk_180 0 3 (dk_at dksX4_opens_0 5 rfl rfl)
theorem dX4_opens_8 : decode cX4_opens 8 = .ok (.getfield 68, 3) := dk_180 0 68 (dk_at dksX4_opens_0 8 rfl rfl)
theorem dX4_opens_11 : decode cX4_opens 11 = .ok (.bipush 8, 2) := dk_16 8 (dk_at dksX4_opens_0 11 rfl rfl)
theorem dX4_opens_13 : decode cX4_opens 13 = .ok (.iaload, 1) := dk_46 (dk_at dksX4_opens_0 13 rfl rfl)
theorem dX4_opens_14 : decode cX4_opens 14 = .ok (.if_icmp .ne 38, 3) := dk_160 0 38 (dk_at dksX4_opens_0 14 rfl rfl)
theorem dX4_opens_17 : decode cX4_opens 17 = .ok (.aload_n 0, 1) := dk_42 (dk_at dksX4_opens_0 17 rfl rfl)
theorem dX4_opens_18 : decode cX4_opens 18 = .ok (.getfield 80, 3) := dk_180 0 80 (dk_at dksX4_opens_0 18 rfl rfl)
theorem dX4_opens_21 : decode cX4_opens 21 = .ok (.iconst (-1), 1) := dk_2 (dk_at dksX4_opens_0 21 rfl rfl)
theorem dX4_opens_22 : decode cX4_opens 22 = .ok (.if_icmp .eq 30, 3) := dk_159 0 30 (dk_at dksX4_opens_1 0 rfl rfl)
theorem dX4_opens_25 : decode cX4_opens 25 = .ok (.aload_n 0, 1) := dk_42 (dk_at dksX4_opens_1 3 rfl rfl)
theorem dX4_opens_26 : decode cX4_opens 26 = .ok (.getfield 83, 3) := dk_180 0 83 (dk_at dksX4_opens_1 4 rfl rfl)
theorem dX4_opens_29 : decode cX4_opens 29 = .ok (.aload_n 0, 1) := dk_42 (dk_at dksX4_opens_1 7 rfl rfl)
theorem dX4_opens_30 : decode cX4_opens 30 = .ok (.getfield 80, 3) := dk_180 0 80 (dk_at dksX4_opens_1 8 rfl rfl)
theorem dX4_opens_33 : decode cX4_opens 33 = .ok (.if_icmp .ne 19, 3) := dk_160 0 19 (dk_at dksX4_opens_1 11 rfl rfl)
theorem dX4_opens_36 : decode cX4_opens 36 = .ok (.aload_n 0, 1) := dk_42 (dk_at dksX4_opens_1 14 rfl rfl)
theorem dX4_opens_37 : decode cX4_opens 37 = .ok (.invokevirtual 106, 3) := dk_182 0 106 (dk_at dksX4_opens_1 15 rfl rfl)
theorem dX4_opens_40 : decode cX4_opens 40 = .ok (.ifCond .eq 12, 3) := dk_153 0 12 (dk_at dksX4_opens_1 18 rfl rfl)
theorem dX4_opens_43 : decode cX4_opens 43 = .ok (.aload_n 0, 1) := dk_42 (dk_at dksX4_opens_1 21 rfl rfl)
theorem dX4_opens_44 : decode cX4_opens 44 = .ok (.aload_n 0, 1) := dk_42 (dk_at dksX4_opens_1 22 rfl rfl)
theorem dX4_opens_45 : decode cX4_opens 45 = .ok (.getfield 83, 3) := dk_180 0 83 (dk_at dksX4_opens_2 0 rfl rfl)
theorem dX4_opens_48 : decode cX4_opens 48 = .ok (.iconst 1, 1) := dk_4 (dk_at dksX4_opens_2 3 rfl rfl)
theorem dX4_opens_49 : decode cX4_opens 49 = .ok (.invokevirtual 147, 3) := dk_182 0 147 (dk_at dksX4_opens_2 4 rfl rfl)
theorem dX4_opens_52 : decode cX4_opens 52 = .ok (.return_, 1) := dk_177 (dk_at dksX4_opens_2 7 rfl rfl)
abbrev cX4_hasQueen : ByteArray := prog_4_method_4_code
def yX4_hasQueen : MethodName := ⟨RX4, "hasQueen", "()Z"⟩
def dkwX4_hasQueen_0 : List UInt8 := [42, 42, 180, 0, 83, 182, 0, 102, 172]
abbrev dktX4_hasQueen_0 : List UInt8 := dkwX4_hasQueen_0 ++ []
theorem dksX4_hasQueen_0 : cX4_hasQueen.data.toList.drop 0 = dktX4_hasQueen_0 := by decide +kernel
theorem dX4_hasQueen_0 : decode cX4_hasQueen 0 = .ok (.aload_n 0, 1) := dk_42 (dk_at dksX4_hasQueen_0 0 rfl rfl)
theorem dX4_hasQueen_1 : decode cX4_hasQueen 1 = .ok (.aload_n 0, 1) := dk_42 (dk_at dksX4_hasQueen_0 1 rfl rfl)
theorem dX4_hasQueen_2 : decode cX4_hasQueen 2 = .ok (.getfield 83, 3) := dk_180 0 83 (dk_at dksX4_hasQueen_0 2 rfl rfl)
theorem dX4_hasQueen_5 : decode cX4_hasQueen 5 = .ok (.invokevirtual 102, 3) := dk_182 0 102 (dk_at dksX4_hasQueen_0 5 rfl rfl)
theorem dX4_hasQueen_8 : decode cX4_hasQueen 8 = .ok (.ireturn, 1) := dk_172 (dk_at dksX4_hasQueen_0 8 rfl rfl)
abbrev cX4_isThere : ByteArray := prog_4_method_3_code
def yX4_isThere : MethodName := ⟨RX4, "isThere", "(I)Z"⟩
def dkwX4_isThere_0 : List UInt8 := [27, 2, 159, 0, 16, 42, 180, 0, 22, 27, 46, 154, 0, 7, 4, 167, 0, 4, 3, 172]
abbrev dktX4_isThere_0 : List UInt8 := dkwX4_isThere_0 ++ []
theorem dksX4_isThere_0 : cX4_isThere.data.toList.drop 0 = dktX4_isThere_0 := by decide +kernel
theorem dX4_isThere_0 : decode cX4_isThere 0 = .ok (.iload_n 1, 1) := dk_27 (dk_at dksX4_isThere_0 0 rfl rfl)
theorem dX4_isThere_1 : decode cX4_isThere 1 = .ok (.iconst (-1), 1) := dk_2 (dk_at dksX4_isThere_0 1 rfl rfl)
theorem dX4_isThere_2 : decode cX4_isThere 2 = .ok (.if_icmp .eq 16, 3) := dk_159 0 16 (dk_at dksX4_isThere_0 2 rfl rfl)
theorem dX4_isThere_5 : decode cX4_isThere 5 = .ok (.aload_n 0, 1) := dk_42 (dk_at dksX4_isThere_0 5 rfl rfl)
theorem dX4_isThere_6 : decode cX4_isThere 6 = .ok (.getfield 22, 3) := dk_180 0 22 (dk_at dksX4_isThere_0 6 rfl rfl)
theorem dX4_isThere_9 : decode cX4_isThere 9 = .ok (.iload_n 1, 1) := dk_27 (dk_at dksX4_isThere_0 9 rfl rfl)
theorem dX4_isThere_10 : decode cX4_isThere 10 = .ok (.iaload, 1) := dk_46 (dk_at dksX4_isThere_0 10 rfl rfl)
theorem dX4_isThere_11 : decode cX4_isThere 11 = .ok (.ifCond .ne 7, 3) := dk_154 0 7 (dk_at dksX4_isThere_0 11 rfl rfl)
theorem dX4_isThere_14 : decode cX4_isThere 14 = .ok (.iconst 1, 1) := dk_4 (dk_at dksX4_isThere_0 14 rfl rfl)
theorem dX4_isThere_15 : decode cX4_isThere 15 = .ok (.goto 4, 3) := dk_167 0 4 (dk_at dksX4_isThere_0 15 rfl rfl)
theorem dX4_isThere_18 : decode cX4_isThere 18 = .ok (.iconst 0, 1) := dk_3 (dk_at dksX4_isThere_0 18 rfl rfl)
theorem dX4_isThere_19 : decode cX4_isThere 19 = .ok (.ireturn, 1) := dk_172 (dk_at dksX4_isThere_0 19 rfl rfl)
abbrev cX4_ends : ByteArray := prog_4_method_11_code
def yX4_ends : MethodName := ⟨RX4, "ends", "(II)V"⟩
def dkwX4_ends_0 : List UInt8 := [42, 180, 0, 22, 27, 28, 79, 42, 180, 0, 29, 27, 42, 180, 0, 62, 79, 177]
abbrev dktX4_ends_0 : List UInt8 := dkwX4_ends_0 ++ []
theorem dksX4_ends_0 : cX4_ends.data.toList.drop 0 = dktX4_ends_0 := by decide +kernel
theorem dX4_ends_0 : decode cX4_ends 0 = .ok (.aload_n 0, 1) := dk_42 (dk_at dksX4_ends_0 0 rfl rfl)
theorem dX4_ends_1 : decode cX4_ends 1 = .ok (.getfield 22, 3) := dk_180 0 22 (dk_at dksX4_ends_0 1 rfl rfl)
theorem dX4_ends_4 : decode cX4_ends 4 = .ok (.iload_n 1, 1) := dk_27 (dk_at dksX4_ends_0 4 rfl rfl)
theorem dX4_ends_5 : decode cX4_ends 5 = .ok (.iload_n 2, 1) := dk_28 (dk_at dksX4_ends_0 5 rfl rfl)
theorem dX4_ends_6 : decode cX4_ends 6 = .ok (.iastore, 1) := dk_79 (dk_at dksX4_ends_0 6 rfl rfl)
theorem dX4_ends_7 : decode cX4_ends 7 = .ok (.aload_n 0, 1) := dk_42 (dk_at dksX4_ends_0 7 rfl rfl)
theorem dX4_ends_8 : decode cX4_ends 8 = .ok (.getfield 29, 3) := dk_180 0 29 (dk_at dksX4_ends_0 8 rfl rfl)
theorem dX4_ends_11 : decode cX4_ends 11 = .ok (.iload_n 1, 1) := dk_27 (dk_at dksX4_ends_0 11 rfl rfl)
theorem dX4_ends_12 : decode cX4_ends 12 = .ok (.aload_n 0, 1) := dk_42 (dk_at dksX4_ends_0 12 rfl rfl)
theorem dX4_ends_13 : decode cX4_ends 13 = .ok (.getfield 62, 3) := dk_180 0 62 (dk_at dksX4_ends_0 13 rfl rfl)
theorem dX4_ends_16 : decode cX4_ends 16 = .ok (.iastore, 1) := dk_79 (dk_at dksX4_ends_0 16 rfl rfl)
theorem dX4_ends_17 : decode cX4_ends 17 = .ok (.return_, 1) := dk_177 (dk_at dksX4_ends_0 17 rfl rfl)
abbrev cX4_worthOf : ByteArray := prog_4_method_9_code
def yX4_worthOf : MethodName := ⟨RX4, "worthOf", "(II)I"⟩
def dkwX4_worthOf_0 : List UInt8 := [42, 27, 182, 0, 133, 42, 180, 0, 47, 28, 42, 180, 0, 3, 180, 0, 116, 184, 0, 137, 172]
abbrev dktX4_worthOf_0 : List UInt8 := dkwX4_worthOf_0 ++ []
theorem dksX4_worthOf_0 : cX4_worthOf.data.toList.drop 0 = dktX4_worthOf_0 := by decide +kernel
theorem dX4_worthOf_0 : decode cX4_worthOf 0 = .ok (.aload_n 0, 1) := dk_42 (dk_at dksX4_worthOf_0 0 rfl rfl)
theorem dX4_worthOf_1 : decode cX4_worthOf 1 = .ok (.iload_n 1, 1) := dk_27 (dk_at dksX4_worthOf_0 1 rfl rfl)
theorem dX4_worthOf_2 : decode cX4_worthOf 2 = .ok (.invokevirtual 133, 3) := dk_182 0 133 (dk_at dksX4_worthOf_0 2 rfl rfl)
theorem dX4_worthOf_5 : decode cX4_worthOf 5 = .ok (.aload_n 0, 1) := dk_42 (dk_at dksX4_worthOf_0 5 rfl rfl)
theorem dX4_worthOf_6 : decode cX4_worthOf 6 = .ok (.getfield 47, 3) := dk_180 0 47 (dk_at dksX4_worthOf_0 6 rfl rfl)
theorem dX4_worthOf_9 : decode cX4_worthOf 9 = .ok (.iload_n 2, 1) := dk_28 (dk_at dksX4_worthOf_0 9 rfl rfl)
theorem dX4_worthOf_10 : decode cX4_worthOf 10 = .ok (.aload_n 0, 1) := dk_42 (dk_at dksX4_worthOf_0 10 rfl rfl)
theorem dX4_worthOf_11 : decode cX4_worthOf 11 = .ok (.getfield 3, 3) := dk_180 0 3 (dk_at dksX4_worthOf_0 11 rfl rfl)
theorem dX4_worthOf_14 : decode cX4_worthOf 14 = .ok (.getfield 116, 3) := dk_180 0 116 (dk_at dksX4_worthOf_0 14 rfl rfl)
theorem dX4_worthOf_17 : decode cX4_worthOf 17 = .ok (.invokestatic 137, 3) := dk_184 0 137 (dk_at dksX4_worthOf_0 17 rfl rfl)
theorem dX4_worthOf_20 : decode cX4_worthOf 20 = .ok (.ireturn, 1) := dk_172 (dk_at dksX4_worthOf_0 20 rfl rfl)
abbrev cX4_spell : ByteArray := prog_4_method_8_code
def yX4_spell : MethodName := ⟨RX4, "spell", "(I)V"⟩
def dkwX4_spell_9 : List UInt8 := [42, 180, 0, 71, 79, 177]
abbrev dktX4_spell_9 : List UInt8 := dkwX4_spell_9 ++ []
def dkwX4_spell_8 : List UInt8 := [180, 0, 89, 182, 0, 129, 16, 44, 123, 136, 167, 0, 4, 3, 79, 42, 180, 0, 3, 180, 0, 116, 16, 102]
abbrev dktX4_spell_8 : List UInt8 := dkwX4_spell_8 ++ dktX4_spell_9
def dkwX4_spell_7 : List UInt8 := [180, 0, 116, 16, 107, 42, 182, 0, 126, 153, 0, 26, 42, 180, 0, 18, 27, 42, 180, 0, 83, 42]
abbrev dktX4_spell_7 : List UInt8 := dkwX4_spell_7 ++ dktX4_spell_8
def dkwX4_spell_6 : List UInt8 := [5, 126, 154, 0, 16, 42, 180, 0, 3, 180, 0, 68, 16, 6, 46, 167, 0, 4, 3, 79, 42, 180, 0, 3]
abbrev dktX4_spell_6 : List UInt8 := dkwX4_spell_6 ++ dktX4_spell_7
def dkwX4_spell_5 : List UInt8 := [180, 0, 116, 16, 112, 42, 182, 0, 106, 153, 0, 33, 27, 42, 180, 0, 83, 159, 0, 25, 42, 180, 0, 55]
abbrev dktX4_spell_5 : List UInt8 := dkwX4_spell_5 ++ dktX4_spell_6
def dkwX4_spell_4 : List UInt8 := [180, 0, 116, 16, 113, 42, 182, 0, 106, 153, 0, 7, 4, 167, 0, 4, 3, 79, 42, 180, 0, 3]
abbrev dktX4_spell_4 : List UInt8 := dkwX4_spell_4 ++ dktX4_spell_5
def dkwX4_spell_3 : List UInt8 := [42, 182, 0, 119, 79, 42, 180, 0, 3, 180, 0, 116, 16, 114, 42, 182, 0, 123, 79, 42, 180, 0, 3]
abbrev dktX4_spell_3 : List UInt8 := dkwX4_spell_3 ++ dktX4_spell_4
def dkwX4_spell_2 : List UInt8 := [180, 0, 3, 180, 0, 116, 16, 119, 42, 180, 0, 26, 27, 46, 79, 42, 180, 0, 3, 180, 0, 116, 16, 110]
abbrev dktX4_spell_2 : List UInt8 := dkwX4_spell_2 ++ dktX4_spell_3
def dkwX4_spell_1 : List UInt8 := [160, 0, 10, 42, 180, 0, 62, 167, 0, 14, 42, 180, 0, 62, 42, 180, 0, 32, 27, 46, 100, 79, 42]
abbrev dktX4_spell_1 : List UInt8 := dkwX4_spell_1 ++ dktX4_spell_2
def dkwX4_spell_0 : List UInt8 := [42, 180, 0, 3, 182, 0, 113, 42, 180, 0, 3, 180, 0, 116, 16, 97, 42, 180, 0, 32, 27, 46, 2]
abbrev dktX4_spell_0 : List UInt8 := dkwX4_spell_0 ++ dktX4_spell_1
theorem dksX4_spell_0 : cX4_spell.data.toList.drop 0 = dktX4_spell_0 := by decide +kernel
theorem dksX4_spell_1 : cX4_spell.data.toList.drop 23 = dktX4_spell_1 := dk_seg dksX4_spell_0 23 rfl rfl
theorem dksX4_spell_2 : cX4_spell.data.toList.drop 46 = dktX4_spell_2 := dk_seg dksX4_spell_1 23 rfl rfl
theorem dksX4_spell_3 : cX4_spell.data.toList.drop 70 = dktX4_spell_3 := dk_seg dksX4_spell_2 24 rfl rfl
theorem dksX4_spell_4 : cX4_spell.data.toList.drop 93 = dktX4_spell_4 := dk_seg dksX4_spell_3 23 rfl rfl
theorem dksX4_spell_5 : cX4_spell.data.toList.drop 115 = dktX4_spell_5 := dk_seg dksX4_spell_4 22 rfl rfl
theorem dksX4_spell_6 : cX4_spell.data.toList.drop 139 = dktX4_spell_6 := dk_seg dksX4_spell_5 24 rfl rfl
theorem dksX4_spell_7 : cX4_spell.data.toList.drop 163 = dktX4_spell_7 := dk_seg dksX4_spell_6 24 rfl rfl
theorem dksX4_spell_8 : cX4_spell.data.toList.drop 185 = dktX4_spell_8 := dk_seg dksX4_spell_7 22 rfl rfl
theorem dksX4_spell_9 : cX4_spell.data.toList.drop 209 = dktX4_spell_9 := dk_seg dksX4_spell_8 24 rfl rfl
theorem dX4_spell_0 : decode cX4_spell 0 = .ok (.aload_n 0, 1) := dk_42 (dk_at dksX4_spell_0 0 rfl rfl)
theorem dX4_spell_1 : decode cX4_spell 1 = .ok (.getfield 3, 3) := dk_180 0 3 (dk_at dksX4_spell_0 1 rfl rfl)
theorem dX4_spell_4 : decode cX4_spell 4 = .ok (.invokevirtual 113, 3) := dk_182 0 113 (dk_at dksX4_spell_0 4 rfl rfl)
theorem dX4_spell_7 : decode cX4_spell 7 = .ok (.aload_n 0, 1) := dk_42 (dk_at dksX4_spell_0 7 rfl rfl)
theorem dX4_spell_8 : decode cX4_spell 8 = .ok (.getfield 3, 3) := dk_180 0 3 (dk_at dksX4_spell_0 8 rfl rfl)
theorem dX4_spell_11 : decode cX4_spell 11 = .ok (.getfield 116, 3) := dk_180 0 116 (dk_at dksX4_spell_0 11 rfl rfl)
theorem dX4_spell_14 : decode cX4_spell 14 = .ok (.bipush 97, 2) := dk_16 97 (dk_at dksX4_spell_0 14 rfl rfl)
theorem dX4_spell_16 : decode cX4_spell 16 = .ok (.aload_n 0, 1) := dk_42 (dk_at dksX4_spell_0 16 rfl rfl)
theorem dX4_spell_17 : decode cX4_spell 17 = .ok (.getfield 32, 3) := dk_180 0 32 (dk_at dksX4_spell_0 17 rfl rfl)
theorem dX4_spell_20 : decode cX4_spell 20 = .ok (.iload_n 1, 1) := dk_27 (dk_at dksX4_spell_0 20 rfl rfl)
theorem dX4_spell_21 : decode cX4_spell 21 = .ok (.iaload, 1) := dk_46 (dk_at dksX4_spell_0 21 rfl rfl)
theorem dX4_spell_22 : decode cX4_spell 22 = .ok (.iconst (-1), 1) := dk_2 (dk_at dksX4_spell_0 22 rfl rfl)
theorem dX4_spell_23 : decode cX4_spell 23 = .ok (.if_icmp .ne 10, 3) := dk_160 0 10 (dk_at dksX4_spell_1 0 rfl rfl)
theorem dX4_spell_26 : decode cX4_spell 26 = .ok (.aload_n 0, 1) := dk_42 (dk_at dksX4_spell_1 3 rfl rfl)
theorem dX4_spell_27 : decode cX4_spell 27 = .ok (.getfield 62, 3) := dk_180 0 62 (dk_at dksX4_spell_1 4 rfl rfl)
theorem dX4_spell_30 : decode cX4_spell 30 = .ok (.goto 14, 3) := dk_167 0 14 (dk_at dksX4_spell_1 7 rfl rfl)
theorem dX4_spell_33 : decode cX4_spell 33 = .ok (.aload_n 0, 1) := dk_42 (dk_at dksX4_spell_1 10 rfl rfl)
theorem dX4_spell_34 : decode cX4_spell 34 = .ok (.getfield 62, 3) := dk_180 0 62 (dk_at dksX4_spell_1 11 rfl rfl)
theorem dX4_spell_37 : decode cX4_spell 37 = .ok (.aload_n 0, 1) := dk_42 (dk_at dksX4_spell_1 14 rfl rfl)
theorem dX4_spell_38 : decode cX4_spell 38 = .ok (.getfield 32, 3) := dk_180 0 32 (dk_at dksX4_spell_1 15 rfl rfl)
theorem dX4_spell_41 : decode cX4_spell 41 = .ok (.iload_n 1, 1) := dk_27 (dk_at dksX4_spell_1 18 rfl rfl)
theorem dX4_spell_42 : decode cX4_spell 42 = .ok (.iaload, 1) := dk_46 (dk_at dksX4_spell_1 19 rfl rfl)
theorem dX4_spell_43 : decode cX4_spell 43 = .ok (.isub, 1) := dk_100 (dk_at dksX4_spell_1 20 rfl rfl)
theorem dX4_spell_44 : decode cX4_spell 44 = .ok (.iastore, 1) := dk_79 (dk_at dksX4_spell_1 21 rfl rfl)
theorem dX4_spell_45 : decode cX4_spell 45 = .ok (.aload_n 0, 1) := dk_42 (dk_at dksX4_spell_1 22 rfl rfl)
theorem dX4_spell_46 : decode cX4_spell 46 = .ok (.getfield 3, 3) := dk_180 0 3 (dk_at dksX4_spell_2 0 rfl rfl)
theorem dX4_spell_49 : decode cX4_spell 49 = .ok (.getfield 116, 3) := dk_180 0 116 (dk_at dksX4_spell_2 3 rfl rfl)
theorem dX4_spell_52 : decode cX4_spell 52 = .ok (.bipush 119, 2) := dk_16 119 (dk_at dksX4_spell_2 6 rfl rfl)
theorem dX4_spell_54 : decode cX4_spell 54 = .ok (.aload_n 0, 1) := dk_42 (dk_at dksX4_spell_2 8 rfl rfl)
theorem dX4_spell_55 : decode cX4_spell 55 = .ok (.getfield 26, 3) := dk_180 0 26 (dk_at dksX4_spell_2 9 rfl rfl)
theorem dX4_spell_58 : decode cX4_spell 58 = .ok (.iload_n 1, 1) := dk_27 (dk_at dksX4_spell_2 12 rfl rfl)
theorem dX4_spell_59 : decode cX4_spell 59 = .ok (.iaload, 1) := dk_46 (dk_at dksX4_spell_2 13 rfl rfl)
theorem dX4_spell_60 : decode cX4_spell 60 = .ok (.iastore, 1) := dk_79 (dk_at dksX4_spell_2 14 rfl rfl)
theorem dX4_spell_61 : decode cX4_spell 61 = .ok (.aload_n 0, 1) := dk_42 (dk_at dksX4_spell_2 15 rfl rfl)
theorem dX4_spell_62 : decode cX4_spell 62 = .ok (.getfield 3, 3) := dk_180 0 3 (dk_at dksX4_spell_2 16 rfl rfl)
theorem dX4_spell_65 : decode cX4_spell 65 = .ok (.getfield 116, 3) := dk_180 0 116 (dk_at dksX4_spell_2 19 rfl rfl)
theorem dX4_spell_68 : decode cX4_spell 68 = .ok (.bipush 110, 2) := dk_16 110 (dk_at dksX4_spell_2 22 rfl rfl)
theorem dX4_spell_70 : decode cX4_spell 70 = .ok (.aload_n 0, 1) := dk_42 (dk_at dksX4_spell_3 0 rfl rfl)
theorem dX4_spell_71 : decode cX4_spell 71 = .ok (.invokevirtual 119, 3) := dk_182 0 119 (dk_at dksX4_spell_3 1 rfl rfl)
theorem dX4_spell_74 : decode cX4_spell 74 = .ok (.iastore, 1) := dk_79 (dk_at dksX4_spell_3 4 rfl rfl)
theorem dX4_spell_75 : decode cX4_spell 75 = .ok (.aload_n 0, 1) := dk_42 (dk_at dksX4_spell_3 5 rfl rfl)
theorem dX4_spell_76 : decode cX4_spell 76 = .ok (.getfield 3, 3) := dk_180 0 3 (dk_at dksX4_spell_3 6 rfl rfl)
theorem dX4_spell_79 : decode cX4_spell 79 = .ok (.getfield 116, 3) := dk_180 0 116 (dk_at dksX4_spell_3 9 rfl rfl)
theorem dX4_spell_82 : decode cX4_spell 82 = .ok (.bipush 114, 2) := dk_16 114 (dk_at dksX4_spell_3 12 rfl rfl)
theorem dX4_spell_84 : decode cX4_spell 84 = .ok (.aload_n 0, 1) := dk_42 (dk_at dksX4_spell_3 14 rfl rfl)
theorem dX4_spell_85 : decode cX4_spell 85 = .ok (.invokevirtual 123, 3) := dk_182 0 123 (dk_at dksX4_spell_3 15 rfl rfl)
theorem dX4_spell_88 : decode cX4_spell 88 = .ok (.iastore, 1) := dk_79 (dk_at dksX4_spell_3 18 rfl rfl)
theorem dX4_spell_89 : decode cX4_spell 89 = .ok (.aload_n 0, 1) := dk_42 (dk_at dksX4_spell_3 19 rfl rfl)
theorem dX4_spell_90 : decode cX4_spell 90 = .ok (.getfield 3, 3) := dk_180 0 3 (dk_at dksX4_spell_3 20 rfl rfl)
theorem dX4_spell_93 : decode cX4_spell 93 = .ok (.getfield 116, 3) := dk_180 0 116 (dk_at dksX4_spell_4 0 rfl rfl)
theorem dX4_spell_96 : decode cX4_spell 96 = .ok (.bipush 113, 2) := dk_16 113 (dk_at dksX4_spell_4 3 rfl rfl)
theorem dX4_spell_98 : decode cX4_spell 98 = .ok (.aload_n 0, 1) := dk_42 (dk_at dksX4_spell_4 5 rfl rfl)
theorem dX4_spell_99 : decode cX4_spell 99 = .ok (.invokevirtual 106, 3) := dk_182 0 106 (dk_at dksX4_spell_4 6 rfl rfl)
theorem dX4_spell_102 : decode cX4_spell 102 = .ok (.ifCond .eq 7, 3) := dk_153 0 7 (dk_at dksX4_spell_4 9 rfl rfl)
theorem dX4_spell_105 : decode cX4_spell 105 = .ok (.iconst 1, 1) := dk_4 (dk_at dksX4_spell_4 12 rfl rfl)
theorem dX4_spell_106 : decode cX4_spell 106 = .ok (.goto 4, 3) := dk_167 0 4 (dk_at dksX4_spell_4 13 rfl rfl)
theorem dX4_spell_109 : decode cX4_spell 109 = .ok (.iconst 0, 1) := dk_3 (dk_at dksX4_spell_4 16 rfl rfl)
theorem dX4_spell_110 : decode cX4_spell 110 = .ok (.iastore, 1) := dk_79 (dk_at dksX4_spell_4 17 rfl rfl)
theorem dX4_spell_111 : decode cX4_spell 111 = .ok (.aload_n 0, 1) := dk_42 (dk_at dksX4_spell_4 18 rfl rfl)
theorem dX4_spell_112 : decode cX4_spell 112 = .ok (.getfield 3, 3) := dk_180 0 3 (dk_at dksX4_spell_4 19 rfl rfl)
theorem dX4_spell_115 : decode cX4_spell 115 = .ok (.getfield 116, 3) := dk_180 0 116 (dk_at dksX4_spell_5 0 rfl rfl)
theorem dX4_spell_118 : decode cX4_spell 118 = .ok (.bipush 112, 2) := dk_16 112 (dk_at dksX4_spell_5 3 rfl rfl)
theorem dX4_spell_120 : decode cX4_spell 120 = .ok (.aload_n 0, 1) := dk_42 (dk_at dksX4_spell_5 5 rfl rfl)
theorem dX4_spell_121 : decode cX4_spell 121 = .ok (.invokevirtual 106, 3) := dk_182 0 106 (dk_at dksX4_spell_5 6 rfl rfl)
theorem dX4_spell_124 : decode cX4_spell 124 = .ok (.ifCond .eq 33, 3) := dk_153 0 33 (dk_at dksX4_spell_5 9 rfl rfl)
theorem dX4_spell_127 : decode cX4_spell 127 = .ok (.iload_n 1, 1) := dk_27 (dk_at dksX4_spell_5 12 rfl rfl)
theorem dX4_spell_128 : decode cX4_spell 128 = .ok (.aload_n 0, 1) := dk_42 (dk_at dksX4_spell_5 13 rfl rfl)
theorem dX4_spell_129 : decode cX4_spell 129 = .ok (.getfield 83, 3) := dk_180 0 83 (dk_at dksX4_spell_5 14 rfl rfl)
theorem dX4_spell_132 : decode cX4_spell 132 = .ok (.if_icmp .eq 25, 3) := dk_159 0 25 (dk_at dksX4_spell_5 17 rfl rfl)
theorem dX4_spell_135 : decode cX4_spell 135 = .ok (.aload_n 0, 1) := dk_42 (dk_at dksX4_spell_5 20 rfl rfl)
theorem dX4_spell_136 : decode cX4_spell 136 = .ok (.getfield 55, 3) := dk_180 0 55 (dk_at dksX4_spell_5 21 rfl rfl)
theorem dX4_spell_139 : decode cX4_spell 139 = .ok (.iconst 2, 1) := dk_5 (dk_at dksX4_spell_6 0 rfl rfl)
theorem dX4_spell_140 : decode cX4_spell 140 = .ok (.iand, 1) := dk_126 (dk_at dksX4_spell_6 1 rfl rfl)
theorem dX4_spell_141 : decode cX4_spell 141 = .ok (.ifCond .ne 16, 3) := dk_154 0 16 (dk_at dksX4_spell_6 2 rfl rfl)
theorem dX4_spell_144 : decode cX4_spell 144 = .ok (.aload_n 0, 1) := dk_42 (dk_at dksX4_spell_6 5 rfl rfl)
theorem dX4_spell_145 : decode cX4_spell 145 = .ok (.getfield 3, 3) := dk_180 0 3 (dk_at dksX4_spell_6 6 rfl rfl)
theorem dX4_spell_148 : decode cX4_spell 148 = .ok (.getfield 68, 3) := dk_180 0 68 (dk_at dksX4_spell_6 9 rfl rfl)
theorem dX4_spell_151 : decode cX4_spell 151 = .ok (.bipush 6, 2) := dk_16 6 (dk_at dksX4_spell_6 12 rfl rfl)
theorem dX4_spell_153 : decode cX4_spell 153 = .ok (.iaload, 1) := dk_46 (dk_at dksX4_spell_6 14 rfl rfl)
theorem dX4_spell_154 : decode cX4_spell 154 = .ok (.goto 4, 3) := dk_167 0 4 (dk_at dksX4_spell_6 15 rfl rfl)
theorem dX4_spell_157 : decode cX4_spell 157 = .ok (.iconst 0, 1) := dk_3 (dk_at dksX4_spell_6 18 rfl rfl)
theorem dX4_spell_158 : decode cX4_spell 158 = .ok (.iastore, 1) := dk_79 (dk_at dksX4_spell_6 19 rfl rfl)
theorem dX4_spell_159 : decode cX4_spell 159 = .ok (.aload_n 0, 1) := dk_42 (dk_at dksX4_spell_6 20 rfl rfl)
theorem dX4_spell_160 : decode cX4_spell 160 = .ok (.getfield 3, 3) := dk_180 0 3 (dk_at dksX4_spell_6 21 rfl rfl)
theorem dX4_spell_163 : decode cX4_spell 163 = .ok (.getfield 116, 3) := dk_180 0 116 (dk_at dksX4_spell_7 0 rfl rfl)
theorem dX4_spell_166 : decode cX4_spell 166 = .ok (.bipush 107, 2) := dk_16 107 (dk_at dksX4_spell_7 3 rfl rfl)
theorem dX4_spell_168 : decode cX4_spell 168 = .ok (.aload_n 0, 1) := dk_42 (dk_at dksX4_spell_7 5 rfl rfl)
theorem dX4_spell_169 : decode cX4_spell 169 = .ok (.invokevirtual 126, 3) := dk_182 0 126 (dk_at dksX4_spell_7 6 rfl rfl)
theorem dX4_spell_172 : decode cX4_spell 172 = .ok (.ifCond .eq 26, 3) := dk_153 0 26 (dk_at dksX4_spell_7 9 rfl rfl)
theorem dX4_spell_175 : decode cX4_spell 175 = .ok (.aload_n 0, 1) := dk_42 (dk_at dksX4_spell_7 12 rfl rfl)
theorem dX4_spell_176 : decode cX4_spell 176 = .ok (.getfield 18, 3) := dk_180 0 18 (dk_at dksX4_spell_7 13 rfl rfl)
theorem dX4_spell_179 : decode cX4_spell 179 = .ok (.iload_n 1, 1) := dk_27 (dk_at dksX4_spell_7 16 rfl rfl)
theorem dX4_spell_180 : decode cX4_spell 180 = .ok (.aload_n 0, 1) := dk_42 (dk_at dksX4_spell_7 17 rfl rfl)
theorem dX4_spell_181 : decode cX4_spell 181 = .ok (.getfield 83, 3) := dk_180 0 83 (dk_at dksX4_spell_7 18 rfl rfl)
theorem dX4_spell_184 : decode cX4_spell 184 = .ok (.aload_n 0, 1) := dk_42 (dk_at dksX4_spell_7 21 rfl rfl)
theorem dX4_spell_185 : decode cX4_spell 185 = .ok (.getfield 89, 3) := dk_180 0 89 (dk_at dksX4_spell_8 0 rfl rfl)
theorem dX4_spell_188 : decode cX4_spell 188 = .ok (.invokevirtual 129, 3) := dk_182 0 129 (dk_at dksX4_spell_8 3 rfl rfl)
theorem dX4_spell_191 : decode cX4_spell 191 = .ok (.bipush 44, 2) := dk_16 44 (dk_at dksX4_spell_8 6 rfl rfl)
theorem dX4_spell_193 : decode cX4_spell 193 = .ok (.lshr, 1) := dk_123 (dk_at dksX4_spell_8 8 rfl rfl)
theorem dX4_spell_194 : decode cX4_spell 194 = .ok (.l2i, 1) := dk_136 (dk_at dksX4_spell_8 9 rfl rfl)
theorem dX4_spell_195 : decode cX4_spell 195 = .ok (.goto 4, 3) := dk_167 0 4 (dk_at dksX4_spell_8 10 rfl rfl)
theorem dX4_spell_198 : decode cX4_spell 198 = .ok (.iconst 0, 1) := dk_3 (dk_at dksX4_spell_8 13 rfl rfl)
theorem dX4_spell_199 : decode cX4_spell 199 = .ok (.iastore, 1) := dk_79 (dk_at dksX4_spell_8 14 rfl rfl)
theorem dX4_spell_200 : decode cX4_spell 200 = .ok (.aload_n 0, 1) := dk_42 (dk_at dksX4_spell_8 15 rfl rfl)
theorem dX4_spell_201 : decode cX4_spell 201 = .ok (.getfield 3, 3) := dk_180 0 3 (dk_at dksX4_spell_8 16 rfl rfl)
theorem dX4_spell_204 : decode cX4_spell 204 = .ok (.getfield 116, 3) := dk_180 0 116 (dk_at dksX4_spell_8 19 rfl rfl)
theorem dX4_spell_207 : decode cX4_spell 207 = .ok (.bipush 102, 2) := dk_16 102 (dk_at dksX4_spell_8 22 rfl rfl)
theorem dX4_spell_209 : decode cX4_spell 209 = .ok (.aload_n 0, 1) := dk_42 (dk_at dksX4_spell_9 0 rfl rfl)
theorem dX4_spell_210 : decode cX4_spell 210 = .ok (.getfield 71, 3) := dk_180 0 71 (dk_at dksX4_spell_9 1 rfl rfl)
theorem dX4_spell_213 : decode cX4_spell 213 = .ok (.iastore, 1) := dk_79 (dk_at dksX4_spell_9 4 rfl rfl)
theorem dX4_spell_214 : decode cX4_spell 214 = .ok (.return_, 1) := dk_177 (dk_at dksX4_spell_9 5 rfl rfl)
abbrev cX4_there : ByteArray := prog_4_method_5_code
def yX4_there : MethodName := ⟨RX4, "there", "()I"⟩
def dkwX4_there_1 : List UInt8 := [167, 0, 4, 3, 96, 60, 132, 2, 1, 167, 255, 229, 27, 172]
abbrev dktX4_there_1 : List UInt8 := dkwX4_there_1 ++ []
def dkwX4_there_0 : List UInt8 := [3, 60, 3, 61, 28, 42, 180, 0, 59, 162, 0, 25, 27, 42, 28, 182, 0, 102, 153, 0, 7, 4]
abbrev dktX4_there_0 : List UInt8 := dkwX4_there_0 ++ dktX4_there_1
theorem dksX4_there_0 : cX4_there.data.toList.drop 0 = dktX4_there_0 := by decide +kernel
theorem dksX4_there_1 : cX4_there.data.toList.drop 22 = dktX4_there_1 := dk_seg dksX4_there_0 22 rfl rfl
theorem dX4_there_0 : decode cX4_there 0 = .ok (.iconst 0, 1) := dk_3 (dk_at dksX4_there_0 0 rfl rfl)
theorem dX4_there_1 : decode cX4_there 1 = .ok (.istore_n 1, 1) := dk_60 (dk_at dksX4_there_0 1 rfl rfl)
theorem dX4_there_2 : decode cX4_there 2 = .ok (.iconst 0, 1) := dk_3 (dk_at dksX4_there_0 2 rfl rfl)
theorem dX4_there_3 : decode cX4_there 3 = .ok (.istore_n 2, 1) := dk_61 (dk_at dksX4_there_0 3 rfl rfl)
theorem dX4_there_4 : decode cX4_there 4 = .ok (.iload_n 2, 1) := dk_28 (dk_at dksX4_there_0 4 rfl rfl)
theorem dX4_there_5 : decode cX4_there 5 = .ok (.aload_n 0, 1) := dk_42 (dk_at dksX4_there_0 5 rfl rfl)
theorem dX4_there_6 : decode cX4_there 6 = .ok (.getfield 59, 3) := dk_180 0 59 (dk_at dksX4_there_0 6 rfl rfl)
theorem dX4_there_9 : decode cX4_there 9 = .ok (.if_icmp .ge 25, 3) := dk_162 0 25 (dk_at dksX4_there_0 9 rfl rfl)
theorem dX4_there_12 : decode cX4_there 12 = .ok (.iload_n 1, 1) := dk_27 (dk_at dksX4_there_0 12 rfl rfl)
theorem dX4_there_13 : decode cX4_there 13 = .ok (.aload_n 0, 1) := dk_42 (dk_at dksX4_there_0 13 rfl rfl)
theorem dX4_there_14 : decode cX4_there 14 = .ok (.iload_n 2, 1) := dk_28 (dk_at dksX4_there_0 14 rfl rfl)
theorem dX4_there_15 : decode cX4_there 15 = .ok (.invokevirtual 102, 3) := dk_182 0 102 (dk_at dksX4_there_0 15 rfl rfl)
theorem dX4_there_18 : decode cX4_there 18 = .ok (.ifCond .eq 7, 3) := dk_153 0 7 (dk_at dksX4_there_0 18 rfl rfl)
theorem dX4_there_21 : decode cX4_there 21 = .ok (.iconst 1, 1) := dk_4 (dk_at dksX4_there_0 21 rfl rfl)
theorem dX4_there_22 : decode cX4_there 22 = .ok (.goto 4, 3) := dk_167 0 4 (dk_at dksX4_there_1 0 rfl rfl)
theorem dX4_there_25 : decode cX4_there 25 = .ok (.iconst 0, 1) := dk_3 (dk_at dksX4_there_1 3 rfl rfl)
theorem dX4_there_26 : decode cX4_there 26 = .ok (.iadd, 1) := dk_96 (dk_at dksX4_there_1 4 rfl rfl)
theorem dX4_there_27 : decode cX4_there 27 = .ok (.istore_n 1, 1) := dk_60 (dk_at dksX4_there_1 5 rfl rfl)
theorem dX4_there_28 : decode cX4_there 28 = .ok (.iinc 2 1, 3) := dk_132 2 1 (dk_at dksX4_there_1 6 rfl rfl)
theorem dX4_there_31 : decode cX4_there 31 = .ok (.goto (-27), 3) := dk_167 255 229 (dk_at dksX4_there_1 9 rfl rfl)
theorem dX4_there_34 : decode cX4_there 34 = .ok (.iload_n 1, 1) := dk_27 (dk_at dksX4_there_1 12 rfl rfl)
theorem dX4_there_35 : decode cX4_there 35 = .ok (.ireturn, 1) := dk_172 (dk_at dksX4_there_1 13 rfl rfl)
abbrev cX4_rain : ByteArray := prog_4_method_7_code
def yX4_rain : MethodName := ⟨RX4, "rain", "()I"⟩
def dkwX4_rain_1 : List UInt8 := [180, 0, 110, 42, 180, 0, 62, 46, 167, 0, 4, 3, 172]
abbrev dktX4_rain_1 : List UInt8 := dkwX4_rain_1 ++ []
def dkwX4_rain_0 : List UInt8 := [42, 180, 0, 55, 4, 126, 154, 0, 27, 42, 180, 0, 62, 16, 24, 162, 0, 18, 42, 180, 0, 3]
abbrev dktX4_rain_0 : List UInt8 := dkwX4_rain_0 ++ dktX4_rain_1
theorem dksX4_rain_0 : cX4_rain.data.toList.drop 0 = dktX4_rain_0 := by decide +kernel
theorem dksX4_rain_1 : cX4_rain.data.toList.drop 22 = dktX4_rain_1 := dk_seg dksX4_rain_0 22 rfl rfl
theorem dX4_rain_0 : decode cX4_rain 0 = .ok (.aload_n 0, 1) := dk_42 (dk_at dksX4_rain_0 0 rfl rfl)
theorem dX4_rain_1 : decode cX4_rain 1 = .ok (.getfield 55, 3) := dk_180 0 55 (dk_at dksX4_rain_0 1 rfl rfl)
theorem dX4_rain_4 : decode cX4_rain 4 = .ok (.iconst 1, 1) := dk_4 (dk_at dksX4_rain_0 4 rfl rfl)
theorem dX4_rain_5 : decode cX4_rain 5 = .ok (.iand, 1) := dk_126 (dk_at dksX4_rain_0 5 rfl rfl)
theorem dX4_rain_6 : decode cX4_rain 6 = .ok (.ifCond .ne 27, 3) := dk_154 0 27 (dk_at dksX4_rain_0 6 rfl rfl)
theorem dX4_rain_9 : decode cX4_rain 9 = .ok (.aload_n 0, 1) := dk_42 (dk_at dksX4_rain_0 9 rfl rfl)
theorem dX4_rain_10 : decode cX4_rain 10 = .ok (.getfield 62, 3) := dk_180 0 62 (dk_at dksX4_rain_0 10 rfl rfl)
theorem dX4_rain_13 : decode cX4_rain 13 = .ok (.bipush 24, 2) := dk_16 24 (dk_at dksX4_rain_0 13 rfl rfl)
theorem dX4_rain_15 : decode cX4_rain 15 = .ok (.if_icmp .ge 18, 3) := dk_162 0 18 (dk_at dksX4_rain_0 15 rfl rfl)
theorem dX4_rain_18 : decode cX4_rain 18 = .ok (.aload_n 0, 1) := dk_42 (dk_at dksX4_rain_0 18 rfl rfl)
theorem dX4_rain_19 : decode cX4_rain 19 = .ok (.getfield 3, 3) := dk_180 0 3 (dk_at dksX4_rain_0 19 rfl rfl)
theorem dX4_rain_22 : decode cX4_rain 22 = .ok (.getfield 110, 3) := dk_180 0 110 (dk_at dksX4_rain_1 0 rfl rfl)
theorem dX4_rain_25 : decode cX4_rain 25 = .ok (.aload_n 0, 1) := dk_42 (dk_at dksX4_rain_1 3 rfl rfl)
theorem dX4_rain_26 : decode cX4_rain 26 = .ok (.getfield 62, 3) := dk_180 0 62 (dk_at dksX4_rain_1 4 rfl rfl)
theorem dX4_rain_29 : decode cX4_rain 29 = .ok (.iaload, 1) := dk_46 (dk_at dksX4_rain_1 7 rfl rfl)
theorem dX4_rain_30 : decode cX4_rain 30 = .ok (.goto 4, 3) := dk_167 0 4 (dk_at dksX4_rain_1 8 rfl rfl)
theorem dX4_rain_33 : decode cX4_rain 33 = .ok (.iconst 0, 1) := dk_3 (dk_at dksX4_rain_1 11 rfl rfl)
theorem dX4_rain_34 : decode cX4_rain 34 = .ok (.ireturn, 1) := dk_172 (dk_at dksX4_rain_1 12 rfl rfl)
abbrev cX4_isPaired : ByteArray := prog_4_method_6_code
def yX4_isPaired : MethodName := ⟨RX4, "isPaired", "()Z"⟩
def dkwX4_isPaired_1 : List UInt8 := [182, 0, 102, 153, 0, 7, 4, 167, 0, 4, 3, 172]
abbrev dktX4_isPaired_1 : List UInt8 := dkwX4_isPaired_1 ++ []
def dkwX4_isPaired_0 : List UInt8 := [42, 182, 0, 106, 153, 0, 29, 42, 180, 0, 89, 42, 180, 0, 83, 159, 0, 18, 42, 42, 180, 0, 89]
abbrev dktX4_isPaired_0 : List UInt8 := dkwX4_isPaired_0 ++ dktX4_isPaired_1
theorem dksX4_isPaired_0 : cX4_isPaired.data.toList.drop 0 = dktX4_isPaired_0 := by decide +kernel
theorem dksX4_isPaired_1 : cX4_isPaired.data.toList.drop 23 = dktX4_isPaired_1 := dk_seg dksX4_isPaired_0 23 rfl rfl
theorem dX4_isPaired_0 : decode cX4_isPaired 0 = .ok (.aload_n 0, 1) := dk_42 (dk_at dksX4_isPaired_0 0 rfl rfl)
theorem dX4_isPaired_1 : decode cX4_isPaired 1 = .ok (.invokevirtual 106, 3) := dk_182 0 106 (dk_at dksX4_isPaired_0 1 rfl rfl)
theorem dX4_isPaired_4 : decode cX4_isPaired 4 = .ok (.ifCond .eq 29, 3) := dk_153 0 29 (dk_at dksX4_isPaired_0 4 rfl rfl)
theorem dX4_isPaired_7 : decode cX4_isPaired 7 = .ok (.aload_n 0, 1) := dk_42 (dk_at dksX4_isPaired_0 7 rfl rfl)
theorem dX4_isPaired_8 : decode cX4_isPaired 8 = .ok (.getfield 89, 3) := dk_180 0 89 (dk_at dksX4_isPaired_0 8 rfl rfl)
theorem dX4_isPaired_11 : decode cX4_isPaired 11 = .ok (.aload_n 0, 1) := dk_42 (dk_at dksX4_isPaired_0 11 rfl rfl)
theorem dX4_isPaired_12 : decode cX4_isPaired 12 = .ok (.getfield 83, 3) := dk_180 0 83 (dk_at dksX4_isPaired_0 12 rfl rfl)
theorem dX4_isPaired_15 : decode cX4_isPaired 15 = .ok (.if_icmp .eq 18, 3) := dk_159 0 18 (dk_at dksX4_isPaired_0 15 rfl rfl)
theorem dX4_isPaired_18 : decode cX4_isPaired 18 = .ok (.aload_n 0, 1) := dk_42 (dk_at dksX4_isPaired_0 18 rfl rfl)
theorem dX4_isPaired_19 : decode cX4_isPaired 19 = .ok (.aload_n 0, 1) := dk_42 (dk_at dksX4_isPaired_0 19 rfl rfl)
theorem dX4_isPaired_20 : decode cX4_isPaired 20 = .ok (.getfield 89, 3) := dk_180 0 89 (dk_at dksX4_isPaired_0 20 rfl rfl)
theorem dX4_isPaired_23 : decode cX4_isPaired 23 = .ok (.invokevirtual 102, 3) := dk_182 0 102 (dk_at dksX4_isPaired_1 0 rfl rfl)
theorem dX4_isPaired_26 : decode cX4_isPaired 26 = .ok (.ifCond .eq 7, 3) := dk_153 0 7 (dk_at dksX4_isPaired_1 3 rfl rfl)
theorem dX4_isPaired_29 : decode cX4_isPaired 29 = .ok (.iconst 1, 1) := dk_4 (dk_at dksX4_isPaired_1 6 rfl rfl)
theorem dX4_isPaired_30 : decode cX4_isPaired 30 = .ok (.goto 4, 3) := dk_167 0 4 (dk_at dksX4_isPaired_1 7 rfl rfl)
theorem dX4_isPaired_33 : decode cX4_isPaired 33 = .ok (.iconst 0, 1) := dk_3 (dk_at dksX4_isPaired_1 10 rfl rfl)
theorem dX4_isPaired_34 : decode cX4_isPaired 34 = .ok (.ireturn, 1) := dk_172 (dk_at dksX4_isPaired_1 11 rfl rfl)
abbrev cX4_draw : ByteArray := prog_4_method_10_code
def yX4_draw : MethodName := ⟨RX4, "draw", "()I"⟩
def dkwX4_draw_1 : List UInt8 := [20, 0, 145, 113, 136, 172]
abbrev dktX4_draw_1 : List UInt8 := dkwX4_draw_1 ++ []
def dkwX4_draw_0 : List UInt8 := [42, 42, 180, 0, 51, 20, 0, 141, 105, 20, 0, 143, 97, 181, 0, 51, 42, 180, 0, 51, 16, 33, 125]
abbrev dktX4_draw_0 : List UInt8 := dkwX4_draw_0 ++ dktX4_draw_1
theorem dksX4_draw_0 : cX4_draw.data.toList.drop 0 = dktX4_draw_0 := by decide +kernel
theorem dksX4_draw_1 : cX4_draw.data.toList.drop 23 = dktX4_draw_1 := dk_seg dksX4_draw_0 23 rfl rfl
theorem dX4_draw_0 : decode cX4_draw 0 = .ok (.aload_n 0, 1) := dk_42 (dk_at dksX4_draw_0 0 rfl rfl)
theorem dX4_draw_1 : decode cX4_draw 1 = .ok (.aload_n 0, 1) := dk_42 (dk_at dksX4_draw_0 1 rfl rfl)
theorem dX4_draw_2 : decode cX4_draw 2 = .ok (.getfield 51, 3) := dk_180 0 51 (dk_at dksX4_draw_0 2 rfl rfl)
theorem dX4_draw_5 : decode cX4_draw 5 = .ok (.ldc2_w 141, 3) := dk_20 0 141 (dk_at dksX4_draw_0 5 rfl rfl)
theorem dX4_draw_8 : decode cX4_draw 8 = .ok (.lmul, 1) := dk_105 (dk_at dksX4_draw_0 8 rfl rfl)
theorem dX4_draw_9 : decode cX4_draw 9 = .ok (.ldc2_w 143, 3) := dk_20 0 143 (dk_at dksX4_draw_0 9 rfl rfl)
theorem dX4_draw_12 : decode cX4_draw 12 = .ok (.ladd, 1) := dk_97 (dk_at dksX4_draw_0 12 rfl rfl)
theorem dX4_draw_13 : decode cX4_draw 13 = .ok (.putfield 51, 3) := dk_181 0 51 (dk_at dksX4_draw_0 13 rfl rfl)
theorem dX4_draw_16 : decode cX4_draw 16 = .ok (.aload_n 0, 1) := dk_42 (dk_at dksX4_draw_0 16 rfl rfl)
theorem dX4_draw_17 : decode cX4_draw 17 = .ok (.getfield 51, 3) := dk_180 0 51 (dk_at dksX4_draw_0 17 rfl rfl)
theorem dX4_draw_20 : decode cX4_draw 20 = .ok (.bipush 33, 2) := dk_16 33 (dk_at dksX4_draw_0 20 rfl rfl)
theorem dX4_draw_22 : decode cX4_draw 22 = .ok (.lushr, 1) := dk_125 (dk_at dksX4_draw_0 22 rfl rfl)
theorem dX4_draw_23 : decode cX4_draw 23 = .ok (.ldc2_w 145, 3) := dk_20 0 145 (dk_at dksX4_draw_1 0 rfl rfl)
theorem dX4_draw_26 : decode cX4_draw 26 = .ok (.lrem, 1) := dk_113 (dk_at dksX4_draw_1 3 rfl rfl)
theorem dX4_draw_27 : decode cX4_draw 27 = .ok (.l2i, 1) := dk_136 (dk_at dksX4_draw_1 4 rfl rfl)
theorem dX4_draw_28 : decode cX4_draw 28 = .ok (.ireturn, 1) := dk_172 (dk_at dksX4_draw_1 5 rfl rfl)
abbrev cX4_eat : ByteArray := prog_4_method_14_code
def yX4_eat : MethodName := ⟨RX4, "eat", "(I)V"⟩
def dkwX4_eat_3 : List UInt8 := [154, 0, 9, 42, 27, 4, 182, 0, 147, 177]
abbrev dktX4_eat_3 : List UInt8 := dkwX4_eat_3 ++ []
def dkwX4_eat_2 : List UInt8 := [42, 180, 0, 26, 27, 3, 42, 180, 0, 26, 27, 46, 6, 100, 184, 0, 163, 79, 42, 180, 0, 26, 27, 46]
abbrev dktX4_eat_2 : List UInt8 := dkwX4_eat_2 ++ dktX4_eat_3
def dkwX4_eat_1 : List UInt8 := [100, 181, 0, 71, 42, 180, 0, 26, 27, 16, 99, 42, 180, 0, 26, 27, 46, 4, 96, 184, 0, 158, 79, 177]
abbrev dktX4_eat_1 : List UInt8 := dkwX4_eat_1 ++ dktX4_eat_2
def dkwX4_eat_0 : List UInt8 := [42, 180, 0, 71, 42, 180, 0, 38, 27, 46, 161, 0, 38, 42, 89, 180, 0, 71, 42, 180, 0, 38, 27, 46]
abbrev dktX4_eat_0 : List UInt8 := dkwX4_eat_0 ++ dktX4_eat_1
theorem dksX4_eat_0 : cX4_eat.data.toList.drop 0 = dktX4_eat_0 := by decide +kernel
theorem dksX4_eat_1 : cX4_eat.data.toList.drop 24 = dktX4_eat_1 := dk_seg dksX4_eat_0 24 rfl rfl
theorem dksX4_eat_2 : cX4_eat.data.toList.drop 48 = dktX4_eat_2 := dk_seg dksX4_eat_1 24 rfl rfl
theorem dksX4_eat_3 : cX4_eat.data.toList.drop 72 = dktX4_eat_3 := dk_seg dksX4_eat_2 24 rfl rfl
theorem dX4_eat_0 : decode cX4_eat 0 = .ok (.aload_n 0, 1) := dk_42 (dk_at dksX4_eat_0 0 rfl rfl)
theorem dX4_eat_1 : decode cX4_eat 1 = .ok (.getfield 71, 3) := dk_180 0 71 (dk_at dksX4_eat_0 1 rfl rfl)
theorem dX4_eat_4 : decode cX4_eat 4 = .ok (.aload_n 0, 1) := dk_42 (dk_at dksX4_eat_0 4 rfl rfl)
theorem dX4_eat_5 : decode cX4_eat 5 = .ok (.getfield 38, 3) := dk_180 0 38 (dk_at dksX4_eat_0 5 rfl rfl)
theorem dX4_eat_8 : decode cX4_eat 8 = .ok (.iload_n 1, 1) := dk_27 (dk_at dksX4_eat_0 8 rfl rfl)
theorem dX4_eat_9 : decode cX4_eat 9 = .ok (.iaload, 1) := dk_46 (dk_at dksX4_eat_0 9 rfl rfl)
theorem dX4_eat_10 : decode cX4_eat 10 = .ok (.if_icmp .lt 38, 3) := dk_161 0 38 (dk_at dksX4_eat_0 10 rfl rfl)
theorem dX4_eat_13 : decode cX4_eat 13 = .ok (.aload_n 0, 1) := dk_42 (dk_at dksX4_eat_0 13 rfl rfl)
theorem dX4_eat_14 : decode cX4_eat 14 = .ok (.dup, 1) := dk_89 (dk_at dksX4_eat_0 14 rfl rfl)
theorem dX4_eat_15 : decode cX4_eat 15 = .ok (.getfield 71, 3) := dk_180 0 71 (dk_at dksX4_eat_0 15 rfl rfl)
theorem dX4_eat_18 : decode cX4_eat 18 = .ok (.aload_n 0, 1) := dk_42 (dk_at dksX4_eat_0 18 rfl rfl)
theorem dX4_eat_19 : decode cX4_eat 19 = .ok (.getfield 38, 3) := dk_180 0 38 (dk_at dksX4_eat_0 19 rfl rfl)
theorem dX4_eat_22 : decode cX4_eat 22 = .ok (.iload_n 1, 1) := dk_27 (dk_at dksX4_eat_0 22 rfl rfl)
theorem dX4_eat_23 : decode cX4_eat 23 = .ok (.iaload, 1) := dk_46 (dk_at dksX4_eat_0 23 rfl rfl)
theorem dX4_eat_24 : decode cX4_eat 24 = .ok (.isub, 1) := dk_100 (dk_at dksX4_eat_1 0 rfl rfl)
theorem dX4_eat_25 : decode cX4_eat 25 = .ok (.putfield 71, 3) := dk_181 0 71 (dk_at dksX4_eat_1 1 rfl rfl)
theorem dX4_eat_28 : decode cX4_eat 28 = .ok (.aload_n 0, 1) := dk_42 (dk_at dksX4_eat_1 4 rfl rfl)
theorem dX4_eat_29 : decode cX4_eat 29 = .ok (.getfield 26, 3) := dk_180 0 26 (dk_at dksX4_eat_1 5 rfl rfl)
theorem dX4_eat_32 : decode cX4_eat 32 = .ok (.iload_n 1, 1) := dk_27 (dk_at dksX4_eat_1 8 rfl rfl)
theorem dX4_eat_33 : decode cX4_eat 33 = .ok (.bipush 99, 2) := dk_16 99 (dk_at dksX4_eat_1 9 rfl rfl)
theorem dX4_eat_35 : decode cX4_eat 35 = .ok (.aload_n 0, 1) := dk_42 (dk_at dksX4_eat_1 11 rfl rfl)
theorem dX4_eat_36 : decode cX4_eat 36 = .ok (.getfield 26, 3) := dk_180 0 26 (dk_at dksX4_eat_1 12 rfl rfl)
theorem dX4_eat_39 : decode cX4_eat 39 = .ok (.iload_n 1, 1) := dk_27 (dk_at dksX4_eat_1 15 rfl rfl)
theorem dX4_eat_40 : decode cX4_eat 40 = .ok (.iaload, 1) := dk_46 (dk_at dksX4_eat_1 16 rfl rfl)
theorem dX4_eat_41 : decode cX4_eat 41 = .ok (.iconst 1, 1) := dk_4 (dk_at dksX4_eat_1 17 rfl rfl)
theorem dX4_eat_42 : decode cX4_eat 42 = .ok (.iadd, 1) := dk_96 (dk_at dksX4_eat_1 18 rfl rfl)
theorem dX4_eat_43 : decode cX4_eat 43 = .ok (.invokestatic 158, 3) := dk_184 0 158 (dk_at dksX4_eat_1 19 rfl rfl)
theorem dX4_eat_46 : decode cX4_eat 46 = .ok (.iastore, 1) := dk_79 (dk_at dksX4_eat_1 22 rfl rfl)
theorem dX4_eat_47 : decode cX4_eat 47 = .ok (.return_, 1) := dk_177 (dk_at dksX4_eat_1 23 rfl rfl)
theorem dX4_eat_48 : decode cX4_eat 48 = .ok (.aload_n 0, 1) := dk_42 (dk_at dksX4_eat_2 0 rfl rfl)
theorem dX4_eat_49 : decode cX4_eat 49 = .ok (.getfield 26, 3) := dk_180 0 26 (dk_at dksX4_eat_2 1 rfl rfl)
theorem dX4_eat_52 : decode cX4_eat 52 = .ok (.iload_n 1, 1) := dk_27 (dk_at dksX4_eat_2 4 rfl rfl)
theorem dX4_eat_53 : decode cX4_eat 53 = .ok (.iconst 0, 1) := dk_3 (dk_at dksX4_eat_2 5 rfl rfl)
theorem dX4_eat_54 : decode cX4_eat 54 = .ok (.aload_n 0, 1) := dk_42 (dk_at dksX4_eat_2 6 rfl rfl)
theorem dX4_eat_55 : decode cX4_eat 55 = .ok (.getfield 26, 3) := dk_180 0 26 (dk_at dksX4_eat_2 7 rfl rfl)
theorem dX4_eat_58 : decode cX4_eat 58 = .ok (.iload_n 1, 1) := dk_27 (dk_at dksX4_eat_2 10 rfl rfl)
theorem dX4_eat_59 : decode cX4_eat 59 = .ok (.iaload, 1) := dk_46 (dk_at dksX4_eat_2 11 rfl rfl)
theorem dX4_eat_60 : decode cX4_eat 60 = .ok (.iconst 3, 1) := dk_6 (dk_at dksX4_eat_2 12 rfl rfl)
theorem dX4_eat_61 : decode cX4_eat 61 = .ok (.isub, 1) := dk_100 (dk_at dksX4_eat_2 13 rfl rfl)
theorem dX4_eat_62 : decode cX4_eat 62 = .ok (.invokestatic 163, 3) := dk_184 0 163 (dk_at dksX4_eat_2 14 rfl rfl)
theorem dX4_eat_65 : decode cX4_eat 65 = .ok (.iastore, 1) := dk_79 (dk_at dksX4_eat_2 17 rfl rfl)
theorem dX4_eat_66 : decode cX4_eat 66 = .ok (.aload_n 0, 1) := dk_42 (dk_at dksX4_eat_2 18 rfl rfl)
theorem dX4_eat_67 : decode cX4_eat 67 = .ok (.getfield 26, 3) := dk_180 0 26 (dk_at dksX4_eat_2 19 rfl rfl)
theorem dX4_eat_70 : decode cX4_eat 70 = .ok (.iload_n 1, 1) := dk_27 (dk_at dksX4_eat_2 22 rfl rfl)
theorem dX4_eat_71 : decode cX4_eat 71 = .ok (.iaload, 1) := dk_46 (dk_at dksX4_eat_2 23 rfl rfl)
theorem dX4_eat_72 : decode cX4_eat 72 = .ok (.ifCond .ne 9, 3) := dk_154 0 9 (dk_at dksX4_eat_3 0 rfl rfl)
theorem dX4_eat_75 : decode cX4_eat 75 = .ok (.aload_n 0, 1) := dk_42 (dk_at dksX4_eat_3 3 rfl rfl)
theorem dX4_eat_76 : decode cX4_eat 76 = .ok (.iload_n 1, 1) := dk_27 (dk_at dksX4_eat_3 4 rfl rfl)
theorem dX4_eat_77 : decode cX4_eat 77 = .ok (.iconst 1, 1) := dk_4 (dk_at dksX4_eat_3 5 rfl rfl)
theorem dX4_eat_78 : decode cX4_eat 78 = .ok (.invokevirtual 147, 3) := dk_182 0 147 (dk_at dksX4_eat_3 6 rfl rfl)
theorem dX4_eat_81 : decode cX4_eat 81 = .ok (.return_, 1) := dk_177 (dk_at dksX4_eat_3 9 rfl rfl)
abbrev cX4_bear : ByteArray := prog_4_method_15_code
def yX4_bear : MethodName := ⟨RX4, "bear", "()V"⟩
def dkwX4_bear_4 : List UInt8 := [132, 1, 1, 167, 255, 159, 177]
abbrev dktX4_bear_4 : List UInt8 := dkwX4_bear_4 ++ []
def dkwX4_bear_3 : List UInt8 := [79, 42, 180, 0, 32, 42, 180, 0, 59, 42, 180, 0, 62, 79, 42, 89, 180, 0, 59, 4, 96, 181, 0, 59]
abbrev dktX4_bear_3 : List UInt8 := dkwX4_bear_3 ++ dktX4_bear_4
def dkwX4_bear_2 : List UInt8 := [180, 0, 59, 3, 79, 42, 180, 0, 26, 42, 180, 0, 59, 8, 79, 42, 180, 0, 29, 42, 180, 0, 59, 2]
abbrev dktX4_bear_2 : List UInt8 := dkwX4_bear_2 ++ dktX4_bear_3
def dkwX4_bear_1 : List UInt8 := [42, 180, 0, 18, 42, 180, 0, 59, 42, 180, 0, 83, 42, 180, 0, 89, 182, 0, 178, 42, 180, 0, 22, 42]
abbrev dktX4_bear_1 : List UInt8 := dkwX4_bear_1 ++ dktX4_bear_2
def dkwX4_bear_0 : List UInt8 := [3, 60, 27, 42, 180, 0, 3, 180, 0, 68, 8, 46, 162, 0, 90, 42, 180, 0, 59, 16, 24, 162, 0, 81]
abbrev dktX4_bear_0 : List UInt8 := dkwX4_bear_0 ++ dktX4_bear_1
theorem dksX4_bear_0 : cX4_bear.data.toList.drop 0 = dktX4_bear_0 := by decide +kernel
theorem dksX4_bear_1 : cX4_bear.data.toList.drop 24 = dktX4_bear_1 := dk_seg dksX4_bear_0 24 rfl rfl
theorem dksX4_bear_2 : cX4_bear.data.toList.drop 48 = dktX4_bear_2 := dk_seg dksX4_bear_1 24 rfl rfl
theorem dksX4_bear_3 : cX4_bear.data.toList.drop 72 = dktX4_bear_3 := dk_seg dksX4_bear_2 24 rfl rfl
theorem dksX4_bear_4 : cX4_bear.data.toList.drop 96 = dktX4_bear_4 := dk_seg dksX4_bear_3 24 rfl rfl
theorem dX4_bear_0 : decode cX4_bear 0 = .ok (.iconst 0, 1) := dk_3 (dk_at dksX4_bear_0 0 rfl rfl)
theorem dX4_bear_1 : decode cX4_bear 1 = .ok (.istore_n 1, 1) := dk_60 (dk_at dksX4_bear_0 1 rfl rfl)
theorem dX4_bear_2 : decode cX4_bear 2 = .ok (.iload_n 1, 1) := dk_27 (dk_at dksX4_bear_0 2 rfl rfl)
theorem dX4_bear_3 : decode cX4_bear 3 = .ok (.aload_n 0, 1) := dk_42 (dk_at dksX4_bear_0 3 rfl rfl)
theorem dX4_bear_4 : decode cX4_bear 4 = .ok (.getfield 3, 3) := dk_180 0 3 (dk_at dksX4_bear_0 4 rfl rfl)
theorem dX4_bear_7 : decode cX4_bear 7 = .ok (.getfield 68, 3) := dk_180 0 68 (dk_at dksX4_bear_0 7 rfl rfl)
theorem dX4_bear_10 : decode cX4_bear 10 = .ok (.iconst 5, 1) := dk_8 (dk_at dksX4_bear_0 10 rfl rfl)
theorem dX4_bear_11 : decode cX4_bear 11 = .ok (.iaload, 1) := dk_46 (dk_at dksX4_bear_0 11 rfl rfl)
theorem dX4_bear_12 : decode cX4_bear 12 = .ok (.if_icmp .ge 90, 3) := dk_162 0 90 (dk_at dksX4_bear_0 12 rfl rfl)
theorem dX4_bear_15 : decode cX4_bear 15 = .ok (.aload_n 0, 1) := dk_42 (dk_at dksX4_bear_0 15 rfl rfl)
theorem dX4_bear_16 : decode cX4_bear 16 = .ok (.getfield 59, 3) := dk_180 0 59 (dk_at dksX4_bear_0 16 rfl rfl)
theorem dX4_bear_19 : decode cX4_bear 19 = .ok (.bipush 24, 2) := dk_16 24 (dk_at dksX4_bear_0 19 rfl rfl)
theorem dX4_bear_21 : decode cX4_bear 21 = .ok (.if_icmp .ge 81, 3) := dk_162 0 81 (dk_at dksX4_bear_0 21 rfl rfl)
theorem dX4_bear_24 : decode cX4_bear 24 = .ok (.aload_n 0, 1) := dk_42 (dk_at dksX4_bear_1 0 rfl rfl)
theorem dX4_bear_25 : decode cX4_bear 25 = .ok (.getfield 18, 3) := dk_180 0 18 (dk_at dksX4_bear_1 1 rfl rfl)
theorem dX4_bear_28 : decode cX4_bear 28 = .ok (.aload_n 0, 1) := dk_42 (dk_at dksX4_bear_1 4 rfl rfl)
theorem dX4_bear_29 : decode cX4_bear 29 = .ok (.getfield 59, 3) := dk_180 0 59 (dk_at dksX4_bear_1 5 rfl rfl)
theorem dX4_bear_32 : decode cX4_bear 32 = .ok (.aload_n 0, 1) := dk_42 (dk_at dksX4_bear_1 8 rfl rfl)
theorem dX4_bear_33 : decode cX4_bear 33 = .ok (.getfield 83, 3) := dk_180 0 83 (dk_at dksX4_bear_1 9 rfl rfl)
theorem dX4_bear_36 : decode cX4_bear 36 = .ok (.aload_n 0, 1) := dk_42 (dk_at dksX4_bear_1 12 rfl rfl)
theorem dX4_bear_37 : decode cX4_bear 37 = .ok (.getfield 89, 3) := dk_180 0 89 (dk_at dksX4_bear_1 13 rfl rfl)
theorem dX4_bear_40 : decode cX4_bear 40 = .ok (.invokevirtual 178, 3) := dk_182 0 178 (dk_at dksX4_bear_1 16 rfl rfl)
theorem dX4_bear_43 : decode cX4_bear 43 = .ok (.aload_n 0, 1) := dk_42 (dk_at dksX4_bear_1 19 rfl rfl)
theorem dX4_bear_44 : decode cX4_bear 44 = .ok (.getfield 22, 3) := dk_180 0 22 (dk_at dksX4_bear_1 20 rfl rfl)
theorem dX4_bear_47 : decode cX4_bear 47 = .ok (.aload_n 0, 1) := dk_42 (dk_at dksX4_bear_1 23 rfl rfl)
theorem dX4_bear_48 : decode cX4_bear 48 = .ok (.getfield 59, 3) := dk_180 0 59 (dk_at dksX4_bear_2 0 rfl rfl)
theorem dX4_bear_51 : decode cX4_bear 51 = .ok (.iconst 0, 1) := dk_3 (dk_at dksX4_bear_2 3 rfl rfl)
theorem dX4_bear_52 : decode cX4_bear 52 = .ok (.iastore, 1) := dk_79 (dk_at dksX4_bear_2 4 rfl rfl)
theorem dX4_bear_53 : decode cX4_bear 53 = .ok (.aload_n 0, 1) := dk_42 (dk_at dksX4_bear_2 5 rfl rfl)
theorem dX4_bear_54 : decode cX4_bear 54 = .ok (.getfield 26, 3) := dk_180 0 26 (dk_at dksX4_bear_2 6 rfl rfl)
theorem dX4_bear_57 : decode cX4_bear 57 = .ok (.aload_n 0, 1) := dk_42 (dk_at dksX4_bear_2 9 rfl rfl)
theorem dX4_bear_58 : decode cX4_bear 58 = .ok (.getfield 59, 3) := dk_180 0 59 (dk_at dksX4_bear_2 10 rfl rfl)
theorem dX4_bear_61 : decode cX4_bear 61 = .ok (.iconst 5, 1) := dk_8 (dk_at dksX4_bear_2 13 rfl rfl)
theorem dX4_bear_62 : decode cX4_bear 62 = .ok (.iastore, 1) := dk_79 (dk_at dksX4_bear_2 14 rfl rfl)
theorem dX4_bear_63 : decode cX4_bear 63 = .ok (.aload_n 0, 1) := dk_42 (dk_at dksX4_bear_2 15 rfl rfl)
theorem dX4_bear_64 : decode cX4_bear 64 = .ok (.getfield 29, 3) := dk_180 0 29 (dk_at dksX4_bear_2 16 rfl rfl)
theorem dX4_bear_67 : decode cX4_bear 67 = .ok (.aload_n 0, 1) := dk_42 (dk_at dksX4_bear_2 19 rfl rfl)
theorem dX4_bear_68 : decode cX4_bear 68 = .ok (.getfield 59, 3) := dk_180 0 59 (dk_at dksX4_bear_2 20 rfl rfl)
theorem dX4_bear_71 : decode cX4_bear 71 = .ok (.iconst (-1), 1) := dk_2 (dk_at dksX4_bear_2 23 rfl rfl)
theorem dX4_bear_72 : decode cX4_bear 72 = .ok (.iastore, 1) := dk_79 (dk_at dksX4_bear_3 0 rfl rfl)
theorem dX4_bear_73 : decode cX4_bear 73 = .ok (.aload_n 0, 1) := dk_42 (dk_at dksX4_bear_3 1 rfl rfl)
theorem dX4_bear_74 : decode cX4_bear 74 = .ok (.getfield 32, 3) := dk_180 0 32 (dk_at dksX4_bear_3 2 rfl rfl)
theorem dX4_bear_77 : decode cX4_bear 77 = .ok (.aload_n 0, 1) := dk_42 (dk_at dksX4_bear_3 5 rfl rfl)
theorem dX4_bear_78 : decode cX4_bear 78 = .ok (.getfield 59, 3) := dk_180 0 59 (dk_at dksX4_bear_3 6 rfl rfl)
theorem dX4_bear_81 : decode cX4_bear 81 = .ok (.aload_n 0, 1) := dk_42 (dk_at dksX4_bear_3 9 rfl rfl)
theorem dX4_bear_82 : decode cX4_bear 82 = .ok (.getfield 62, 3) := dk_180 0 62 (dk_at dksX4_bear_3 10 rfl rfl)
theorem dX4_bear_85 : decode cX4_bear 85 = .ok (.iastore, 1) := dk_79 (dk_at dksX4_bear_3 13 rfl rfl)
theorem dX4_bear_86 : decode cX4_bear 86 = .ok (.aload_n 0, 1) := dk_42 (dk_at dksX4_bear_3 14 rfl rfl)
theorem dX4_bear_87 : decode cX4_bear 87 = .ok (.dup, 1) := dk_89 (dk_at dksX4_bear_3 15 rfl rfl)
theorem dX4_bear_88 : decode cX4_bear 88 = .ok (.getfield 59, 3) := dk_180 0 59 (dk_at dksX4_bear_3 16 rfl rfl)
theorem dX4_bear_91 : decode cX4_bear 91 = .ok (.iconst 1, 1) := dk_4 (dk_at dksX4_bear_3 19 rfl rfl)
theorem dX4_bear_92 : decode cX4_bear 92 = .ok (.iadd, 1) := dk_96 (dk_at dksX4_bear_3 20 rfl rfl)
theorem dX4_bear_93 : decode cX4_bear 93 = .ok (.putfield 59, 3) := dk_181 0 59 (dk_at dksX4_bear_3 21 rfl rfl)
theorem dX4_bear_96 : decode cX4_bear 96 = .ok (.iinc 1 1, 3) := dk_132 1 1 (dk_at dksX4_bear_4 0 rfl rfl)
theorem dX4_bear_99 : decode cX4_bear 99 = .ok (.goto (-97), 3) := dk_167 255 159 (dk_at dksX4_bear_4 3 rfl rfl)
theorem dX4_bear_102 : decode cX4_bear 102 = .ok (.return_, 1) := dk_177 (dk_at dksX4_bear_4 6 rfl rfl)
abbrev cX4_war : ByteArray := prog_4_method_17_code
def yX4_war : MethodName := ⟨RX4, "war", "(I)V"⟩
def dkwX4_war_5 : List UInt8 := [180, 0, 65, 4, 96, 181, 0, 65, 177]
abbrev dktX4_war_5 : List UInt8 := dkwX4_war_5 ++ []
def dkwX4_war_4 : List UInt8 := [162, 0, 9, 42, 29, 4, 182, 0, 147, 132, 3, 1, 167, 255, 203, 42, 28, 181, 0, 83, 42, 89]
abbrev dktX4_war_4 : List UInt8 := dkwX4_war_4 ++ dktX4_war_5
def dkwX4_war_3 : List UInt8 := [42, 180, 0, 44, 29, 46, 158, 0, 26, 42, 182, 0, 166, 42, 180, 0, 3, 180, 0, 68, 16, 7, 46]
abbrev dktX4_war_3 : List UInt8 := dkwX4_war_3 ++ dktX4_war_4
def dkwX4_war_2 : List UInt8 := [160, 0, 4, 177, 3, 62, 29, 27, 162, 0, 54, 29, 28, 159, 0, 43, 42, 29, 182, 0, 102, 153, 0, 35]
abbrev dktX4_war_2 : List UInt8 := dkwX4_war_2 ++ dktX4_war_3
def dkwX4_war_1 : List UInt8 := [158, 0, 14, 42, 29, 28, 182, 0, 182, 153, 0, 5, 29, 61, 132, 3, 1, 167, 255, 220, 28, 2]
abbrev dktX4_war_1 : List UInt8 := dkwX4_war_1 ++ dktX4_war_2
def dkwX4_war_0 : List UInt8 := [2, 61, 3, 62, 29, 27, 162, 0, 37, 42, 29, 182, 0, 102, 153, 0, 23, 42, 180, 0, 44, 29, 46]
abbrev dktX4_war_0 : List UInt8 := dkwX4_war_0 ++ dktX4_war_1
theorem dksX4_war_0 : cX4_war.data.toList.drop 0 = dktX4_war_0 := by decide +kernel
theorem dksX4_war_1 : cX4_war.data.toList.drop 23 = dktX4_war_1 := dk_seg dksX4_war_0 23 rfl rfl
theorem dksX4_war_2 : cX4_war.data.toList.drop 45 = dktX4_war_2 := dk_seg dksX4_war_1 22 rfl rfl
theorem dksX4_war_3 : cX4_war.data.toList.drop 69 = dktX4_war_3 := dk_seg dksX4_war_2 24 rfl rfl
theorem dksX4_war_4 : cX4_war.data.toList.drop 92 = dktX4_war_4 := dk_seg dksX4_war_3 23 rfl rfl
theorem dksX4_war_5 : cX4_war.data.toList.drop 114 = dktX4_war_5 := dk_seg dksX4_war_4 22 rfl rfl
theorem dX4_war_0 : decode cX4_war 0 = .ok (.iconst (-1), 1) := dk_2 (dk_at dksX4_war_0 0 rfl rfl)
theorem dX4_war_1 : decode cX4_war 1 = .ok (.istore_n 2, 1) := dk_61 (dk_at dksX4_war_0 1 rfl rfl)
theorem dX4_war_2 : decode cX4_war 2 = .ok (.iconst 0, 1) := dk_3 (dk_at dksX4_war_0 2 rfl rfl)
theorem dX4_war_3 : decode cX4_war 3 = .ok (.istore_n 3, 1) := dk_62 (dk_at dksX4_war_0 3 rfl rfl)
theorem dX4_war_4 : decode cX4_war 4 = .ok (.iload_n 3, 1) := dk_29 (dk_at dksX4_war_0 4 rfl rfl)
theorem dX4_war_5 : decode cX4_war 5 = .ok (.iload_n 1, 1) := dk_27 (dk_at dksX4_war_0 5 rfl rfl)
theorem dX4_war_6 : decode cX4_war 6 = .ok (.if_icmp .ge 37, 3) := dk_162 0 37 (dk_at dksX4_war_0 6 rfl rfl)
theorem dX4_war_9 : decode cX4_war 9 = .ok (.aload_n 0, 1) := dk_42 (dk_at dksX4_war_0 9 rfl rfl)
theorem dX4_war_10 : decode cX4_war 10 = .ok (.iload_n 3, 1) := dk_29 (dk_at dksX4_war_0 10 rfl rfl)
theorem dX4_war_11 : decode cX4_war 11 = .ok (.invokevirtual 102, 3) := dk_182 0 102 (dk_at dksX4_war_0 11 rfl rfl)
theorem dX4_war_14 : decode cX4_war 14 = .ok (.ifCond .eq 23, 3) := dk_153 0 23 (dk_at dksX4_war_0 14 rfl rfl)
theorem dX4_war_17 : decode cX4_war 17 = .ok (.aload_n 0, 1) := dk_42 (dk_at dksX4_war_0 17 rfl rfl)
theorem dX4_war_18 : decode cX4_war 18 = .ok (.getfield 44, 3) := dk_180 0 44 (dk_at dksX4_war_0 18 rfl rfl)
theorem dX4_war_21 : decode cX4_war 21 = .ok (.iload_n 3, 1) := dk_29 (dk_at dksX4_war_0 21 rfl rfl)
theorem dX4_war_22 : decode cX4_war 22 = .ok (.iaload, 1) := dk_46 (dk_at dksX4_war_0 22 rfl rfl)
theorem dX4_war_23 : decode cX4_war 23 = .ok (.ifCond .le 14, 3) := dk_158 0 14 (dk_at dksX4_war_1 0 rfl rfl)
theorem dX4_war_26 : decode cX4_war 26 = .ok (.aload_n 0, 1) := dk_42 (dk_at dksX4_war_1 3 rfl rfl)
theorem dX4_war_27 : decode cX4_war 27 = .ok (.iload_n 3, 1) := dk_29 (dk_at dksX4_war_1 4 rfl rfl)
theorem dX4_war_28 : decode cX4_war 28 = .ok (.iload_n 2, 1) := dk_28 (dk_at dksX4_war_1 5 rfl rfl)
theorem dX4_war_29 : decode cX4_war 29 = .ok (.invokevirtual 182, 3) := dk_182 0 182 (dk_at dksX4_war_1 6 rfl rfl)
theorem dX4_war_32 : decode cX4_war 32 = .ok (.ifCond .eq 5, 3) := dk_153 0 5 (dk_at dksX4_war_1 9 rfl rfl)
theorem dX4_war_35 : decode cX4_war 35 = .ok (.iload_n 3, 1) := dk_29 (dk_at dksX4_war_1 12 rfl rfl)
theorem dX4_war_36 : decode cX4_war 36 = .ok (.istore_n 2, 1) := dk_61 (dk_at dksX4_war_1 13 rfl rfl)
theorem dX4_war_37 : decode cX4_war 37 = .ok (.iinc 3 1, 3) := dk_132 3 1 (dk_at dksX4_war_1 14 rfl rfl)
theorem dX4_war_40 : decode cX4_war 40 = .ok (.goto (-36), 3) := dk_167 255 220 (dk_at dksX4_war_1 17 rfl rfl)
theorem dX4_war_43 : decode cX4_war 43 = .ok (.iload_n 2, 1) := dk_28 (dk_at dksX4_war_1 20 rfl rfl)
theorem dX4_war_44 : decode cX4_war 44 = .ok (.iconst (-1), 1) := dk_2 (dk_at dksX4_war_1 21 rfl rfl)
theorem dX4_war_45 : decode cX4_war 45 = .ok (.if_icmp .ne 4, 3) := dk_160 0 4 (dk_at dksX4_war_2 0 rfl rfl)
theorem dX4_war_48 : decode cX4_war 48 = .ok (.return_, 1) := dk_177 (dk_at dksX4_war_2 3 rfl rfl)
theorem dX4_war_49 : decode cX4_war 49 = .ok (.iconst 0, 1) := dk_3 (dk_at dksX4_war_2 4 rfl rfl)
theorem dX4_war_50 : decode cX4_war 50 = .ok (.istore_n 3, 1) := dk_62 (dk_at dksX4_war_2 5 rfl rfl)
theorem dX4_war_51 : decode cX4_war 51 = .ok (.iload_n 3, 1) := dk_29 (dk_at dksX4_war_2 6 rfl rfl)
theorem dX4_war_52 : decode cX4_war 52 = .ok (.iload_n 1, 1) := dk_27 (dk_at dksX4_war_2 7 rfl rfl)
theorem dX4_war_53 : decode cX4_war 53 = .ok (.if_icmp .ge 54, 3) := dk_162 0 54 (dk_at dksX4_war_2 8 rfl rfl)
theorem dX4_war_56 : decode cX4_war 56 = .ok (.iload_n 3, 1) := dk_29 (dk_at dksX4_war_2 11 rfl rfl)
theorem dX4_war_57 : decode cX4_war 57 = .ok (.iload_n 2, 1) := dk_28 (dk_at dksX4_war_2 12 rfl rfl)
theorem dX4_war_58 : decode cX4_war 58 = .ok (.if_icmp .eq 43, 3) := dk_159 0 43 (dk_at dksX4_war_2 13 rfl rfl)
theorem dX4_war_61 : decode cX4_war 61 = .ok (.aload_n 0, 1) := dk_42 (dk_at dksX4_war_2 16 rfl rfl)
theorem dX4_war_62 : decode cX4_war 62 = .ok (.iload_n 3, 1) := dk_29 (dk_at dksX4_war_2 17 rfl rfl)
theorem dX4_war_63 : decode cX4_war 63 = .ok (.invokevirtual 102, 3) := dk_182 0 102 (dk_at dksX4_war_2 18 rfl rfl)
theorem dX4_war_66 : decode cX4_war 66 = .ok (.ifCond .eq 35, 3) := dk_153 0 35 (dk_at dksX4_war_2 21 rfl rfl)
theorem dX4_war_69 : decode cX4_war 69 = .ok (.aload_n 0, 1) := dk_42 (dk_at dksX4_war_3 0 rfl rfl)
theorem dX4_war_70 : decode cX4_war 70 = .ok (.getfield 44, 3) := dk_180 0 44 (dk_at dksX4_war_3 1 rfl rfl)
theorem dX4_war_73 : decode cX4_war 73 = .ok (.iload_n 3, 1) := dk_29 (dk_at dksX4_war_3 4 rfl rfl)
theorem dX4_war_74 : decode cX4_war 74 = .ok (.iaload, 1) := dk_46 (dk_at dksX4_war_3 5 rfl rfl)
theorem dX4_war_75 : decode cX4_war 75 = .ok (.ifCond .le 26, 3) := dk_158 0 26 (dk_at dksX4_war_3 6 rfl rfl)
theorem dX4_war_78 : decode cX4_war 78 = .ok (.aload_n 0, 1) := dk_42 (dk_at dksX4_war_3 9 rfl rfl)
theorem dX4_war_79 : decode cX4_war 79 = .ok (.invokevirtual 166, 3) := dk_182 0 166 (dk_at dksX4_war_3 10 rfl rfl)
theorem dX4_war_82 : decode cX4_war 82 = .ok (.aload_n 0, 1) := dk_42 (dk_at dksX4_war_3 13 rfl rfl)
theorem dX4_war_83 : decode cX4_war 83 = .ok (.getfield 3, 3) := dk_180 0 3 (dk_at dksX4_war_3 14 rfl rfl)
theorem dX4_war_86 : decode cX4_war 86 = .ok (.getfield 68, 3) := dk_180 0 68 (dk_at dksX4_war_3 17 rfl rfl)
theorem dX4_war_89 : decode cX4_war 89 = .ok (.bipush 7, 2) := dk_16 7 (dk_at dksX4_war_3 20 rfl rfl)
theorem dX4_war_91 : decode cX4_war 91 = .ok (.iaload, 1) := dk_46 (dk_at dksX4_war_3 22 rfl rfl)
theorem dX4_war_92 : decode cX4_war 92 = .ok (.if_icmp .ge 9, 3) := dk_162 0 9 (dk_at dksX4_war_4 0 rfl rfl)
theorem dX4_war_95 : decode cX4_war 95 = .ok (.aload_n 0, 1) := dk_42 (dk_at dksX4_war_4 3 rfl rfl)
theorem dX4_war_96 : decode cX4_war 96 = .ok (.iload_n 3, 1) := dk_29 (dk_at dksX4_war_4 4 rfl rfl)
theorem dX4_war_97 : decode cX4_war 97 = .ok (.iconst 1, 1) := dk_4 (dk_at dksX4_war_4 5 rfl rfl)
theorem dX4_war_98 : decode cX4_war 98 = .ok (.invokevirtual 147, 3) := dk_182 0 147 (dk_at dksX4_war_4 6 rfl rfl)
theorem dX4_war_101 : decode cX4_war 101 = .ok (.iinc 3 1, 3) := dk_132 3 1 (dk_at dksX4_war_4 9 rfl rfl)
theorem dX4_war_104 : decode cX4_war 104 = .ok (.goto (-53), 3) := dk_167 255 203 (dk_at dksX4_war_4 12 rfl rfl)
theorem dX4_war_107 : decode cX4_war 107 = .ok (.aload_n 0, 1) := dk_42 (dk_at dksX4_war_4 15 rfl rfl)
theorem dX4_war_108 : decode cX4_war 108 = .ok (.iload_n 2, 1) := dk_28 (dk_at dksX4_war_4 16 rfl rfl)
theorem dX4_war_109 : decode cX4_war 109 = .ok (.putfield 83, 3) := dk_181 0 83 (dk_at dksX4_war_4 17 rfl rfl)
theorem dX4_war_112 : decode cX4_war 112 = .ok (.aload_n 0, 1) := dk_42 (dk_at dksX4_war_4 20 rfl rfl)
theorem dX4_war_113 : decode cX4_war 113 = .ok (.dup, 1) := dk_89 (dk_at dksX4_war_4 21 rfl rfl)
theorem dX4_war_114 : decode cX4_war 114 = .ok (.getfield 65, 3) := dk_180 0 65 (dk_at dksX4_war_5 0 rfl rfl)
theorem dX4_war_117 : decode cX4_war 117 = .ok (.iconst 1, 1) := dk_4 (dk_at dksX4_war_5 3 rfl rfl)
theorem dX4_war_118 : decode cX4_war 118 = .ok (.iadd, 1) := dk_96 (dk_at dksX4_war_5 4 rfl rfl)
theorem dX4_war_119 : decode cX4_war 119 = .ok (.putfield 65, 3) := dk_181 0 65 (dk_at dksX4_war_5 5 rfl rfl)
theorem dX4_war_122 : decode cX4_war 122 = .ok (.return_, 1) := dk_177 (dk_at dksX4_war_5 8 rfl rfl)
abbrev cX4_isBetter : ByteArray := prog_4_method_16_code
def yX4_isBetter : MethodName := ⟨RX4, "isBetter", "(II)Z"⟩
def dkwX4_isBetter_2 : List UInt8 := [164, 0, 7, 4, 167, 0, 4, 3, 172]
abbrev dktX4_isBetter_2 : List UInt8 := dkwX4_isBetter_2 ++ []
def dkwX4_isBetter_1 : List UInt8 := [27, 46, 42, 180, 0, 44, 28, 46, 160, 0, 22, 42, 180, 0, 26, 27, 46, 42, 180, 0, 26, 28, 46]
abbrev dktX4_isBetter_1 : List UInt8 := dkwX4_isBetter_1 ++ dktX4_isBetter_2
def dkwX4_isBetter_0 : List UInt8 := [28, 2, 159, 0, 48, 42, 180, 0, 44, 27, 46, 42, 180, 0, 44, 28, 46, 163, 0, 33, 42, 180, 0, 44]
abbrev dktX4_isBetter_0 : List UInt8 := dkwX4_isBetter_0 ++ dktX4_isBetter_1
theorem dksX4_isBetter_0 : cX4_isBetter.data.toList.drop 0 = dktX4_isBetter_0 := by decide +kernel
theorem dksX4_isBetter_1 : cX4_isBetter.data.toList.drop 24 = dktX4_isBetter_1 := dk_seg dksX4_isBetter_0 24 rfl rfl
theorem dksX4_isBetter_2 : cX4_isBetter.data.toList.drop 47 = dktX4_isBetter_2 := dk_seg dksX4_isBetter_1 23 rfl rfl
theorem dX4_isBetter_0 : decode cX4_isBetter 0 = .ok (.iload_n 2, 1) := dk_28 (dk_at dksX4_isBetter_0 0 rfl rfl)
theorem dX4_isBetter_1 : decode cX4_isBetter 1 = .ok (.iconst (-1), 1) := dk_2 (dk_at dksX4_isBetter_0 1 rfl rfl)
theorem dX4_isBetter_2 : decode cX4_isBetter 2 = .ok (.if_icmp .eq 48, 3) := dk_159 0 48 (dk_at dksX4_isBetter_0 2 rfl rfl)
theorem dX4_isBetter_5 : decode cX4_isBetter 5 = .ok (.aload_n 0, 1) := dk_42 (dk_at dksX4_isBetter_0 5 rfl rfl)
theorem dX4_isBetter_6 : decode cX4_isBetter 6 = .ok (.getfield 44, 3) := dk_180 0 44 (dk_at dksX4_isBetter_0 6 rfl rfl)
theorem dX4_isBetter_9 : decode cX4_isBetter 9 = .ok (.iload_n 1, 1) := dk_27 (dk_at dksX4_isBetter_0 9 rfl rfl)
theorem dX4_isBetter_10 : decode cX4_isBetter 10 = .ok (.iaload, 1) := dk_46 (dk_at dksX4_isBetter_0 10 rfl rfl)
theorem dX4_isBetter_11 : decode cX4_isBetter 11 = .ok (.aload_n 0, 1) := dk_42 (dk_at dksX4_isBetter_0 11 rfl rfl)
theorem dX4_isBetter_12 : decode cX4_isBetter 12 = .ok (.getfield 44, 3) := dk_180 0 44 (dk_at dksX4_isBetter_0 12 rfl rfl)
theorem dX4_isBetter_15 : decode cX4_isBetter 15 = .ok (.iload_n 2, 1) := dk_28 (dk_at dksX4_isBetter_0 15 rfl rfl)
theorem dX4_isBetter_16 : decode cX4_isBetter 16 = .ok (.iaload, 1) := dk_46 (dk_at dksX4_isBetter_0 16 rfl rfl)
theorem dX4_isBetter_17 : decode cX4_isBetter 17 = .ok (.if_icmp .gt 33, 3) := dk_163 0 33 (dk_at dksX4_isBetter_0 17 rfl rfl)
theorem dX4_isBetter_20 : decode cX4_isBetter 20 = .ok (.aload_n 0, 1) := dk_42 (dk_at dksX4_isBetter_0 20 rfl rfl)
theorem dX4_isBetter_21 : decode cX4_isBetter 21 = .ok (.getfield 44, 3) := dk_180 0 44 (dk_at dksX4_isBetter_0 21 rfl rfl)
theorem dX4_isBetter_24 : decode cX4_isBetter 24 = .ok (.iload_n 1, 1) := dk_27 (dk_at dksX4_isBetter_1 0 rfl rfl)
theorem dX4_isBetter_25 : decode cX4_isBetter 25 = .ok (.iaload, 1) := dk_46 (dk_at dksX4_isBetter_1 1 rfl rfl)
theorem dX4_isBetter_26 : decode cX4_isBetter 26 = .ok (.aload_n 0, 1) := dk_42 (dk_at dksX4_isBetter_1 2 rfl rfl)
theorem dX4_isBetter_27 : decode cX4_isBetter 27 = .ok (.getfield 44, 3) := dk_180 0 44 (dk_at dksX4_isBetter_1 3 rfl rfl)
theorem dX4_isBetter_30 : decode cX4_isBetter 30 = .ok (.iload_n 2, 1) := dk_28 (dk_at dksX4_isBetter_1 6 rfl rfl)
theorem dX4_isBetter_31 : decode cX4_isBetter 31 = .ok (.iaload, 1) := dk_46 (dk_at dksX4_isBetter_1 7 rfl rfl)
theorem dX4_isBetter_32 : decode cX4_isBetter 32 = .ok (.if_icmp .ne 22, 3) := dk_160 0 22 (dk_at dksX4_isBetter_1 8 rfl rfl)
theorem dX4_isBetter_35 : decode cX4_isBetter 35 = .ok (.aload_n 0, 1) := dk_42 (dk_at dksX4_isBetter_1 11 rfl rfl)
theorem dX4_isBetter_36 : decode cX4_isBetter 36 = .ok (.getfield 26, 3) := dk_180 0 26 (dk_at dksX4_isBetter_1 12 rfl rfl)
theorem dX4_isBetter_39 : decode cX4_isBetter 39 = .ok (.iload_n 1, 1) := dk_27 (dk_at dksX4_isBetter_1 15 rfl rfl)
theorem dX4_isBetter_40 : decode cX4_isBetter 40 = .ok (.iaload, 1) := dk_46 (dk_at dksX4_isBetter_1 16 rfl rfl)
theorem dX4_isBetter_41 : decode cX4_isBetter 41 = .ok (.aload_n 0, 1) := dk_42 (dk_at dksX4_isBetter_1 17 rfl rfl)
theorem dX4_isBetter_42 : decode cX4_isBetter 42 = .ok (.getfield 26, 3) := dk_180 0 26 (dk_at dksX4_isBetter_1 18 rfl rfl)
theorem dX4_isBetter_45 : decode cX4_isBetter 45 = .ok (.iload_n 2, 1) := dk_28 (dk_at dksX4_isBetter_1 21 rfl rfl)
theorem dX4_isBetter_46 : decode cX4_isBetter 46 = .ok (.iaload, 1) := dk_46 (dk_at dksX4_isBetter_1 22 rfl rfl)
theorem dX4_isBetter_47 : decode cX4_isBetter 47 = .ok (.if_icmp .le 7, 3) := dk_164 0 7 (dk_at dksX4_isBetter_2 0 rfl rfl)
theorem dX4_isBetter_50 : decode cX4_isBetter 50 = .ok (.iconst 1, 1) := dk_4 (dk_at dksX4_isBetter_2 3 rfl rfl)
theorem dX4_isBetter_51 : decode cX4_isBetter 51 = .ok (.goto 4, 3) := dk_167 0 4 (dk_at dksX4_isBetter_2 4 rfl rfl)
theorem dX4_isBetter_54 : decode cX4_isBetter 54 = .ok (.iconst 0, 1) := dk_3 (dk_at dksX4_isBetter_2 7 rfl rfl)
theorem dX4_isBetter_55 : decode cX4_isBetter 55 = .ok (.ireturn, 1) := dk_172 (dk_at dksX4_isBetter_2 8 rfl rfl)
abbrev cX4_ended : ByteArray := prog_4_method_19_code
def yX4_ended : MethodName := ⟨RX4, "ended", "(I)I"⟩
def dkwX4_ended_1 : List UInt8 := [167, 0, 4, 3, 96, 61, 132, 3, 1, 167, 255, 227, 28, 172]
abbrev dktX4_ended_1 : List UInt8 := dkwX4_ended_1 ++ []
def dkwX4_ended_0 : List UInt8 := [3, 61, 3, 62, 29, 42, 180, 0, 59, 162, 0, 27, 28, 42, 180, 0, 22, 29, 46, 27, 160, 0, 7, 4]
abbrev dktX4_ended_0 : List UInt8 := dkwX4_ended_0 ++ dktX4_ended_1
theorem dksX4_ended_0 : cX4_ended.data.toList.drop 0 = dktX4_ended_0 := by decide +kernel
theorem dksX4_ended_1 : cX4_ended.data.toList.drop 24 = dktX4_ended_1 := dk_seg dksX4_ended_0 24 rfl rfl
theorem dX4_ended_0 : decode cX4_ended 0 = .ok (.iconst 0, 1) := dk_3 (dk_at dksX4_ended_0 0 rfl rfl)
theorem dX4_ended_1 : decode cX4_ended 1 = .ok (.istore_n 2, 1) := dk_61 (dk_at dksX4_ended_0 1 rfl rfl)
theorem dX4_ended_2 : decode cX4_ended 2 = .ok (.iconst 0, 1) := dk_3 (dk_at dksX4_ended_0 2 rfl rfl)
theorem dX4_ended_3 : decode cX4_ended 3 = .ok (.istore_n 3, 1) := dk_62 (dk_at dksX4_ended_0 3 rfl rfl)
theorem dX4_ended_4 : decode cX4_ended 4 = .ok (.iload_n 3, 1) := dk_29 (dk_at dksX4_ended_0 4 rfl rfl)
theorem dX4_ended_5 : decode cX4_ended 5 = .ok (.aload_n 0, 1) := dk_42 (dk_at dksX4_ended_0 5 rfl rfl)
theorem dX4_ended_6 : decode cX4_ended 6 = .ok (.getfield 59, 3) := dk_180 0 59 (dk_at dksX4_ended_0 6 rfl rfl)
theorem dX4_ended_9 : decode cX4_ended 9 = .ok (.if_icmp .ge 27, 3) := dk_162 0 27 (dk_at dksX4_ended_0 9 rfl rfl)
theorem dX4_ended_12 : decode cX4_ended 12 = .ok (.iload_n 2, 1) := dk_28 (dk_at dksX4_ended_0 12 rfl rfl)
theorem dX4_ended_13 : decode cX4_ended 13 = .ok (.aload_n 0, 1) := dk_42 (dk_at dksX4_ended_0 13 rfl rfl)
theorem dX4_ended_14 : decode cX4_ended 14 = .ok (.getfield 22, 3) := dk_180 0 22 (dk_at dksX4_ended_0 14 rfl rfl)
theorem dX4_ended_17 : decode cX4_ended 17 = .ok (.iload_n 3, 1) := dk_29 (dk_at dksX4_ended_0 17 rfl rfl)
theorem dX4_ended_18 : decode cX4_ended 18 = .ok (.iaload, 1) := dk_46 (dk_at dksX4_ended_0 18 rfl rfl)
theorem dX4_ended_19 : decode cX4_ended 19 = .ok (.iload_n 1, 1) := dk_27 (dk_at dksX4_ended_0 19 rfl rfl)
theorem dX4_ended_20 : decode cX4_ended 20 = .ok (.if_icmp .ne 7, 3) := dk_160 0 7 (dk_at dksX4_ended_0 20 rfl rfl)
theorem dX4_ended_23 : decode cX4_ended 23 = .ok (.iconst 1, 1) := dk_4 (dk_at dksX4_ended_0 23 rfl rfl)
theorem dX4_ended_24 : decode cX4_ended 24 = .ok (.goto 4, 3) := dk_167 0 4 (dk_at dksX4_ended_1 0 rfl rfl)
theorem dX4_ended_27 : decode cX4_ended 27 = .ok (.iconst 0, 1) := dk_3 (dk_at dksX4_ended_1 3 rfl rfl)
theorem dX4_ended_28 : decode cX4_ended 28 = .ok (.iadd, 1) := dk_96 (dk_at dksX4_ended_1 4 rfl rfl)
theorem dX4_ended_29 : decode cX4_ended 29 = .ok (.istore_n 2, 1) := dk_61 (dk_at dksX4_ended_1 5 rfl rfl)
theorem dX4_ended_30 : decode cX4_ended 30 = .ok (.iinc 3 1, 3) := dk_132 3 1 (dk_at dksX4_ended_1 6 rfl rfl)
theorem dX4_ended_33 : decode cX4_ended 33 = .ok (.goto (-29), 3) := dk_167 255 227 (dk_at dksX4_ended_1 9 rfl rfl)
theorem dX4_ended_36 : decode cX4_ended 36 = .ok (.iload_n 2, 1) := dk_28 (dk_at dksX4_ended_1 12 rfl rfl)
theorem dX4_ended_37 : decode cX4_ended 37 = .ok (.ireturn, 1) := dk_172 (dk_at dksX4_ended_1 13 rfl rfl)
theorem q83 : (Jvm.Cond.initialized "OneBears$Colony") ∈ lw_all := lw_g (lw_at lw_m1 6 rfl) rfl
theorem q190 : (Jvm.Cond.instantiable "OneBears$Colony" (21 : Nat)) ∈ lw_all := lw_g (lw_at lw_m1 113 rfl) rfl
theorem q192 : (Jvm.Cond.instanceMethod ({ cls := "OneBears$Colony", name := "<init>", desc := "(LOneBears;)V" } : Jvm.MethodName)) ∈ lw_all := lw_g (lw_at lw_m1 115 rfl) rfl
theorem q193 : (Jvm.Cond.code ({ cls := "OneBears$Colony", name := "<init>", desc := "(LOneBears;)V" } : Jvm.MethodName) prog_4_method_1_code (2 : Nat) (Option.none : Option Jvm.ClassFile.FieldType)) ∈ lw_all := lw_g (lw_at lw_m1 116 rfl) rfl
theorem q194 : (Jvm.Cond.methodLink "OneBears$Colony" (9 : Nat) ({ cls := "java/lang/Object", name := "<init>", desc := "()V" } : Jvm.MethodName)) ∈ lw_all := lw_g (lw_at lw_m1 117 rfl) rfl
theorem q195 : (Jvm.Cond.classLink "OneBears$Colony" (15 : Nat) "OneBears$Tree") ∈ lw_all := lw_g (lw_at lw_m1 118 rfl) rfl
theorem q196 : (Jvm.Cond.methodLinkNest "OneBears$Colony" (17 : Nat) ({ cls := "OneBears$Tree", name := "<init>", desc := "()V" } : Jvm.MethodName) "OneBears") ∈ lw_tbl := lw_at lw_m1 119 rfl
theorem q197 : (Jvm.Cond.fieldLink "OneBears$Colony" (47 : Nat) "OneBears$Colony" "law" "LOneBears$Clause;") ∈ lw_all := lw_g (lw_at lw_m1 120 rfl) rfl
theorem q198 : (Jvm.Cond.fieldLink "OneBears$Colony" (51 : Nat) "OneBears$Colony" "draws" "J") ∈ lw_all := lw_g (lw_at lw_m1 121 rfl) rfl
theorem q199 : (Jvm.Cond.fieldLink "OneBears$Colony" (62 : Nat) "OneBears$Colony" "month" "I") ∈ lw_all := lw_g (lw_at lw_m1 122 rfl) rfl
theorem q200 : (Jvm.Cond.fieldLink "OneBears$Colony" (55 : Nat) "OneBears$Colony" "change" "I") ∈ lw_all := lw_g (lw_at lw_m1 123 rfl) rfl
theorem q201 : (Jvm.Cond.fieldLink "OneBears$Colony" (59 : Nat) "OneBears$Colony" "many" "I") ∈ lw_all := lw_g (lw_at lw_m1 124 rfl) rfl
theorem q203 : (Jvm.Cond.fieldLink "OneBears$Colony" (71 : Nat) "OneBears$Colony" "store" "I") ∈ lw_all := lw_g (lw_at lw_m1 126 rfl) rfl
theorem q205 : (Jvm.Cond.fieldLink "OneBears$Colony" (74 : Nat) "OneBears$Colony" "chance" "I") ∈ lw_all := lw_g (lw_at lw_m1 128 rfl) rfl
theorem q207 : (Jvm.Cond.fieldLink "OneBears$Colony" (80 : Nat) "OneBears$Colony" "first" "I") ∈ lw_all := lw_g (lw_at lw_m1 130 rfl) rfl
theorem q208 : (Jvm.Cond.fieldLink "OneBears$Colony" (83 : Nat) "OneBears$Colony" "reigns" "I") ∈ lw_all := lw_g (lw_at lw_m1 131 rfl) rfl
theorem q210 : (Jvm.Cond.fieldLink "OneBears$Colony" (89 : Nat) "OneBears$Colony" "partner" "I") ∈ lw_all := lw_g (lw_at lw_m1 133 rfl) rfl
theorem q211 : (Jvm.Cond.fieldLink "OneBears$Colony" (65 : Nat) "OneBears$Colony" "wars" "I") ∈ lw_all := lw_g (lw_at lw_m1 134 rfl) rfl
theorem q213 : (Jvm.Cond.fieldLink "OneBears$Colony" (18 : Nat) "OneBears$Colony" "family" "LOneBears$Tree;") ∈ lw_all := lw_g (lw_at lw_m1 136 rfl) rfl
theorem q214 : (Jvm.Cond.fieldLink "OneBears$Colony" (22 : Nat) "OneBears$Colony" "state" "[I") ∈ lw_all := lw_g (lw_at lw_m1 137 rfl) rfl
theorem q216 : (Jvm.Cond.fieldLink "OneBears$Colony" (26 : Nat) "OneBears$Colony" "weight" "[I") ∈ lw_all := lw_g (lw_at lw_m1 139 rfl) rfl
theorem q218 : (Jvm.Cond.fieldLink "OneBears$Colony" (29 : Nat) "OneBears$Colony" "when" "[I") ∈ lw_all := lw_g (lw_at lw_m1 141 rfl) rfl
theorem q220 : (Jvm.Cond.fieldLink "OneBears$Colony" (32 : Nat) "OneBears$Colony" "born" "[I") ∈ lw_all := lw_g (lw_at lw_m1 143 rfl) rfl
theorem q222 : (Jvm.Cond.fieldLink "OneBears$Colony" (35 : Nat) "OneBears$Colony" "digs" "[I") ∈ lw_all := lw_g (lw_at lw_m1 145 rfl) rfl
theorem q223 : (Jvm.Cond.fieldLink "OneBears$Colony" (38 : Nat) "OneBears$Colony" "eats" "[I") ∈ lw_all := lw_g (lw_at lw_m1 146 rfl) rfl
theorem q224 : (Jvm.Cond.fieldLink "OneBears$Colony" (41 : Nat) "OneBears$Colony" "stays" "[I") ∈ lw_all := lw_g (lw_at lw_m1 147 rfl) rfl
theorem q225 : (Jvm.Cond.fieldLink "OneBears$Colony" (44 : Nat) "OneBears$Colony" "fights" "[I") ∈ lw_all := lw_g (lw_at lw_m1 148 rfl) rfl
theorem q226 : (Jvm.Cond.fieldLink "OneBears$Colony" (3 : Nat) "OneBears$Colony" "this$0" "LOneBears;") ∈ lw_all := lw_g (lw_at lw_m1 149 rfl) rfl
theorem q227 : (Jvm.Cond.lays "OneBears$Colony" "OneBears$Colony" "law" "LOneBears$Clause;") ∈ lw_all := lw_g (lw_at lw_m1 150 rfl) rfl
theorem q228 : (Jvm.Cond.soleField "OneBears$Colony" "law") ∈ lw_all := lw_g (lw_at lw_m1 151 rfl) rfl
theorem q229 : (Jvm.Cond.lays "OneBears$Colony" "OneBears$Colony" "draws" "J") ∈ lw_all := lw_g (lw_at lw_m1 152 rfl) rfl
theorem q230 : (Jvm.Cond.soleField "OneBears$Colony" "draws") ∈ lw_all := lw_g (lw_at lw_m1 153 rfl) rfl
theorem q231 : (Jvm.Cond.lays "OneBears$Colony" "OneBears$Colony" "month" "I") ∈ lw_all := lw_g (lw_at lw_m1 154 rfl) rfl
theorem q232 : (Jvm.Cond.soleField "OneBears$Colony" "month") ∈ lw_all := lw_g (lw_at lw_m1 155 rfl) rfl
theorem q233 : (Jvm.Cond.lays "OneBears$Colony" "OneBears$Colony" "change" "I") ∈ lw_all := lw_g (lw_at lw_m1 156 rfl) rfl
theorem q234 : (Jvm.Cond.soleField "OneBears$Colony" "change") ∈ lw_all := lw_g (lw_at lw_m1 157 rfl) rfl
theorem q235 : (Jvm.Cond.lays "OneBears$Colony" "OneBears$Colony" "many" "I") ∈ lw_all := lw_g (lw_at lw_m1 158 rfl) rfl
theorem q236 : (Jvm.Cond.soleField "OneBears$Colony" "many") ∈ lw_all := lw_g (lw_at lw_m1 159 rfl) rfl
theorem q237 : (Jvm.Cond.lays "OneBears$Colony" "OneBears$Colony" "store" "I") ∈ lw_all := lw_g (lw_at lw_m1 160 rfl) rfl
theorem q238 : (Jvm.Cond.soleField "OneBears$Colony" "store") ∈ lw_all := lw_g (lw_at lw_m1 161 rfl) rfl
theorem q239 : (Jvm.Cond.lays "OneBears$Colony" "OneBears$Colony" "chance" "I") ∈ lw_all := lw_g (lw_at lw_m1 162 rfl) rfl
theorem q240 : (Jvm.Cond.soleField "OneBears$Colony" "chance") ∈ lw_all := lw_g (lw_at lw_m1 163 rfl) rfl
theorem q241 : (Jvm.Cond.lays "OneBears$Colony" "OneBears$Colony" "first" "I") ∈ lw_all := lw_g (lw_at lw_m1 164 rfl) rfl
theorem q242 : (Jvm.Cond.soleField "OneBears$Colony" "first") ∈ lw_all := lw_g (lw_at lw_m1 165 rfl) rfl
theorem q243 : (Jvm.Cond.lays "OneBears$Colony" "OneBears$Colony" "reigns" "I") ∈ lw_all := lw_g (lw_at lw_m1 166 rfl) rfl
theorem q244 : (Jvm.Cond.soleField "OneBears$Colony" "reigns") ∈ lw_all := lw_g (lw_at lw_m1 167 rfl) rfl
theorem q245 : (Jvm.Cond.lays "OneBears$Colony" "OneBears$Colony" "partner" "I") ∈ lw_all := lw_g (lw_at lw_m1 168 rfl) rfl
theorem q246 : (Jvm.Cond.soleField "OneBears$Colony" "partner") ∈ lw_all := lw_g (lw_at lw_m1 169 rfl) rfl
theorem q247 : (Jvm.Cond.lays "OneBears$Colony" "OneBears$Colony" "wars" "I") ∈ lw_all := lw_g (lw_at lw_m1 170 rfl) rfl
theorem q248 : (Jvm.Cond.soleField "OneBears$Colony" "wars") ∈ lw_all := lw_g (lw_at lw_m1 171 rfl) rfl
theorem q249 : (Jvm.Cond.laysFinal "OneBears$Colony" "OneBears$Colony" "family" "LOneBears$Tree;") ∈ lw_all := lw_g (lw_at lw_m1 172 rfl) rfl
theorem q250 : (Jvm.Cond.soleField "OneBears$Colony" "family") ∈ lw_all := lw_g (lw_at lw_m1 173 rfl) rfl
theorem q251 : (Jvm.Cond.laysFinal "OneBears$Colony" "OneBears$Colony" "state" "[I") ∈ lw_all := lw_g (lw_at lw_m1 174 rfl) rfl
theorem q252 : (Jvm.Cond.soleField "OneBears$Colony" "state") ∈ lw_all := lw_g (lw_at lw_m1 175 rfl) rfl
theorem q253 : (Jvm.Cond.laysFinal "OneBears$Colony" "OneBears$Colony" "weight" "[I") ∈ lw_all := lw_g (lw_at lw_m1 176 rfl) rfl
theorem q254 : (Jvm.Cond.soleField "OneBears$Colony" "weight") ∈ lw_all := lw_g (lw_at lw_m1 177 rfl) rfl
theorem q255 : (Jvm.Cond.laysFinal "OneBears$Colony" "OneBears$Colony" "when" "[I") ∈ lw_all := lw_g (lw_at lw_m1 178 rfl) rfl
theorem q256 : (Jvm.Cond.soleField "OneBears$Colony" "when") ∈ lw_all := lw_g (lw_at lw_m1 179 rfl) rfl
theorem q257 : (Jvm.Cond.laysFinal "OneBears$Colony" "OneBears$Colony" "born" "[I") ∈ lw_all := lw_g (lw_at lw_m1 180 rfl) rfl
theorem q258 : (Jvm.Cond.soleField "OneBears$Colony" "born") ∈ lw_all := lw_g (lw_at lw_m1 181 rfl) rfl
theorem q259 : (Jvm.Cond.laysFinal "OneBears$Colony" "OneBears$Colony" "digs" "[I") ∈ lw_all := lw_g (lw_at lw_m1 182 rfl) rfl
theorem q260 : (Jvm.Cond.soleField "OneBears$Colony" "digs") ∈ lw_all := lw_g (lw_at lw_m1 183 rfl) rfl
theorem q261 : (Jvm.Cond.laysFinal "OneBears$Colony" "OneBears$Colony" "eats" "[I") ∈ lw_all := lw_g (lw_at lw_m1 184 rfl) rfl
theorem q262 : (Jvm.Cond.soleField "OneBears$Colony" "eats") ∈ lw_all := lw_g (lw_at lw_m1 185 rfl) rfl
theorem q263 : (Jvm.Cond.laysFinal "OneBears$Colony" "OneBears$Colony" "stays" "[I") ∈ lw_all := lw_g (lw_at lw_m1 186 rfl) rfl
theorem q264 : (Jvm.Cond.soleField "OneBears$Colony" "stays") ∈ lw_all := lw_g (lw_at lw_m1 187 rfl) rfl
theorem q265 : (Jvm.Cond.laysFinal "OneBears$Colony" "OneBears$Colony" "fights" "[I") ∈ lw_all := lw_g (lw_at lw_m1 188 rfl) rfl
theorem q266 : (Jvm.Cond.soleField "OneBears$Colony" "fights") ∈ lw_all := lw_g (lw_at lw_m1 189 rfl) rfl
theorem q267 : (Jvm.Cond.laysFinal "OneBears$Colony" "OneBears$Colony" "this$0" "LOneBears;") ∈ lw_all := lw_g (lw_at lw_m1 190 rfl) rfl
theorem q268 : (Jvm.Cond.soleField "OneBears$Colony" "this$0") ∈ lw_all := lw_g (lw_at lw_m1 191 rfl) rfl
theorem q269 : (Jvm.Cond.superclass "OneBears$Colony" "java/lang/Object") ∈ lw_all := lw_g (lw_at lw_m1 192 rfl) rfl
theorem q276 : (Jvm.Cond.fieldLinkNest "OneBears$Colony" (116 : Nat) "OneBears" "letters" "[I" "OneBears") ∈ lw_tbl := lw_at lw_m1 199 rfl
theorem q280 : (Jvm.Cond.fieldLinkNest "OneBears$Colony" (92 : Nat) "OneBears" "tree" "LOneBears$Tree;" "OneBears") ∈ lw_tbl := lw_at lw_m1 203 rfl
theorem q282 : (Jvm.Cond.fieldLinkNest "OneBears$Colony" (99 : Nat) "OneBears" "weights" "[I" "OneBears") ∈ lw_tbl := lw_at lw_m1 205 rfl
theorem q285 : (Jvm.Cond.fieldLinkNest "OneBears$Colony" (77 : Nat) "OneBears" "queen" "I" "OneBears") ∈ lw_tbl := lw_at lw_m1 208 rfl
theorem q287 : (Jvm.Cond.fieldLinkNest "OneBears$Colony" (86 : Nat) "OneBears" "mate" "I" "OneBears") ∈ lw_tbl := lw_at lw_m1 210 rfl
theorem q288 : (Jvm.Cond.fieldLinkNest "OneBears$Colony" (68 : Nat) "OneBears" "things" "[I" "OneBears") ∈ lw_tbl := lw_at lw_m1 211 rfl
theorem q291 : (Jvm.Cond.fieldLinkNest "OneBears$Colony" (110 : Nat) "OneBears" "rains" "[I" "OneBears") ∈ lw_tbl := lw_at lw_m1 214 rfl
theorem q730 : (Jvm.Cond.instanceMethod ({ cls := "OneBears$Colony", name := "begin", desc := "(LOneBears$Clause;JII)V" } : Jvm.MethodName)) ∈ lw_all := lw_g (lw_at lw_m3 173 rfl) rfl
theorem q731 : (Jvm.Cond.selects "OneBears$Colony" ({ cls := "OneBears$Colony", name := "begin", desc := "(LOneBears$Clause;JII)V" } : Jvm.MethodName) ({ cls := "OneBears$Colony", name := "begin", desc := "(LOneBears$Clause;JII)V" } : Jvm.MethodName)) ∈ lw_all := lw_g (lw_at lw_m3 174 rfl) rfl
theorem q732 : (Jvm.Cond.code ({ cls := "OneBears$Colony", name := "begin", desc := "(LOneBears$Clause;JII)V" } : Jvm.MethodName) prog_4_method_2_code (7 : Nat) (Option.none : Option Jvm.ClassFile.FieldType)) ∈ lw_all := lw_g (lw_at lw_m3 175 rfl) rfl
theorem q733 : (Jvm.Cond.methodLink "OneBears$Colony" (95 : Nat) ({ cls := "OneBears$Tree", name := "become", desc := "(LOneBears$Tree;I)V" } : Jvm.MethodName)) ∈ lw_all := lw_g (lw_at lw_m3 176 rfl) rfl
theorem q739 : (Jvm.Cond.instanceMethod ({ cls := "OneBears$Colony", name := "go", desc := "(I)V" } : Jvm.MethodName)) ∈ lw_all := lw_g (lw_at lw_m3 182 rfl) rfl
theorem q740 : (Jvm.Cond.selects "OneBears$Colony" ({ cls := "OneBears$Colony", name := "go", desc := "(I)V" } : Jvm.MethodName) ({ cls := "OneBears$Colony", name := "go", desc := "(I)V" } : Jvm.MethodName)) ∈ lw_all := lw_g (lw_at lw_m3 183 rfl) rfl
theorem q741 : (Jvm.Cond.code ({ cls := "OneBears$Colony", name := "go", desc := "(I)V" } : Jvm.MethodName) prog_4_method_18_code (3 : Nat) (Option.none : Option Jvm.ClassFile.FieldType)) ∈ lw_all := lw_g (lw_at lw_m3 184 rfl) rfl
theorem q742 : (Jvm.Cond.methodLink "OneBears$Colony" (186 : Nat) ({ cls := "OneBears$Colony", name := "step", desc := "()V" } : Jvm.MethodName)) ∈ lw_all := lw_g (lw_at lw_m3 185 rfl) rfl
theorem q743 : (Jvm.Cond.instanceMethod ({ cls := "OneBears$Colony", name := "step", desc := "()V" } : Jvm.MethodName)) ∈ lw_all := lw_g (lw_at lw_m3 186 rfl) rfl
theorem q744 : (Jvm.Cond.selects "OneBears$Colony" ({ cls := "OneBears$Colony", name := "step", desc := "()V" } : Jvm.MethodName) ({ cls := "OneBears$Colony", name := "step", desc := "()V" } : Jvm.MethodName)) ∈ lw_all := lw_g (lw_at lw_m3 187 rfl) rfl
theorem q745 : (Jvm.Cond.code ({ cls := "OneBears$Colony", name := "step", desc := "()V" } : Jvm.MethodName) prog_4_method_13_code (3 : Nat) (Option.none : Option Jvm.ClassFile.FieldType)) ∈ lw_all := lw_g (lw_at lw_m3 188 rfl) rfl
theorem q746 : (Jvm.Cond.methodLink "OneBears$Colony" (151 : Nat) ({ cls := "OneBears$Colony", name := "opens", desc := "()V" } : Jvm.MethodName)) ∈ lw_all := lw_g (lw_at lw_m3 189 rfl) rfl
theorem q747 : (Jvm.Cond.instanceMethod ({ cls := "OneBears$Colony", name := "opens", desc := "()V" } : Jvm.MethodName)) ∈ lw_all := lw_g (lw_at lw_m3 190 rfl) rfl
theorem q748 : (Jvm.Cond.selects "OneBears$Colony" ({ cls := "OneBears$Colony", name := "opens", desc := "()V" } : Jvm.MethodName) ({ cls := "OneBears$Colony", name := "opens", desc := "()V" } : Jvm.MethodName)) ∈ lw_all := lw_g (lw_at lw_m3 191 rfl) rfl
theorem q749 : (Jvm.Cond.code ({ cls := "OneBears$Colony", name := "opens", desc := "()V" } : Jvm.MethodName) prog_4_method_12_code (1 : Nat) (Option.none : Option Jvm.ClassFile.FieldType)) ∈ lw_all := lw_g (lw_at lw_m3 192 rfl) rfl
theorem q750 : (Jvm.Cond.methodLink "OneBears$Colony" (106 : Nat) ({ cls := "OneBears$Colony", name := "hasQueen", desc := "()Z" } : Jvm.MethodName)) ∈ lw_all := lw_g (lw_at lw_m3 193 rfl) rfl
theorem q751 : (Jvm.Cond.instanceMethod ({ cls := "OneBears$Colony", name := "hasQueen", desc := "()Z" } : Jvm.MethodName)) ∈ lw_all := lw_g (lw_at lw_m3 194 rfl) rfl
theorem q752 : (Jvm.Cond.selects "OneBears$Colony" ({ cls := "OneBears$Colony", name := "hasQueen", desc := "()Z" } : Jvm.MethodName) ({ cls := "OneBears$Colony", name := "hasQueen", desc := "()Z" } : Jvm.MethodName)) ∈ lw_all := lw_g (lw_at lw_m3 195 rfl) rfl
theorem q753 : (Jvm.Cond.code ({ cls := "OneBears$Colony", name := "hasQueen", desc := "()Z" } : Jvm.MethodName) prog_4_method_4_code (1 : Nat) (Option.some Jvm.ClassFile.FieldType.boolean)) ∈ lw_all := lw_g (lw_at lw_m3 196 rfl) rfl
theorem q754 : (Jvm.Cond.methodLink "OneBears$Colony" (102 : Nat) ({ cls := "OneBears$Colony", name := "isThere", desc := "(I)Z" } : Jvm.MethodName)) ∈ lw_all := lw_g (lw_at lw_m3 197 rfl) rfl
theorem q755 : (Jvm.Cond.instanceMethod ({ cls := "OneBears$Colony", name := "isThere", desc := "(I)Z" } : Jvm.MethodName)) ∈ lw_all := lw_g (lw_at lw_m3 198 rfl) rfl
theorem q756 : (Jvm.Cond.selects "OneBears$Colony" ({ cls := "OneBears$Colony", name := "isThere", desc := "(I)Z" } : Jvm.MethodName) ({ cls := "OneBears$Colony", name := "isThere", desc := "(I)Z" } : Jvm.MethodName)) ∈ lw_all := lw_g (lw_at lw_m3 199 rfl) rfl
theorem q757 : (Jvm.Cond.code ({ cls := "OneBears$Colony", name := "isThere", desc := "(I)Z" } : Jvm.MethodName) prog_4_method_3_code (2 : Nat) (Option.some Jvm.ClassFile.FieldType.boolean)) ∈ lw_all := lw_g (lw_at lw_m3 200 rfl) rfl
theorem q758 : (Jvm.Cond.methodLink "OneBears$Colony" (147 : Nat) ({ cls := "OneBears$Colony", name := "ends", desc := "(II)V" } : Jvm.MethodName)) ∈ lw_all := lw_g (lw_at lw_m3 201 rfl) rfl
theorem q759 : (Jvm.Cond.privateMethod ({ cls := "OneBears$Colony", name := "ends", desc := "(II)V" } : Jvm.MethodName)) ∈ lw_tbl := lw_at lw_m3 202 rfl
theorem q760 : (Jvm.Cond.instanceMethod ({ cls := "OneBears$Colony", name := "ends", desc := "(II)V" } : Jvm.MethodName)) ∈ lw_all := lw_g (lw_at lw_m3 203 rfl) rfl
theorem q761 : (Jvm.Cond.code ({ cls := "OneBears$Colony", name := "ends", desc := "(II)V" } : Jvm.MethodName) prog_4_method_11_code (3 : Nat) (Option.none : Option Jvm.ClassFile.FieldType)) ∈ lw_all := lw_g (lw_at lw_m3 204 rfl) rfl
theorem q762 : (Jvm.Cond.methodLink "OneBears$Colony" (154 : Nat) ({ cls := "OneBears$Colony", name := "worthOf", desc := "(II)I" } : Jvm.MethodName)) ∈ lw_all := lw_g (lw_at lw_m3 205 rfl) rfl
theorem q763 : (Jvm.Cond.instanceMethod ({ cls := "OneBears$Colony", name := "worthOf", desc := "(II)I" } : Jvm.MethodName)) ∈ lw_all := lw_g (lw_at lw_m3 206 rfl) rfl
theorem q764 : (Jvm.Cond.selects "OneBears$Colony" ({ cls := "OneBears$Colony", name := "worthOf", desc := "(II)I" } : Jvm.MethodName) ({ cls := "OneBears$Colony", name := "worthOf", desc := "(II)I" } : Jvm.MethodName)) ∈ lw_all := lw_g (lw_at lw_m3 207 rfl) rfl
theorem q765 : (Jvm.Cond.code ({ cls := "OneBears$Colony", name := "worthOf", desc := "(II)I" } : Jvm.MethodName) prog_4_method_9_code (3 : Nat) (Option.some Jvm.ClassFile.FieldType.int)) ∈ lw_all := lw_g (lw_at lw_m3 208 rfl) rfl
theorem q766 : (Jvm.Cond.methodLink "OneBears$Colony" (133 : Nat) ({ cls := "OneBears$Colony", name := "spell", desc := "(I)V" } : Jvm.MethodName)) ∈ lw_all := lw_g (lw_at lw_m3 209 rfl) rfl
theorem q767 : (Jvm.Cond.privateMethod ({ cls := "OneBears$Colony", name := "spell", desc := "(I)V" } : Jvm.MethodName)) ∈ lw_tbl := lw_at lw_m3 210 rfl
theorem q768 : (Jvm.Cond.instanceMethod ({ cls := "OneBears$Colony", name := "spell", desc := "(I)V" } : Jvm.MethodName)) ∈ lw_all := lw_g (lw_at lw_m3 211 rfl) rfl
theorem q769 : (Jvm.Cond.code ({ cls := "OneBears$Colony", name := "spell", desc := "(I)V" } : Jvm.MethodName) prog_4_method_8_code (2 : Nat) (Option.none : Option Jvm.ClassFile.FieldType)) ∈ lw_all := lw_g (lw_at lw_m3 212 rfl) rfl
theorem q770 : (Jvm.Cond.methodLinkNest "OneBears$Colony" (113 : Nat) ({ cls := "OneBears", name := "forget", desc := "()V" } : Jvm.MethodName) "OneBears") ∈ lw_tbl := lw_at lw_m3 213 rfl
theorem q795 : (Jvm.Cond.methodLink "OneBears$Colony" (119 : Nat) ({ cls := "OneBears$Colony", name := "there", desc := "()I" } : Jvm.MethodName)) ∈ lw_all := lw_g (lw_at lw_m3 238 rfl) rfl
theorem q796 : (Jvm.Cond.instanceMethod ({ cls := "OneBears$Colony", name := "there", desc := "()I" } : Jvm.MethodName)) ∈ lw_all := lw_g (lw_at lw_m3 239 rfl) rfl
theorem q797 : (Jvm.Cond.selects "OneBears$Colony" ({ cls := "OneBears$Colony", name := "there", desc := "()I" } : Jvm.MethodName) ({ cls := "OneBears$Colony", name := "there", desc := "()I" } : Jvm.MethodName)) ∈ lw_all := lw_g (lw_at lw_m4 0 rfl) rfl
theorem q798 : (Jvm.Cond.code ({ cls := "OneBears$Colony", name := "there", desc := "()I" } : Jvm.MethodName) prog_4_method_5_code (3 : Nat) (Option.some Jvm.ClassFile.FieldType.int)) ∈ lw_all := lw_g (lw_at lw_m4 1 rfl) rfl
theorem q799 : (Jvm.Cond.methodLink "OneBears$Colony" (123 : Nat) ({ cls := "OneBears$Colony", name := "rain", desc := "()I" } : Jvm.MethodName)) ∈ lw_all := lw_g (lw_at lw_m4 2 rfl) rfl
theorem q800 : (Jvm.Cond.privateMethod ({ cls := "OneBears$Colony", name := "rain", desc := "()I" } : Jvm.MethodName)) ∈ lw_tbl := lw_at lw_m4 3 rfl
theorem q801 : (Jvm.Cond.instanceMethod ({ cls := "OneBears$Colony", name := "rain", desc := "()I" } : Jvm.MethodName)) ∈ lw_all := lw_g (lw_at lw_m4 4 rfl) rfl
theorem q802 : (Jvm.Cond.code ({ cls := "OneBears$Colony", name := "rain", desc := "()I" } : Jvm.MethodName) prog_4_method_7_code (1 : Nat) (Option.some Jvm.ClassFile.FieldType.int)) ∈ lw_all := lw_g (lw_at lw_m4 5 rfl) rfl
theorem q803 : (Jvm.Cond.methodLink "OneBears$Colony" (126 : Nat) ({ cls := "OneBears$Colony", name := "isPaired", desc := "()Z" } : Jvm.MethodName)) ∈ lw_all := lw_g (lw_at lw_m4 6 rfl) rfl
theorem q804 : (Jvm.Cond.privateMethod ({ cls := "OneBears$Colony", name := "isPaired", desc := "()Z" } : Jvm.MethodName)) ∈ lw_tbl := lw_at lw_m4 7 rfl
theorem q805 : (Jvm.Cond.instanceMethod ({ cls := "OneBears$Colony", name := "isPaired", desc := "()Z" } : Jvm.MethodName)) ∈ lw_all := lw_g (lw_at lw_m4 8 rfl) rfl
theorem q806 : (Jvm.Cond.code ({ cls := "OneBears$Colony", name := "isPaired", desc := "()Z" } : Jvm.MethodName) prog_4_method_6_code (1 : Nat) (Option.some Jvm.ClassFile.FieldType.boolean)) ∈ lw_all := lw_g (lw_at lw_m4 9 rfl) rfl
theorem q807 : (Jvm.Cond.methodLink "OneBears$Colony" (129 : Nat) ({ cls := "OneBears$Tree", name := "young", desc := "(III)J" } : Jvm.MethodName)) ∈ lw_all := lw_g (lw_at lw_m4 10 rfl) rfl
theorem q808 : (Jvm.Cond.methodLinkNest "OneBears$Colony" (137 : Nat) ({ cls := "OneBears", name := "worth", desc := "(LOneBears$Clause;I[I)I" } : Jvm.MethodName) "OneBears") ∈ lw_tbl := lw_at lw_m4 11 rfl
theorem q852 : (Jvm.Cond.methodLink "OneBears$Colony" (158 : Nat) ({ cls := "java/lang/Math", name := "min", desc := "(II)I" } : Jvm.MethodName)) ∈ lw_all := lw_g (lw_at lw_m4 55 rfl) rfl
theorem q853 : (Jvm.Cond.methodLink "OneBears$Colony" (163 : Nat) ({ cls := "java/lang/Math", name := "max", desc := "(II)I" } : Jvm.MethodName)) ∈ lw_all := lw_g (lw_at lw_m4 56 rfl) rfl
theorem q854 : (Jvm.Cond.methodLink "OneBears$Colony" (166 : Nat) ({ cls := "OneBears$Colony", name := "draw", desc := "()I" } : Jvm.MethodName)) ∈ lw_all := lw_g (lw_at lw_m4 57 rfl) rfl
theorem q855 : (Jvm.Cond.privateMethod ({ cls := "OneBears$Colony", name := "draw", desc := "()I" } : Jvm.MethodName)) ∈ lw_tbl := lw_at lw_m4 58 rfl
theorem q856 : (Jvm.Cond.instanceMethod ({ cls := "OneBears$Colony", name := "draw", desc := "()I" } : Jvm.MethodName)) ∈ lw_all := lw_g (lw_at lw_m4 59 rfl) rfl
theorem q857 : (Jvm.Cond.code ({ cls := "OneBears$Colony", name := "draw", desc := "()I" } : Jvm.MethodName) prog_4_method_10_code (1 : Nat) (Option.some Jvm.ClassFile.FieldType.int)) ∈ lw_all := lw_g (lw_at lw_m4 60 rfl) rfl
theorem q858 : (Jvm.Cond.constantLong "OneBears$Colony" (141 : Nat) (6364136223846793005 : Int64)) ∈ lw_all := lw_g (lw_at lw_m4 61 rfl) rfl
theorem q859 : (Jvm.Cond.constantLong "OneBears$Colony" (143 : Nat) (1442695040888963407 : Int64)) ∈ lw_all := lw_g (lw_at lw_m4 62 rfl) rfl
theorem q860 : (Jvm.Cond.constantLong "OneBears$Colony" (145 : Nat) (100 : Int64)) ∈ lw_all := lw_g (lw_at lw_m4 63 rfl) rfl
theorem q861 : (Jvm.Cond.methodLink "OneBears$Colony" (169 : Nat) ({ cls := "OneBears$Colony", name := "eat", desc := "(I)V" } : Jvm.MethodName)) ∈ lw_all := lw_g (lw_at lw_m4 64 rfl) rfl
theorem q862 : (Jvm.Cond.privateMethod ({ cls := "OneBears$Colony", name := "eat", desc := "(I)V" } : Jvm.MethodName)) ∈ lw_tbl := lw_at lw_m4 65 rfl
theorem q863 : (Jvm.Cond.instanceMethod ({ cls := "OneBears$Colony", name := "eat", desc := "(I)V" } : Jvm.MethodName)) ∈ lw_all := lw_g (lw_at lw_m4 66 rfl) rfl
theorem q864 : (Jvm.Cond.code ({ cls := "OneBears$Colony", name := "eat", desc := "(I)V" } : Jvm.MethodName) prog_4_method_14_code (2 : Nat) (Option.none : Option Jvm.ClassFile.FieldType)) ∈ lw_all := lw_g (lw_at lw_m4 67 rfl) rfl
theorem q865 : (Jvm.Cond.methodLink "OneBears$Colony" (172 : Nat) ({ cls := "OneBears$Colony", name := "bear", desc := "()V" } : Jvm.MethodName)) ∈ lw_all := lw_g (lw_at lw_m4 68 rfl) rfl
theorem q866 : (Jvm.Cond.privateMethod ({ cls := "OneBears$Colony", name := "bear", desc := "()V" } : Jvm.MethodName)) ∈ lw_tbl := lw_at lw_m4 69 rfl
theorem q867 : (Jvm.Cond.instanceMethod ({ cls := "OneBears$Colony", name := "bear", desc := "()V" } : Jvm.MethodName)) ∈ lw_all := lw_g (lw_at lw_m4 70 rfl) rfl
theorem q868 : (Jvm.Cond.code ({ cls := "OneBears$Colony", name := "bear", desc := "()V" } : Jvm.MethodName) prog_4_method_15_code (2 : Nat) (Option.none : Option Jvm.ClassFile.FieldType)) ∈ lw_all := lw_g (lw_at lw_m4 71 rfl) rfl
theorem q869 : (Jvm.Cond.methodLink "OneBears$Colony" (178 : Nat) ({ cls := "OneBears$Tree", name := "add", desc := "(III)V" } : Jvm.MethodName)) ∈ lw_all := lw_g (lw_at lw_m4 72 rfl) rfl
theorem q870 : (Jvm.Cond.methodLink "OneBears$Colony" (175 : Nat) ({ cls := "OneBears$Colony", name := "war", desc := "(I)V" } : Jvm.MethodName)) ∈ lw_all := lw_g (lw_at lw_m4 73 rfl) rfl
theorem q871 : (Jvm.Cond.privateMethod ({ cls := "OneBears$Colony", name := "war", desc := "(I)V" } : Jvm.MethodName)) ∈ lw_tbl := lw_at lw_m4 74 rfl
theorem q872 : (Jvm.Cond.instanceMethod ({ cls := "OneBears$Colony", name := "war", desc := "(I)V" } : Jvm.MethodName)) ∈ lw_all := lw_g (lw_at lw_m4 75 rfl) rfl
theorem q873 : (Jvm.Cond.code ({ cls := "OneBears$Colony", name := "war", desc := "(I)V" } : Jvm.MethodName) prog_4_method_17_code (4 : Nat) (Option.none : Option Jvm.ClassFile.FieldType)) ∈ lw_all := lw_g (lw_at lw_m4 76 rfl) rfl
theorem q874 : (Jvm.Cond.methodLink "OneBears$Colony" (182 : Nat) ({ cls := "OneBears$Colony", name := "isBetter", desc := "(II)Z" } : Jvm.MethodName)) ∈ lw_all := lw_g (lw_at lw_m4 77 rfl) rfl
theorem q875 : (Jvm.Cond.privateMethod ({ cls := "OneBears$Colony", name := "isBetter", desc := "(II)Z" } : Jvm.MethodName)) ∈ lw_tbl := lw_at lw_m4 78 rfl
theorem q876 : (Jvm.Cond.instanceMethod ({ cls := "OneBears$Colony", name := "isBetter", desc := "(II)Z" } : Jvm.MethodName)) ∈ lw_all := lw_g (lw_at lw_m4 79 rfl) rfl
theorem q877 : (Jvm.Cond.code ({ cls := "OneBears$Colony", name := "isBetter", desc := "(II)Z" } : Jvm.MethodName) prog_4_method_16_code (3 : Nat) (Option.some Jvm.ClassFile.FieldType.boolean)) ∈ lw_all := lw_g (lw_at lw_m4 80 rfl) rfl
theorem q885 : (Jvm.Cond.instanceMethod ({ cls := "OneBears$Colony", name := "ended", desc := "(I)I" } : Jvm.MethodName)) ∈ lw_all := lw_g (lw_at lw_m4 88 rfl) rfl
theorem q886 : (Jvm.Cond.selects "OneBears$Colony" ({ cls := "OneBears$Colony", name := "ended", desc := "(I)I" } : Jvm.MethodName) ({ cls := "OneBears$Colony", name := "ended", desc := "(I)I" } : Jvm.MethodName)) ∈ lw_all := lw_g (lw_at lw_m4 89 rfl) rfl
theorem q887 : (Jvm.Cond.code ({ cls := "OneBears$Colony", name := "ended", desc := "(I)I" } : Jvm.MethodName) prog_4_method_19_code (4 : Nat) (Option.some Jvm.ClassFile.FieldType.int)) ∈ lw_all := lw_g (lw_at lw_m4 90 rfl) rfl
theorem q1490 : (Jvm.Cond.castable "OneBears$Colony" "java/lang/Object") ∈ lw_tbl := lw_at lw_m6 213 rfl
theorem in_X4 : ∀ w ∈ wsX40, w ∈ lw_all := lw_in wsX40 [227, 229, 231, 233, 235, 237, 239, 241, 243, 245, 247, 249, 251, 253, 255, 257, 259, 261, 263, 265, 267] (by decide +kernel) (by decide +kernel)
