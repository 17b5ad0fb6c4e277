/-! OneBearsModel -/
set_option maxRecDepth 100000
def RX5 : String := "OneBearsModel"
def TX5 : u_T := fun k => match k with
  | 0 => ("OneBearsModel", "thrown", "I", false)
  | 1 => ("OneBearsModel", "tape", "[B", true)
  | 2 => ("OneBearsModel", "texts", "[B", true)
  | 3 => ("OneBearsModel", "textLong", "[I", true)
  | 4 => ("OneBearsModel", "letters", "[I", true)
  | 5 => ("OneBearsModel", "text", "[B", false)
  | 6 => ("OneBearsModel", "length", "I", false)
  | 7 => ("OneBearsModel", "laws", "I", false)
  | 8 => ("OneBearsModel", "begins", "I", false)
  | 9 => ("OneBearsModel", "ends", "I", false)
  | 10 => ("OneBearsModel", "at", "I", false)
  | 11 => ("OneBearsModel", "fault", "I", false)
  | 12 => ("OneBearsModel", "deep", "I", false)
  | 13 => ("OneBearsModel", "label", "I", false)
  | 14 => ("OneBearsModel", "found", "I", false)
  | 15 => ("OneBearsModel", "labels", "Ljava/lang/String;", true)
  | 16 => ("OneBearsModel", "allowed", "Ljava/lang/String;", true)
  | 17 => ("OneBearsModel", "hasFound", "Z", false)
  | 18 => ("OneBearsModel", "mother", "[I", true)
  | 19 => ("OneBearsModel", "father", "[I", true)
  | 20 => ("OneBearsModel", "toldWeight", "[I", true)
  | 21 => ("OneBearsModel", "animals", "I", false)
  | 22 => ("OneBearsModel", "dam", "[I", true)
  | 23 => ("OneBearsModel", "sire", "[I", true)
  | 24 => ("OneBearsModel", "kins", "[J", true)
  | 25 => ("OneBearsModel", "toldQueen", "I", false)
  | 26 => ("OneBearsModel", "toldMate", "I", false)
  | 27 => ("OneBearsModel", "settings", "[I", true)
  | 28 => ("OneBearsModel", "rains", "[I", true)
  | 29 => ("OneBearsModel", "weight", "[I", true)
  | 30 => ("OneBearsModel", "state", "[I", true)
  | 31 => ("OneBearsModel", "when", "[I", true)
  | 32 => ("OneBearsModel", "born", "[I", true)
  | 33 => ("OneBearsModel", "digs", "[I", true)
  | 34 => ("OneBearsModel", "eats", "[I", true)
  | 35 => ("OneBearsModel", "stays", "[I", true)
  | 36 => ("OneBearsModel", "fights", "[I", true)
  | 37 => ("OneBearsModel", "glass", "I", false)
  | 38 => ("OneBearsModel", "ever", "I", false)
  | 39 => ("OneBearsModel", "store", "I", false)
  | 40 => ("OneBearsModel", "queen", "I", false)
  | 41 => ("OneBearsModel", "mate", "I", false)
  | 42 => ("OneBearsModel", "wars", "I", false)
  | 43 => ("OneBearsModel", "month", "I", false)
  | 44 => ("OneBearsModel", "chance", "I", false)
  | 45 => ("OneBearsModel", "dry", "Z", false)
  | 46 => ("OneBearsModel", "mild", "Z", false)
  | 47 => ("OneBearsModel", "nobodyGoes", "Z", false)
  | 48 => ("OneBearsModel", "x", "J", false)
  | 49 => ("OneBearsModel", "noteMonth", "[I", true)
  | 50 => ("OneBearsModel", "noteThere", "[I", true)
  | 51 => ("OneBearsModel", "noteOff", "[I", true)
  | 52 => ("OneBearsModel", "trialFirst", "[I", true)
  | 53 => ("OneBearsModel", "trialMonths", "[I", true)
  | 54 => ("OneBearsModel", "notes", "I", false)
  | 55 => ("OneBearsModel", "trials", "I", false)
  | _ => ("OneBearsModel", "tell", "[I", true)
def tyX5 : Nat → FieldType := fun k => match k with
  | 0 => .int
  | 1 => .array .byte
  | 2 => .array .byte
  | 3 => .array .int
  | 4 => .array .int
  | 5 => .array .byte
  | 6 => .int
  | 7 => .int
  | 8 => .int
  | 9 => .int
  | 10 => .int
  | 11 => .int
  | 12 => .int
  | 13 => .int
  | 14 => .int
  | 15 => .object "java/lang/String"
  | 16 => .object "java/lang/String"
  | 17 => .boolean
  | 18 => .array .int
  | 19 => .array .int
  | 20 => .array .int
  | 21 => .int
  | 22 => .array .int
  | 23 => .array .int
  | 24 => .array .long
  | 25 => .int
  | 26 => .int
  | 27 => .array .int
  | 28 => .array .int
  | 29 => .array .int
  | 30 => .array .int
  | 31 => .array .int
  | 32 => .array .int
  | 33 => .array .int
  | 34 => .array .int
  | 35 => .array .int
  | 36 => .array .int
  | 37 => .int
  | 38 => .int
  | 39 => .int
  | 40 => .int
  | 41 => .int
  | 42 => .int
  | 43 => .int
  | 44 => .int
  | 45 => .boolean
  | 46 => .boolean
  | 47 => .boolean
  | 48 => .long
  | 49 => .array .int
  | 50 => .array .int
  | 51 => .array .int
  | 52 => .array .int
  | 53 => .array .int
  | 54 => .int
  | 55 => .int
  | _ => .array .int
abbrev wsX50 : List Cond := u_ws RX5 TX5 57
set_option maxRecDepth 100000 in
theorem nmX5 : ∀ a, a < 57 → ∀ b, b < 57 → a ≠ b → (TX5 a).2.1 ≠ (TX5 b).2.1 := by decide +kernel
set_option maxRecDepth 100000 in
theorem tyX5_ok : ∀ k, k < 57 → parseFieldDescriptor (TX5 k).2.2.1 = some (tyX5 k) := by decide +kernel
abbrev cX5_init : ByteArray := prog_16_method_1_code
def yX5_init : MethodName := ⟨RX5, "<init>", "()V"⟩
def dkwX5_init_11 : List UInt8 := [16, 6, 188, 10, 181, 0, 102, 42, 16, 6, 188, 10, 181, 0, 105, 42, 16, 6, 188, 10, 181, 0, 108, 177]
abbrev dktX5_init_11 : List UInt8 := dkwX5_init_11 ++ []
def dkwX5_init_10 : List UInt8 := [16, 12, 188, 10, 181, 0, 93, 42, 16, 12, 188, 10, 181, 0, 96, 42, 16, 12, 188, 10, 181, 0, 99, 42]
abbrev dktX5_init_10 : List UInt8 := dkwX5_init_10 ++ dktX5_init_11
def dkwX5_init_9 : List UInt8 := [16, 24, 188, 10, 181, 0, 84, 42, 16, 24, 188, 10, 181, 0, 87, 42, 16, 24, 188, 10, 181, 0, 90, 42]
abbrev dktX5_init_9 : List UInt8 := dkwX5_init_9 ++ dktX5_init_10
def dkwX5_init_8 : List UInt8 := [16, 24, 188, 10, 181, 0, 75, 42, 16, 24, 188, 10, 181, 0, 78, 42, 16, 24, 188, 10, 181, 0, 81, 42]
abbrev dktX5_init_8 : List UInt8 := dkwX5_init_8 ++ dktX5_init_9
def dkwX5_init_7 : List UInt8 := [16, 24, 188, 10, 181, 0, 66, 42, 16, 24, 188, 10, 181, 0, 69, 42, 16, 24, 188, 10, 181, 0, 72, 42]
abbrev dktX5_init_7 : List UInt8 := dkwX5_init_7 ++ dktX5_init_8
def dkwX5_init_6 : List UInt8 := [79, 89, 8, 3, 79, 89, 16, 6, 3, 79, 89, 16, 7, 3, 79, 89, 16, 8, 2, 79, 181, 0, 63, 42]
abbrev dktX5_init_6 : List UInt8 := dkwX5_init_6 ++ dktX5_init_7
def dkwX5_init_5 : List UInt8 := [16, 9, 188, 10, 89, 3, 3, 79, 89, 4, 3, 79, 89, 5, 3, 79, 89, 6, 3, 79, 89, 7, 16, 12]
abbrev dktX5_init_5 : List UInt8 := dkwX5_init_5 ++ dktX5_init_6
def dkwX5_init_4 : List UInt8 := [181, 0, 49, 42, 17, 2, 64, 188, 11, 181, 0, 52, 42, 2, 181, 0, 56, 42, 2, 181, 0, 60, 42]
abbrev dktX5_init_4 : List UInt8 := dkwX5_init_4 ++ dktX5_init_5
def dkwX5_init_3 : List UInt8 := [181, 0, 40, 42, 16, 16, 188, 10, 181, 0, 43, 42, 16, 24, 188, 10, 181, 0, 46, 42, 16, 24, 188, 10]
abbrev dktX5_init_3 : List UInt8 := dkwX5_init_3 ++ dktX5_init_4
def dkwX5_init_2 : List UInt8 := [18, 26, 181, 0, 28, 42, 18, 32, 181, 0, 34, 42, 16, 16, 188, 10, 181, 0, 37, 42, 16, 16, 188, 10]
abbrev dktX5_init_2 : List UInt8 := dkwX5_init_2 ++ dktX5_init_3
def dkwX5_init_1 : List UInt8 := [188, 10, 181, 0, 16, 42, 17, 0, 128, 188, 10, 181, 0, 20, 42, 42, 180, 0, 9, 181, 0, 23, 42]
abbrev dktX5_init_1 : List UInt8 := dkwX5_init_1 ++ dktX5_init_2
def dkwX5_init_0 : List UInt8 := [42, 183, 0, 1, 42, 16, 120, 188, 8, 181, 0, 9, 42, 17, 2, 208, 188, 8, 181, 0, 13, 42, 16, 6]
abbrev dktX5_init_0 : List UInt8 := dkwX5_init_0 ++ dktX5_init_1
theorem dksX5_init_0 : cX5_init.data.toList.drop 0 = dktX5_init_0 := by decide +kernel
theorem dksX5_init_1 : cX5_init.data.toList.drop 24 = dktX5_init_1 := dk_seg dksX5_init_0 24 rfl rfl
theorem dksX5_init_2 : cX5_init.data.toList.drop 47 = dktX5_init_2 := dk_seg dksX5_init_1 23 rfl rfl
theorem dksX5_init_3 : cX5_init.data.toList.drop 71 = dktX5_init_3 := dk_seg dksX5_init_2 24 rfl rfl
theorem dksX5_init_4 : cX5_init.data.toList.drop 95 = dktX5_init_4 := dk_seg dksX5_init_3 24 rfl rfl
theorem dksX5_init_5 : cX5_init.data.toList.drop 118 = dktX5_init_5 := dk_seg dksX5_init_4 23 rfl rfl
theorem dksX5_init_6 : cX5_init.data.toList.drop 142 = dktX5_init_6 := dk_seg dksX5_init_5 24 rfl rfl
theorem dksX5_init_7 : cX5_init.data.toList.drop 166 = dktX5_init_7 := dk_seg dksX5_init_6 24 rfl rfl
theorem dksX5_init_8 : cX5_init.data.toList.drop 190 = dktX5_init_8 := dk_seg dksX5_init_7 24 rfl rfl
theorem dksX5_init_9 : cX5_init.data.toList.drop 214 = dktX5_init_9 := dk_seg dksX5_init_8 24 rfl rfl
theorem dksX5_init_10 : cX5_init.data.toList.drop 238 = dktX5_init_10 := dk_seg dksX5_init_9 24 rfl rfl
theorem dksX5_init_11 : cX5_init.data.toList.drop 262 = dktX5_init_11 := dk_seg dksX5_init_10 24 rfl rfl
theorem dX5_init_0 : decode cX5_init 0 = .ok (.aload_n 0, 1) := dk_42 (dk_at dksX5_init_0 0 rfl rfl)
theorem dX5_init_1 : decode cX5_init 1 = .ok (.invokespecial 1, 3) := dk_183 0 1 (dk_at dksX5_init_0 1 rfl rfl)
theorem dX5_init_4 : decode cX5_init 4 = .ok (.aload_n 0, 1) := dk_42 (dk_at dksX5_init_0 4 rfl rfl)
theorem dX5_init_5 : decode cX5_init 5 = .ok (.bipush 120, 2) := dk_16 120 (dk_at dksX5_init_0 5 rfl rfl)
theorem dX5_init_7 : decode cX5_init 7 = .ok (.newarray .byte, 2) := dk_188_8 (dk_at dksX5_init_0 7 rfl rfl)
theorem dX5_init_9 : decode cX5_init 9 = .ok (.putfield 9, 3) := dk_181 0 9 (dk_at dksX5_init_0 9 rfl rfl)
theorem dX5_init_12 : decode cX5_init 12 = .ok (.aload_n 0, 1) := dk_42 (dk_at dksX5_init_0 12 rfl rfl)
theorem dX5_init_13 : decode cX5_init 13 = .ok (.sipush 720, 3) := dk_17 2 208 (dk_at dksX5_init_0 13 rfl rfl)
theorem dX5_init_16 : decode cX5_init 16 = .ok (.newarray .byte, 2) := dk_188_8 (dk_at dksX5_init_0 16 rfl rfl)
theorem dX5_init_18 : decode cX5_init 18 = .ok (.putfield 13, 3) := dk_181 0 13 (dk_at dksX5_init_0 18 rfl rfl)
theorem dX5_init_21 : decode cX5_init 21 = .ok (.aload_n 0, 1) := dk_42 (dk_at dksX5_init_0 21 rfl rfl)
theorem dX5_init_22 : decode cX5_init 22 = .ok (.bipush 6, 2) := dk_16 6 (dk_at dksX5_init_0 22 rfl rfl)
theorem dX5_init_24 : decode cX5_init 24 = .ok (.newarray .int, 2) := dk_188_10 (dk_at dksX5_init_1 0 rfl rfl)
theorem dX5_init_26 : decode cX5_init 26 = .ok (.putfield 16, 3) := dk_181 0 16 (dk_at dksX5_init_1 2 rfl rfl)
theorem dX5_init_29 : decode cX5_init 29 = .ok (.aload_n 0, 1) := dk_42 (dk_at dksX5_init_1 5 rfl rfl)
theorem dX5_init_30 : decode cX5_init 30 = .ok (.sipush 128, 3) := dk_17 0 128 (dk_at dksX5_init_1 6 rfl rfl)
theorem dX5_init_33 : decode cX5_init 33 = .ok (.newarray .int, 2) := dk_188_10 (dk_at dksX5_init_1 9 rfl rfl)
theorem dX5_init_35 : decode cX5_init 35 = .ok (.putfield 20, 3) := dk_181 0 20 (dk_at dksX5_init_1 11 rfl rfl)
theorem dX5_init_38 : decode cX5_init 38 = .ok (.aload_n 0, 1) := dk_42 (dk_at dksX5_init_1 14 rfl rfl)
theorem dX5_init_39 : decode cX5_init 39 = .ok (.aload_n 0, 1) := dk_42 (dk_at dksX5_init_1 15 rfl rfl)
theorem dX5_init_40 : decode cX5_init 40 = .ok (.getfield 9, 3) := dk_180 0 9 (dk_at dksX5_init_1 16 rfl rfl)
theorem dX5_init_43 : decode cX5_init 43 = .ok (.putfield 23, 3) := dk_181 0 23 (dk_at dksX5_init_1 19 rfl rfl)
theorem dX5_init_46 : decode cX5_init 46 = .ok (.aload_n 0, 1) := dk_42 (dk_at dksX5_init_1 22 rfl rfl)
theorem dX5_init_47 : decode cX5_init 47 = .ok (.ldc 26, 2) := dk_18 26 (dk_at dksX5_init_2 0 rfl rfl)
theorem dX5_init_49 : decode cX5_init 49 = .ok (.putfield 28, 3) := dk_181 0 28 (dk_at dksX5_init_2 2 rfl rfl)
theorem dX5_init_52 : decode cX5_init 52 = .ok (.aload_n 0, 1) := dk_42 (dk_at dksX5_init_2 5 rfl rfl)
theorem dX5_init_53 : decode cX5_init 53 = .ok (.ldc 32, 2) := dk_18 32 (dk_at dksX5_init_2 6 rfl rfl)
theorem dX5_init_55 : decode cX5_init 55 = .ok (.putfield 34, 3) := dk_181 0 34 (dk_at dksX5_init_2 8 rfl rfl)
theorem dX5_init_58 : decode cX5_init 58 = .ok (.aload_n 0, 1) := dk_42 (dk_at dksX5_init_2 11 rfl rfl)
theorem dX5_init_59 : decode cX5_init 59 = .ok (.bipush 16, 2) := dk_16 16 (dk_at dksX5_init_2 12 rfl rfl)
theorem dX5_init_61 : decode cX5_init 61 = .ok (.newarray .int, 2) := dk_188_10 (dk_at dksX5_init_2 14 rfl rfl)
theorem dX5_init_63 : decode cX5_init 63 = .ok (.putfield 37, 3) := dk_181 0 37 (dk_at dksX5_init_2 16 rfl rfl)
theorem dX5_init_66 : decode cX5_init 66 = .ok (.aload_n 0, 1) := dk_42 (dk_at dksX5_init_2 19 rfl rfl)
theorem dX5_init_67 : decode cX5_init 67 = .ok (.bipush 16, 2) := dk_16 16 (dk_at dksX5_init_2 20 rfl rfl)
theorem dX5_init_69 : decode cX5_init 69 = .ok (.newarray .int, 2) := dk_188_10 (dk_at dksX5_init_2 22 rfl rfl)
theorem dX5_init_71 : decode cX5_init 71 = .ok (.putfield 40, 3) := dk_181 0 40 (dk_at dksX5_init_3 0 rfl rfl)
theorem dX5_init_74 : decode cX5_init 74 = .ok (.aload_n 0, 1) := dk_42 (dk_at dksX5_init_3 3 rfl rfl)
theorem dX5_init_75 : decode cX5_init 75 = .ok (.bipush 16, 2) := dk_16 16 (dk_at dksX5_init_3 4 rfl rfl)
theorem dX5_init_77 : decode cX5_init 77 = .ok (.newarray .int, 2) := dk_188_10 (dk_at dksX5_init_3 6 rfl rfl)
theorem dX5_init_79 : decode cX5_init 79 = .ok (.putfield 43, 3) := dk_181 0 43 (dk_at dksX5_init_3 8 rfl rfl)
theorem dX5_init_82 : decode cX5_init 82 = .ok (.aload_n 0, 1) := dk_42 (dk_at dksX5_init_3 11 rfl rfl)
theorem dX5_init_83 : decode cX5_init 83 = .ok (.bipush 24, 2) := dk_16 24 (dk_at dksX5_init_3 12 rfl rfl)
theorem dX5_init_85 : decode cX5_init 85 = .ok (.newarray .int, 2) := dk_188_10 (dk_at dksX5_init_3 14 rfl rfl)
theorem dX5_init_87 : decode cX5_init 87 = .ok (.putfield 46, 3) := dk_181 0 46 (dk_at dksX5_init_3 16 rfl rfl)
theorem dX5_init_90 : decode cX5_init 90 = .ok (.aload_n 0, 1) := dk_42 (dk_at dksX5_init_3 19 rfl rfl)
theorem dX5_init_91 : decode cX5_init 91 = .ok (.bipush 24, 2) := dk_16 24 (dk_at dksX5_init_3 20 rfl rfl)
theorem dX5_init_93 : decode cX5_init 93 = .ok (.newarray .int, 2) := dk_188_10 (dk_at dksX5_init_3 22 rfl rfl)
theorem dX5_init_95 : decode cX5_init 95 = .ok (.putfield 49, 3) := dk_181 0 49 (dk_at dksX5_init_4 0 rfl rfl)
theorem dX5_init_98 : decode cX5_init 98 = .ok (.aload_n 0, 1) := dk_42 (dk_at dksX5_init_4 3 rfl rfl)
theorem dX5_init_99 : decode cX5_init 99 = .ok (.sipush 576, 3) := dk_17 2 64 (dk_at dksX5_init_4 4 rfl rfl)
theorem dX5_init_102 : decode cX5_init 102 = .ok (.newarray .long, 2) := dk_188_11 (dk_at dksX5_init_4 7 rfl rfl)
theorem dX5_init_104 : decode cX5_init 104 = .ok (.putfield 52, 3) := dk_181 0 52 (dk_at dksX5_init_4 9 rfl rfl)
theorem dX5_init_107 : decode cX5_init 107 = .ok (.aload_n 0, 1) := dk_42 (dk_at dksX5_init_4 12 rfl rfl)
theorem dX5_init_108 : decode cX5_init 108 = .ok (.iconst (-1), 1) := dk_2 (dk_at dksX5_init_4 13 rfl rfl)
theorem dX5_init_109 : decode cX5_init 109 = .ok (.putfield 56, 3) := dk_181 0 56 (dk_at dksX5_init_4 14 rfl rfl)
theorem dX5_init_112 : decode cX5_init 112 = .ok (.aload_n 0, 1) := dk_42 (dk_at dksX5_init_4 17 rfl rfl)
theorem dX5_init_113 : decode cX5_init 113 = .ok (.iconst (-1), 1) := dk_2 (dk_at dksX5_init_4 18 rfl rfl)
theorem dX5_init_114 : decode cX5_init 114 = .ok (.putfield 60, 3) := dk_181 0 60 (dk_at dksX5_init_4 19 rfl rfl)
theorem dX5_init_117 : decode cX5_init 117 = .ok (.aload_n 0, 1) := dk_42 (dk_at dksX5_init_4 22 rfl rfl)
theorem dX5_init_118 : decode cX5_init 118 = .ok (.bipush 9, 2) := dk_16 9 (dk_at dksX5_init_5 0 rfl rfl)
theorem dX5_init_120 : decode cX5_init 120 = .ok (.newarray .int, 2) := dk_188_10 (dk_at dksX5_init_5 2 rfl rfl)
theorem dX5_init_122 : decode cX5_init 122 = .ok (.dup, 1) := dk_89 (dk_at dksX5_init_5 4 rfl rfl)
theorem dX5_init_123 : decode cX5_init 123 = .ok (.iconst 0, 1) := dk_3 (dk_at dksX5_init_5 5 rfl rfl)
theorem dX5_init_124 : decode cX5_init 124 = .ok (.iconst 0, 1) := dk_3 (dk_at dksX5_init_5 6 rfl rfl)
theorem dX5_init_125 : decode cX5_init 125 = .ok (.iastore, 1) := dk_79 (dk_at dksX5_init_5 7 rfl rfl)
theorem dX5_init_126 : decode cX5_init 126 = .ok (.dup, 1) := dk_89 (dk_at dksX5_init_5 8 rfl rfl)
theorem dX5_init_127 : decode cX5_init 127 = .ok (.iconst 1, 1) := dk_4 (dk_at dksX5_init_5 9 rfl rfl)
theorem dX5_init_128 : decode cX5_init 128 = .ok (.iconst 0, 1) := dk_3 (dk_at dksX5_init_5 10 rfl rfl)
theorem dX5_init_129 : decode cX5_init 129 = .ok (.iastore, 1) := dk_79 (dk_at dksX5_init_5 11 rfl rfl)
theorem dX5_init_130 : decode cX5_init 130 = .ok (.dup, 1) := dk_89 (dk_at dksX5_init_5 12 rfl rfl)
theorem dX5_init_131 : decode cX5_init 131 = .ok (.iconst 2, 1) := dk_5 (dk_at dksX5_init_5 13 rfl rfl)
theorem dX5_init_132 : decode cX5_init 132 = .ok (.iconst 0, 1) := dk_3 (dk_at dksX5_init_5 14 rfl rfl)
theorem dX5_init_133 : decode cX5_init 133 = .ok (.iastore, 1) := dk_79 (dk_at dksX5_init_5 15 rfl rfl)
theorem dX5_init_134 : decode cX5_init 134 = .ok (.dup, 1) := dk_89 (dk_at dksX5_init_5 16 rfl rfl)
theorem dX5_init_135 : decode cX5_init 135 = .ok (.iconst 3, 1) := dk_6 (dk_at dksX5_init_5 17 rfl rfl)
theorem dX5_init_136 : decode cX5_init 136 = .ok (.iconst 0, 1) := dk_3 (dk_at dksX5_init_5 18 rfl rfl)
theorem dX5_init_137 : decode cX5_init 137 = .ok (.iastore, 1) := dk_79 (dk_at dksX5_init_5 19 rfl rfl)
theorem dX5_init_138 : decode cX5_init 138 = .ok (.dup, 1) := dk_89 (dk_at dksX5_init_5 20 rfl rfl)
theorem dX5_init_139 : decode cX5_init 139 = .ok (.iconst 4, 1) := dk_7 (dk_at dksX5_init_5 21 rfl rfl)
theorem dX5_init_140 : decode cX5_init 140 = .ok (.bipush 12, 2) := dk_16 12 (dk_at dksX5_init_5 22 rfl rfl)
theorem dX5_init_142 : decode cX5_init 142 = .ok (.iastore, 1) := dk_79 (dk_at dksX5_init_6 0 rfl rfl)
theorem dX5_init_143 : decode cX5_init 143 = .ok (.dup, 1) := dk_89 (dk_at dksX5_init_6 1 rfl rfl)
theorem dX5_init_144 : decode cX5_init 144 = .ok (.iconst 5, 1) := dk_8 (dk_at dksX5_init_6 2 rfl rfl)
theorem dX5_init_145 : decode cX5_init 145 = .ok (.iconst 0, 1) := dk_3 (dk_at dksX5_init_6 3 rfl rfl)
theorem dX5_init_146 : decode cX5_init 146 = .ok (.iastore, 1) := dk_79 (dk_at dksX5_init_6 4 rfl rfl)
theorem dX5_init_147 : decode cX5_init 147 = .ok (.dup, 1) := dk_89 (dk_at dksX5_init_6 5 rfl rfl)
theorem dX5_init_148 : decode cX5_init 148 = .ok (.bipush 6, 2) := dk_16 6 (dk_at dksX5_init_6 6 rfl rfl)
theorem dX5_init_150 : decode cX5_init 150 = .ok (.iconst 0, 1) := dk_3 (dk_at dksX5_init_6 8 rfl rfl)
theorem dX5_init_151 : decode cX5_init 151 = .ok (.iastore, 1) := dk_79 (dk_at dksX5_init_6 9 rfl rfl)
theorem dX5_init_152 : decode cX5_init 152 = .ok (.dup, 1) := dk_89 (dk_at dksX5_init_6 10 rfl rfl)
theorem dX5_init_153 : decode cX5_init 153 = .ok (.bipush 7, 2) := dk_16 7 (dk_at dksX5_init_6 11 rfl rfl)
theorem dX5_init_155 : decode cX5_init 155 = .ok (.iconst 0, 1) := dk_3 (dk_at dksX5_init_6 13 rfl rfl)
theorem dX5_init_156 : decode cX5_init 156 = .ok (.iastore, 1) := dk_79 (dk_at dksX5_init_6 14 rfl rfl)
theorem dX5_init_157 : decode cX5_init 157 = .ok (.dup, 1) := dk_89 (dk_at dksX5_init_6 15 rfl rfl)
theorem dX5_init_158 : decode cX5_init 158 = .ok (.bipush 8, 2) := dk_16 8 (dk_at dksX5_init_6 16 rfl rfl)
theorem dX5_init_160 : decode cX5_init 160 = .ok (.iconst (-1), 1) := dk_2 (dk_at dksX5_init_6 18 rfl rfl)
theorem dX5_init_161 : decode cX5_init 161 = .ok (.iastore, 1) := dk_79 (dk_at dksX5_init_6 19 rfl rfl)
theorem dX5_init_162 : decode cX5_init 162 = .ok (.putfield 63, 3) := dk_181 0 63 (dk_at dksX5_init_6 20 rfl rfl)
theorem dX5_init_165 : decode cX5_init 165 = .ok (.aload_n 0, 1) := dk_42 (dk_at dksX5_init_6 23 rfl rfl)
theorem dX5_init_166 : decode cX5_init 166 = .ok (.bipush 24, 2) := dk_16 24 (dk_at dksX5_init_7 0 rfl rfl)
theorem dX5_init_168 : decode cX5_init 168 = .ok (.newarray .int, 2) := dk_188_10 (dk_at dksX5_init_7 2 rfl rfl)
theorem dX5_init_170 : decode cX5_init 170 = .ok (.putfield 66, 3) := dk_181 0 66 (dk_at dksX5_init_7 4 rfl rfl)
theorem dX5_init_173 : decode cX5_init 173 = .ok (.aload_n 0, 1) := dk_42 (dk_at dksX5_init_7 7 rfl rfl)
theorem dX5_init_174 : decode cX5_init 174 = .ok (.bipush 24, 2) := dk_16 24 (dk_at dksX5_init_7 8 rfl rfl)
theorem dX5_init_176 : decode cX5_init 176 = .ok (.newarray .int, 2) := dk_188_10 (dk_at dksX5_init_7 10 rfl rfl)
theorem dX5_init_178 : decode cX5_init 178 = .ok (.putfield 69, 3) := dk_181 0 69 (dk_at dksX5_init_7 12 rfl rfl)
theorem dX5_init_181 : decode cX5_init 181 = .ok (.aload_n 0, 1) := dk_42 (dk_at dksX5_init_7 15 rfl rfl)
theorem dX5_init_182 : decode cX5_init 182 = .ok (.bipush 24, 2) := dk_16 24 (dk_at dksX5_init_7 16 rfl rfl)
theorem dX5_init_184 : decode cX5_init 184 = .ok (.newarray .int, 2) := dk_188_10 (dk_at dksX5_init_7 18 rfl rfl)
theorem dX5_init_186 : decode cX5_init 186 = .ok (.putfield 72, 3) := dk_181 0 72 (dk_at dksX5_init_7 20 rfl rfl)
theorem dX5_init_189 : decode cX5_init 189 = .ok (.aload_n 0, 1) := dk_42 (dk_at dksX5_init_7 23 rfl rfl)
theorem dX5_init_190 : decode cX5_init 190 = .ok (.bipush 24, 2) := dk_16 24 (dk_at dksX5_init_8 0 rfl rfl)
theorem dX5_init_192 : decode cX5_init 192 = .ok (.newarray .int, 2) := dk_188_10 (dk_at dksX5_init_8 2 rfl rfl)
theorem dX5_init_194 : decode cX5_init 194 = .ok (.putfield 75, 3) := dk_181 0 75 (dk_at dksX5_init_8 4 rfl rfl)
theorem dX5_init_197 : decode cX5_init 197 = .ok (.aload_n 0, 1) := dk_42 (dk_at dksX5_init_8 7 rfl rfl)
theorem dX5_init_198 : decode cX5_init 198 = .ok (.bipush 24, 2) := dk_16 24 (dk_at dksX5_init_8 8 rfl rfl)
theorem dX5_init_200 : decode cX5_init 200 = .ok (.newarray .int, 2) := dk_188_10 (dk_at dksX5_init_8 10 rfl rfl)
theorem dX5_init_202 : decode cX5_init 202 = .ok (.putfield 78, 3) := dk_181 0 78 (dk_at dksX5_init_8 12 rfl rfl)
theorem dX5_init_205 : decode cX5_init 205 = .ok (.aload_n 0, 1) := dk_42 (dk_at dksX5_init_8 15 rfl rfl)
theorem dX5_init_206 : decode cX5_init 206 = .ok (.bipush 24, 2) := dk_16 24 (dk_at dksX5_init_8 16 rfl rfl)
theorem dX5_init_208 : decode cX5_init 208 = .ok (.newarray .int, 2) := dk_188_10 (dk_at dksX5_init_8 18 rfl rfl)
theorem dX5_init_210 : decode cX5_init 210 = .ok (.putfield 81, 3) := dk_181 0 81 (dk_at dksX5_init_8 20 rfl rfl)
theorem dX5_init_213 : decode cX5_init 213 = .ok (.aload_n 0, 1) := dk_42 (dk_at dksX5_init_8 23 rfl rfl)
theorem dX5_init_214 : decode cX5_init 214 = .ok (.bipush 24, 2) := dk_16 24 (dk_at dksX5_init_9 0 rfl rfl)
theorem dX5_init_216 : decode cX5_init 216 = .ok (.newarray .int, 2) := dk_188_10 (dk_at dksX5_init_9 2 rfl rfl)
theorem dX5_init_218 : decode cX5_init 218 = .ok (.putfield 84, 3) := dk_181 0 84 (dk_at dksX5_init_9 4 rfl rfl)
theorem dX5_init_221 : decode cX5_init 221 = .ok (.aload_n 0, 1) := dk_42 (dk_at dksX5_init_9 7 rfl rfl)
theorem dX5_init_222 : decode cX5_init 222 = .ok (.bipush 24, 2) := dk_16 24 (dk_at dksX5_init_9 8 rfl rfl)
theorem dX5_init_224 : decode cX5_init 224 = .ok (.newarray .int, 2) := dk_188_10 (dk_at dksX5_init_9 10 rfl rfl)
theorem dX5_init_226 : decode cX5_init 226 = .ok (.putfield 87, 3) := dk_181 0 87 (dk_at dksX5_init_9 12 rfl rfl)
theorem dX5_init_229 : decode cX5_init 229 = .ok (.aload_n 0, 1) := dk_42 (dk_at dksX5_init_9 15 rfl rfl)
theorem dX5_init_230 : decode cX5_init 230 = .ok (.bipush 24, 2) := dk_16 24 (dk_at dksX5_init_9 16 rfl rfl)
theorem dX5_init_232 : decode cX5_init 232 = .ok (.newarray .int, 2) := dk_188_10 (dk_at dksX5_init_9 18 rfl rfl)
theorem dX5_init_234 : decode cX5_init 234 = .ok (.putfield 90, 3) := dk_181 0 90 (dk_at dksX5_init_9 20 rfl rfl)
theorem dX5_init_237 : decode cX5_init 237 = .ok (.aload_n 0, 1) := dk_42 (dk_at dksX5_init_9 23 rfl rfl)
theorem dX5_init_238 : decode cX5_init 238 = .ok (.bipush 12, 2) := dk_16 12 (dk_at dksX5_init_10 0 rfl rfl)
theorem dX5_init_240 : decode cX5_init 240 = .ok (.newarray .int, 2) := dk_188_10 (dk_at dksX5_init_10 2 rfl rfl)
theorem dX5_init_242 : decode cX5_init 242 = .ok (.putfield 93, 3) := dk_181 0 93 (dk_at dksX5_init_10 4 rfl rfl)
theorem dX5_init_245 : decode cX5_init 245 = .ok (.aload_n 0, 1) := dk_42 (dk_at dksX5_init_10 7 rfl rfl)
theorem dX5_init_246 : decode cX5_init 246 = .ok (.bipush 12, 2) := dk_16 12 (dk_at dksX5_init_10 8 rfl rfl)
theorem dX5_init_248 : decode cX5_init 248 = .ok (.newarray .int, 2) := dk_188_10 (dk_at dksX5_init_10 10 rfl rfl)
theorem dX5_init_250 : decode cX5_init 250 = .ok (.putfield 96, 3) := dk_181 0 96 (dk_at dksX5_init_10 12 rfl rfl)
theorem dX5_init_253 : decode cX5_init 253 = .ok (.aload_n 0, 1) := dk_42 (dk_at dksX5_init_10 15 rfl rfl)
theorem dX5_init_254 : decode cX5_init 254 = .ok (.bipush 12, 2) := dk_16 12 (dk_at dksX5_init_10 16 rfl rfl)
theorem dX5_init_256 : decode cX5_init 256 = .ok (.newarray .int, 2) := dk_188_10 (dk_at dksX5_init_10 18 rfl rfl)
theorem dX5_init_258 : decode cX5_init 258 = .ok (.putfield 99, 3) := dk_181 0 99 (dk_at dksX5_init_10 20 rfl rfl)
theorem dX5_init_261 : decode cX5_init 261 = .ok (.aload_n 0, 1) := dk_42 (dk_at dksX5_init_10 23 rfl rfl)
theorem dX5_init_262 : decode cX5_init 262 = .ok (.bipush 6, 2) := dk_16 6 (dk_at dksX5_init_11 0 rfl rfl)
theorem dX5_init_264 : decode cX5_init 264 = .ok (.newarray .int, 2) := dk_188_10 (dk_at dksX5_init_11 2 rfl rfl)
theorem dX5_init_266 : decode cX5_init 266 = .ok (.putfield 102, 3) := dk_181 0 102 (dk_at dksX5_init_11 4 rfl rfl)
theorem dX5_init_269 : decode cX5_init 269 = .ok (.aload_n 0, 1) := dk_42 (dk_at dksX5_init_11 7 rfl rfl)
theorem dX5_init_270 : decode cX5_init 270 = .ok (.bipush 6, 2) := dk_16 6 (dk_at dksX5_init_11 8 rfl rfl)
theorem dX5_init_272 : decode cX5_init 272 = .ok (.newarray .int, 2) := dk_188_10 (dk_at dksX5_init_11 10 rfl rfl)
theorem dX5_init_274 : decode cX5_init 274 = .ok (.putfield 105, 3) := dk_181 0 105 (dk_at dksX5_init_11 12 rfl rfl)
theorem dX5_init_277 : decode cX5_init 277 = .ok (.aload_n 0, 1) := dk_42 (dk_at dksX5_init_11 15 rfl rfl)
theorem dX5_init_278 : decode cX5_init 278 = .ok (.bipush 6, 2) := dk_16 6 (dk_at dksX5_init_11 16 rfl rfl)
theorem dX5_init_280 : decode cX5_init 280 = .ok (.newarray .int, 2) := dk_188_10 (dk_at dksX5_init_11 18 rfl rfl)
theorem dX5_init_282 : decode cX5_init 282 = .ok (.putfield 108, 3) := dk_181 0 108 (dk_at dksX5_init_11 20 rfl rfl)
theorem dX5_init_285 : decode cX5_init 285 = .ok (.return_, 1) := dk_177 (dk_at dksX5_init_11 23 rfl rfl)
abbrev cX5_thrown : ByteArray := prog_16_method_2_code
def yX5_thrown : MethodName := ⟨RX5, "thrown", "()I"⟩
theorem dX5_thrown_0 : decode cX5_thrown 0 = .ok (.aload_n 0, 1) := by decide +kernel
theorem dX5_thrown_1 : decode cX5_thrown 1 = .ok (.getfield 111, 3) := by decide +kernel
theorem dX5_thrown_4 : decode cX5_thrown 4 = .ok (.ireturn, 1) := by decide +kernel
abbrev cX5_feed : ByteArray := prog_16_method_7_code
def yX5_feed : MethodName := ⟨RX5, "feed", "(IIIII)I"⟩
def dkwX5_feed_3 : List UInt8 := [180, 0, 124, 172]
abbrev dktX5_feed_3 : List UInt8 := dkwX5_feed_3 ++ []
def dkwX5_feed_2 : List UInt8 := [42, 28, 182, 0, 130, 42, 29, 182, 0, 130, 42, 21, 4, 182, 0, 130, 42, 21, 5, 182, 0, 130, 42]
abbrev dktX5_feed_2 : List UInt8 := dkwX5_feed_2 ++ dktX5_feed_3
def dkwX5_feed_1 : List UInt8 := [21, 4, 184, 0, 126, 96, 21, 5, 184, 0, 126, 96, 16, 120, 164, 0, 5, 2, 172, 42, 27, 182, 0, 130]
abbrev dktX5_feed_1 : List UInt8 := dkwX5_feed_1 ++ dktX5_feed_2
def dkwX5_feed_0 : List UInt8 := [42, 3, 181, 0, 111, 42, 180, 0, 124, 27, 184, 0, 126, 96, 28, 184, 0, 126, 96, 29, 184, 0, 126, 96]
abbrev dktX5_feed_0 : List UInt8 := dkwX5_feed_0 ++ dktX5_feed_1
theorem dksX5_feed_0 : cX5_feed.data.toList.drop 0 = dktX5_feed_0 := by decide +kernel
theorem dksX5_feed_1 : cX5_feed.data.toList.drop 24 = dktX5_feed_1 := dk_seg dksX5_feed_0 24 rfl rfl
theorem dksX5_feed_2 : cX5_feed.data.toList.drop 48 = dktX5_feed_2 := dk_seg dksX5_feed_1 24 rfl rfl
theorem dksX5_feed_3 : cX5_feed.data.toList.drop 71 = dktX5_feed_3 := dk_seg dksX5_feed_2 23 rfl rfl
theorem dX5_feed_0 : decode cX5_feed 0 = .ok (.aload_n 0, 1) := dk_42 (dk_at dksX5_feed_0 0 rfl rfl)
theorem dX5_feed_1 : decode cX5_feed 1 = .ok (.iconst 0, 1) := dk_3 (dk_at dksX5_feed_0 1 rfl rfl)
theorem dX5_feed_2 : decode cX5_feed 2 = .ok (.putfield 111, 3) := dk_181 0 111 (dk_at dksX5_feed_0 2 rfl rfl)
theorem dX5_feed_5 : decode cX5_feed 5 = .ok (.aload_n 0, 1) := dk_42 (dk_at dksX5_feed_0 5 rfl rfl)
theorem dX5_feed_6 : decode cX5_feed 6 = .ok (.getfield 124, 3) := dk_180 0 124 (dk_at dksX5_feed_0 6 rfl rfl)
theorem dX5_feed_9 : decode cX5_feed 9 = .ok (.iload_n 1, 1) := dk_27 (dk_at dksX5_feed_0 9 rfl rfl)
theorem dX5_feed_10 : decode cX5_feed 10 = .ok (.invokestatic 126, 3) := dk_184 0 126 (dk_at dksX5_feed_0 10 rfl rfl)
theorem dX5_feed_13 : decode cX5_feed 13 = .ok (.iadd, 1) := dk_96 (dk_at dksX5_feed_0 13 rfl rfl)
theorem dX5_feed_14 : decode cX5_feed 14 = .ok (.iload_n 2, 1) := dk_28 (dk_at dksX5_feed_0 14 rfl rfl)
theorem dX5_feed_15 : decode cX5_feed 15 = .ok (.invokestatic 126, 3) := dk_184 0 126 (dk_at dksX5_feed_0 15 rfl rfl)
theorem dX5_feed_18 : decode cX5_feed 18 = .ok (.iadd, 1) := dk_96 (dk_at dksX5_feed_0 18 rfl rfl)
theorem dX5_feed_19 : decode cX5_feed 19 = .ok (.iload_n 3, 1) := dk_29 (dk_at dksX5_feed_0 19 rfl rfl)
theorem dX5_feed_20 : decode cX5_feed 20 = .ok (.invokestatic 126, 3) := dk_184 0 126 (dk_at dksX5_feed_0 20 rfl rfl)
theorem dX5_feed_23 : decode cX5_feed 23 = .ok (.iadd, 1) := dk_96 (dk_at dksX5_feed_0 23 rfl rfl)
theorem dX5_feed_24 : decode cX5_feed 24 = .ok (.iload 4, 2) := dk_21 4 (dk_at dksX5_feed_1 0 rfl rfl)
theorem dX5_feed_26 : decode cX5_feed 26 = .ok (.invokestatic 126, 3) := dk_184 0 126 (dk_at dksX5_feed_1 2 rfl rfl)
theorem dX5_feed_29 : decode cX5_feed 29 = .ok (.iadd, 1) := dk_96 (dk_at dksX5_feed_1 5 rfl rfl)
theorem dX5_feed_30 : decode cX5_feed 30 = .ok (.iload 5, 2) := dk_21 5 (dk_at dksX5_feed_1 6 rfl rfl)
theorem dX5_feed_32 : decode cX5_feed 32 = .ok (.invokestatic 126, 3) := dk_184 0 126 (dk_at dksX5_feed_1 8 rfl rfl)
theorem dX5_feed_35 : decode cX5_feed 35 = .ok (.iadd, 1) := dk_96 (dk_at dksX5_feed_1 11 rfl rfl)
theorem dX5_feed_36 : decode cX5_feed 36 = .ok (.bipush 120, 2) := dk_16 120 (dk_at dksX5_feed_1 12 rfl rfl)
theorem dX5_feed_38 : decode cX5_feed 38 = .ok (.if_icmp .le 5, 3) := dk_164 0 5 (dk_at dksX5_feed_1 14 rfl rfl)
theorem dX5_feed_41 : decode cX5_feed 41 = .ok (.iconst (-1), 1) := dk_2 (dk_at dksX5_feed_1 17 rfl rfl)
theorem dX5_feed_42 : decode cX5_feed 42 = .ok (.ireturn, 1) := dk_172 (dk_at dksX5_feed_1 18 rfl rfl)
theorem dX5_feed_43 : decode cX5_feed 43 = .ok (.aload_n 0, 1) := dk_42 (dk_at dksX5_feed_1 19 rfl rfl)
theorem dX5_feed_44 : decode cX5_feed 44 = .ok (.iload_n 1, 1) := dk_27 (dk_at dksX5_feed_1 20 rfl rfl)
theorem dX5_feed_45 : decode cX5_feed 45 = .ok (.invokevirtual 130, 3) := dk_182 0 130 (dk_at dksX5_feed_1 21 rfl rfl)
theorem dX5_feed_48 : decode cX5_feed 48 = .ok (.aload_n 0, 1) := dk_42 (dk_at dksX5_feed_2 0 rfl rfl)
theorem dX5_feed_49 : decode cX5_feed 49 = .ok (.iload_n 2, 1) := dk_28 (dk_at dksX5_feed_2 1 rfl rfl)
theorem dX5_feed_50 : decode cX5_feed 50 = .ok (.invokevirtual 130, 3) := dk_182 0 130 (dk_at dksX5_feed_2 2 rfl rfl)
theorem dX5_feed_53 : decode cX5_feed 53 = .ok (.aload_n 0, 1) := dk_42 (dk_at dksX5_feed_2 5 rfl rfl)
theorem dX5_feed_54 : decode cX5_feed 54 = .ok (.iload_n 3, 1) := dk_29 (dk_at dksX5_feed_2 6 rfl rfl)
theorem dX5_feed_55 : decode cX5_feed 55 = .ok (.invokevirtual 130, 3) := dk_182 0 130 (dk_at dksX5_feed_2 7 rfl rfl)
theorem dX5_feed_58 : decode cX5_feed 58 = .ok (.aload_n 0, 1) := dk_42 (dk_at dksX5_feed_2 10 rfl rfl)
theorem dX5_feed_59 : decode cX5_feed 59 = .ok (.iload 4, 2) := dk_21 4 (dk_at dksX5_feed_2 11 rfl rfl)
theorem dX5_feed_61 : decode cX5_feed 61 = .ok (.invokevirtual 130, 3) := dk_182 0 130 (dk_at dksX5_feed_2 13 rfl rfl)
theorem dX5_feed_64 : decode cX5_feed 64 = .ok (.aload_n 0, 1) := dk_42 (dk_at dksX5_feed_2 16 rfl rfl)
theorem dX5_feed_65 : decode cX5_feed 65 = .ok (.iload 5, 2) := dk_21 5 (dk_at dksX5_feed_2 17 rfl rfl)
theorem dX5_feed_67 : decode cX5_feed 67 = .ok (.invokevirtual 130, 3) := dk_182 0 130 (dk_at dksX5_feed_2 19 rfl rfl)
theorem dX5_feed_70 : decode cX5_feed 70 = .ok (.aload_n 0, 1) := dk_42 (dk_at dksX5_feed_2 22 rfl rfl)
theorem dX5_feed_71 : decode cX5_feed 71 = .ok (.getfield 124, 3) := dk_180 0 124 (dk_at dksX5_feed_3 0 rfl rfl)
theorem dX5_feed_74 : decode cX5_feed 74 = .ok (.ireturn, 1) := dk_172 (dk_at dksX5_feed_3 3 rfl rfl)
abbrev cX5_bytesIn : ByteArray := prog_16_method_5_code
def yX5_bytesIn : MethodName := ⟨RX5, "bytesIn", "(I)I"⟩
def dkwX5_bytesIn_1 : List UInt8 := [3, 96, 60, 132, 2, 248, 167, 255, 231, 27, 172]
abbrev dktX5_bytesIn_1 : List UInt8 := dkwX5_bytesIn_1 ++ []
def dkwX5_bytesIn_0 : List UInt8 := [3, 60, 16, 24, 61, 28, 155, 0, 27, 27, 26, 28, 122, 17, 0, 255, 126, 153, 0, 7, 4, 167, 0, 4]
abbrev dktX5_bytesIn_0 : List UInt8 := dkwX5_bytesIn_0 ++ dktX5_bytesIn_1
theorem dksX5_bytesIn_0 : cX5_bytesIn.data.toList.drop 0 = dktX5_bytesIn_0 := by decide +kernel
theorem dksX5_bytesIn_1 : cX5_bytesIn.data.toList.drop 24 = dktX5_bytesIn_1 := dk_seg dksX5_bytesIn_0 24 rfl rfl
theorem dX5_bytesIn_0 : decode cX5_bytesIn 0 = .ok (.iconst 0, 1) := dk_3 (dk_at dksX5_bytesIn_0 0 rfl rfl)
theorem dX5_bytesIn_1 : decode cX5_bytesIn 1 = .ok (.istore_n 1, 1) := dk_60 (dk_at dksX5_bytesIn_0 1 rfl rfl)
theorem dX5_bytesIn_2 : decode cX5_bytesIn 2 = .ok (.bipush 24, 2) := dk_16 24 (dk_at dksX5_bytesIn_0 2 rfl rfl)
theorem dX5_bytesIn_4 : decode cX5_bytesIn 4 = .ok (.istore_n 2, 1) := dk_61 (dk_at dksX5_bytesIn_0 4 rfl rfl)
theorem dX5_bytesIn_5 : decode cX5_bytesIn 5 = .ok (.iload_n 2, 1) := dk_28 (dk_at dksX5_bytesIn_0 5 rfl rfl)
theorem dX5_bytesIn_6 : decode cX5_bytesIn 6 = .ok (.ifCond .lt 27, 3) := dk_155 0 27 (dk_at dksX5_bytesIn_0 6 rfl rfl)
theorem dX5_bytesIn_9 : decode cX5_bytesIn 9 = .ok (.iload_n 1, 1) := dk_27 (dk_at dksX5_bytesIn_0 9 rfl rfl)
theorem dX5_bytesIn_10 : decode cX5_bytesIn 10 = .ok (.iload_n 0, 1) := dk_26 (dk_at dksX5_bytesIn_0 10 rfl rfl)
theorem dX5_bytesIn_11 : decode cX5_bytesIn 11 = .ok (.iload_n 2, 1) := dk_28 (dk_at dksX5_bytesIn_0 11 rfl rfl)
theorem dX5_bytesIn_12 : decode cX5_bytesIn 12 = .ok (.ishr, 1) := dk_122 (dk_at dksX5_bytesIn_0 12 rfl rfl)
theorem dX5_bytesIn_13 : decode cX5_bytesIn 13 = .ok (.sipush 255, 3) := dk_17 0 255 (dk_at dksX5_bytesIn_0 13 rfl rfl)
theorem dX5_bytesIn_16 : decode cX5_bytesIn 16 = .ok (.iand, 1) := dk_126 (dk_at dksX5_bytesIn_0 16 rfl rfl)
theorem dX5_bytesIn_17 : decode cX5_bytesIn 17 = .ok (.ifCond .eq 7, 3) := dk_153 0 7 (dk_at dksX5_bytesIn_0 17 rfl rfl)
theorem dX5_bytesIn_20 : decode cX5_bytesIn 20 = .ok (.iconst 1, 1) := dk_4 (dk_at dksX5_bytesIn_0 20 rfl rfl)
theorem dX5_bytesIn_21 : decode cX5_bytesIn 21 = .ok (.goto 4, 3) := dk_167 0 4 (dk_at dksX5_bytesIn_0 21 rfl rfl)
theorem dX5_bytesIn_24 : decode cX5_bytesIn 24 = .ok (.iconst 0, 1) := dk_3 (dk_at dksX5_bytesIn_1 0 rfl rfl)
theorem dX5_bytesIn_25 : decode cX5_bytesIn 25 = .ok (.iadd, 1) := dk_96 (dk_at dksX5_bytesIn_1 1 rfl rfl)
theorem dX5_bytesIn_26 : decode cX5_bytesIn 26 = .ok (.istore_n 1, 1) := dk_60 (dk_at dksX5_bytesIn_1 2 rfl rfl)
theorem dX5_bytesIn_27 : decode cX5_bytesIn 27 = .ok (.iinc 2 (-8), 3) := dk_132 2 248 (dk_at dksX5_bytesIn_1 3 rfl rfl)
theorem dX5_bytesIn_30 : decode cX5_bytesIn 30 = .ok (.goto (-25), 3) := dk_167 255 231 (dk_at dksX5_bytesIn_1 6 rfl rfl)
theorem dX5_bytesIn_33 : decode cX5_bytesIn 33 = .ok (.iload_n 1, 1) := dk_27 (dk_at dksX5_bytesIn_1 9 rfl rfl)
theorem dX5_bytesIn_34 : decode cX5_bytesIn 34 = .ok (.ireturn, 1) := dk_172 (dk_at dksX5_bytesIn_1 10 rfl rfl)
abbrev cX5_put : ByteArray := prog_16_method_6_code
def yX5_put : MethodName := ⟨RX5, "put", "(I)V"⟩
def dkwX5_put_2 : List UInt8 := [167, 255, 213, 177]
abbrev dktX5_put_2 : List UInt8 := dkwX5_put_2 ++ []
def dkwX5_put_1 : List UInt8 := [42, 180, 0, 124, 27, 28, 122, 145, 84, 42, 89, 180, 0, 124, 4, 96, 181, 0, 124, 132, 2, 248]
abbrev dktX5_put_1 : List UInt8 := dkwX5_put_1 ++ dktX5_put_2
def dkwX5_put_0 : List UInt8 := [16, 24, 61, 28, 155, 0, 45, 27, 28, 122, 17, 0, 255, 126, 154, 0, 6, 167, 0, 26, 42, 180, 0, 9]
abbrev dktX5_put_0 : List UInt8 := dkwX5_put_0 ++ dktX5_put_1
theorem dksX5_put_0 : cX5_put.data.toList.drop 0 = dktX5_put_0 := by decide +kernel
theorem dksX5_put_1 : cX5_put.data.toList.drop 24 = dktX5_put_1 := dk_seg dksX5_put_0 24 rfl rfl
theorem dksX5_put_2 : cX5_put.data.toList.drop 46 = dktX5_put_2 := dk_seg dksX5_put_1 22 rfl rfl
theorem dX5_put_0 : decode cX5_put 0 = .ok (.bipush 24, 2) := dk_16 24 (dk_at dksX5_put_0 0 rfl rfl)
theorem dX5_put_2 : decode cX5_put 2 = .ok (.istore_n 2, 1) := dk_61 (dk_at dksX5_put_0 2 rfl rfl)
theorem dX5_put_3 : decode cX5_put 3 = .ok (.iload_n 2, 1) := dk_28 (dk_at dksX5_put_0 3 rfl rfl)
theorem dX5_put_4 : decode cX5_put 4 = .ok (.ifCond .lt 45, 3) := dk_155 0 45 (dk_at dksX5_put_0 4 rfl rfl)
theorem dX5_put_7 : decode cX5_put 7 = .ok (.iload_n 1, 1) := dk_27 (dk_at dksX5_put_0 7 rfl rfl)
theorem dX5_put_8 : decode cX5_put 8 = .ok (.iload_n 2, 1) := dk_28 (dk_at dksX5_put_0 8 rfl rfl)
theorem dX5_put_9 : decode cX5_put 9 = .ok (.ishr, 1) := dk_122 (dk_at dksX5_put_0 9 rfl rfl)
theorem dX5_put_10 : decode cX5_put 10 = .ok (.sipush 255, 3) := dk_17 0 255 (dk_at dksX5_put_0 10 rfl rfl)
theorem dX5_put_13 : decode cX5_put 13 = .ok (.iand, 1) := dk_126 (dk_at dksX5_put_0 13 rfl rfl)
theorem dX5_put_14 : decode cX5_put 14 = .ok (.ifCond .ne 6, 3) := dk_154 0 6 (dk_at dksX5_put_0 14 rfl rfl)
theorem dX5_put_17 : decode cX5_put 17 = .ok (.goto 26, 3) := dk_167 0 26 (dk_at dksX5_put_0 17 rfl rfl)
theorem dX5_put_20 : decode cX5_put 20 = .ok (.aload_n 0, 1) := dk_42 (dk_at dksX5_put_0 20 rfl rfl)
theorem dX5_put_21 : decode cX5_put 21 = .ok (.getfield 9, 3) := dk_180 0 9 (dk_at dksX5_put_0 21 rfl rfl)
theorem dX5_put_24 : decode cX5_put 24 = .ok (.aload_n 0, 1) := dk_42 (dk_at dksX5_put_1 0 rfl rfl)
theorem dX5_put_25 : decode cX5_put 25 = .ok (.getfield 124, 3) := dk_180 0 124 (dk_at dksX5_put_1 1 rfl rfl)
theorem dX5_put_28 : decode cX5_put 28 = .ok (.iload_n 1, 1) := dk_27 (dk_at dksX5_put_1 4 rfl rfl)
theorem dX5_put_29 : decode cX5_put 29 = .ok (.iload_n 2, 1) := dk_28 (dk_at dksX5_put_1 5 rfl rfl)
theorem dX5_put_30 : decode cX5_put 30 = .ok (.ishr, 1) := dk_122 (dk_at dksX5_put_1 6 rfl rfl)
theorem dX5_put_31 : decode cX5_put 31 = .ok (.i2b, 1) := dk_145 (dk_at dksX5_put_1 7 rfl rfl)
theorem dX5_put_32 : decode cX5_put 32 = .ok (.bastore, 1) := dk_84 (dk_at dksX5_put_1 8 rfl rfl)
theorem dX5_put_33 : decode cX5_put 33 = .ok (.aload_n 0, 1) := dk_42 (dk_at dksX5_put_1 9 rfl rfl)
theorem dX5_put_34 : decode cX5_put 34 = .ok (.dup, 1) := dk_89 (dk_at dksX5_put_1 10 rfl rfl)
theorem dX5_put_35 : decode cX5_put 35 = .ok (.getfield 124, 3) := dk_180 0 124 (dk_at dksX5_put_1 11 rfl rfl)
theorem dX5_put_38 : decode cX5_put 38 = .ok (.iconst 1, 1) := dk_4 (dk_at dksX5_put_1 14 rfl rfl)
theorem dX5_put_39 : decode cX5_put 39 = .ok (.iadd, 1) := dk_96 (dk_at dksX5_put_1 15 rfl rfl)
theorem dX5_put_40 : decode cX5_put 40 = .ok (.putfield 124, 3) := dk_181 0 124 (dk_at dksX5_put_1 16 rfl rfl)
theorem dX5_put_43 : decode cX5_put 43 = .ok (.iinc 2 (-8), 3) := dk_132 2 248 (dk_at dksX5_put_1 19 rfl rfl)
theorem dX5_put_46 : decode cX5_put 46 = .ok (.goto (-43), 3) := dk_167 255 213 (dk_at dksX5_put_2 0 rfl rfl)
theorem dX5_put_49 : decode cX5_put 49 = .ok (.return_, 1) := dk_177 (dk_at dksX5_put_2 3 rfl rfl)
abbrev cX5_end : ByteArray := prog_16_method_8_code
def yX5_end : MethodName := ⟨RX5, "end", "(I)Z"⟩
def dkwX5_end_1 : List UInt8 := [4, 172]
abbrev dktX5_end_1 : List UInt8 := dkwX5_end_1 ++ []
def dkwX5_end_0 : List UInt8 := [42, 3, 181, 0, 111, 27, 155, 0, 11, 27, 42, 180, 0, 124, 164, 0, 5, 3, 172, 42, 27, 181, 0, 124]
abbrev dktX5_end_0 : List UInt8 := dkwX5_end_0 ++ dktX5_end_1
theorem dksX5_end_0 : cX5_end.data.toList.drop 0 = dktX5_end_0 := by decide +kernel
theorem dksX5_end_1 : cX5_end.data.toList.drop 24 = dktX5_end_1 := dk_seg dksX5_end_0 24 rfl rfl
theorem dX5_end_0 : decode cX5_end 0 = .ok (.aload_n 0, 1) := dk_42 (dk_at dksX5_end_0 0 rfl rfl)
theorem dX5_end_1 : decode cX5_end 1 = .ok (.iconst 0, 1) := dk_3 (dk_at dksX5_end_0 1 rfl rfl)
theorem dX5_end_2 : decode cX5_end 2 = .ok (.putfield 111, 3) := dk_181 0 111 (dk_at dksX5_end_0 2 rfl rfl)
theorem dX5_end_5 : decode cX5_end 5 = .ok (.iload_n 1, 1) := dk_27 (dk_at dksX5_end_0 5 rfl rfl)
theorem dX5_end_6 : decode cX5_end 6 = .ok (.ifCond .lt 11, 3) := dk_155 0 11 (dk_at dksX5_end_0 6 rfl rfl)
theorem dX5_end_9 : decode cX5_end 9 = .ok (.iload_n 1, 1) := dk_27 (dk_at dksX5_end_0 9 rfl rfl)
theorem dX5_end_10 : decode cX5_end 10 = .ok (.aload_n 0, 1) := dk_42 (dk_at dksX5_end_0 10 rfl rfl)
theorem dX5_end_11 : decode cX5_end 11 = .ok (.getfield 124, 3) := dk_180 0 124 (dk_at dksX5_end_0 11 rfl rfl)
theorem dX5_end_14 : decode cX5_end 14 = .ok (.if_icmp .le 5, 3) := dk_164 0 5 (dk_at dksX5_end_0 14 rfl rfl)
theorem dX5_end_17 : decode cX5_end 17 = .ok (.iconst 0, 1) := dk_3 (dk_at dksX5_end_0 17 rfl rfl)
theorem dX5_end_18 : decode cX5_end 18 = .ok (.ireturn, 1) := dk_172 (dk_at dksX5_end_0 18 rfl rfl)
theorem dX5_end_19 : decode cX5_end 19 = .ok (.aload_n 0, 1) := dk_42 (dk_at dksX5_end_0 19 rfl rfl)
theorem dX5_end_20 : decode cX5_end 20 = .ok (.iload_n 1, 1) := dk_27 (dk_at dksX5_end_0 20 rfl rfl)
theorem dX5_end_21 : decode cX5_end 21 = .ok (.putfield 124, 3) := dk_181 0 124 (dk_at dksX5_end_0 21 rfl rfl)
theorem dX5_end_24 : decode cX5_end 24 = .ok (.iconst 1, 1) := dk_4 (dk_at dksX5_end_1 0 rfl rfl)
theorem dX5_end_25 : decode cX5_end 25 = .ok (.ireturn, 1) := dk_172 (dk_at dksX5_end_1 1 rfl rfl)
abbrev cX5_fault : ByteArray := prog_16_method_25_code
def yX5_fault : MethodName := ⟨RX5, "fault", "()I"⟩
def dkwX5_fault_0 : List UInt8 := [42, 3, 181, 0, 111, 42, 42, 180, 0, 9, 3, 42, 180, 0, 124, 3, 182, 0, 225, 42, 180, 0, 143, 172]
abbrev dktX5_fault_0 : List UInt8 := dkwX5_fault_0 ++ []
theorem dksX5_fault_0 : cX5_fault.data.toList.drop 0 = dktX5_fault_0 := by decide +kernel
theorem dX5_fault_0 : decode cX5_fault 0 = .ok (.aload_n 0, 1) := dk_42 (dk_at dksX5_fault_0 0 rfl rfl)
theorem dX5_fault_1 : decode cX5_fault 1 = .ok (.iconst 0, 1) := dk_3 (dk_at dksX5_fault_0 1 rfl rfl)
theorem dX5_fault_2 : decode cX5_fault 2 = .ok (.putfield 111, 3) := dk_181 0 111 (dk_at dksX5_fault_0 2 rfl rfl)
theorem dX5_fault_5 : decode cX5_fault 5 = .ok (.aload_n 0, 1) := dk_42 (dk_at dksX5_fault_0 5 rfl rfl)
theorem dX5_fault_6 : decode cX5_fault 6 = .ok (.aload_n 0, 1) := dk_42 (dk_at dksX5_fault_0 6 rfl rfl)
theorem dX5_fault_7 : decode cX5_fault 7 = .ok (.getfield 9, 3) := dk_180 0 9 (dk_at dksX5_fault_0 7 rfl rfl)
theorem dX5_fault_10 : decode cX5_fault 10 = .ok (.iconst 0, 1) := dk_3 (dk_at dksX5_fault_0 10 rfl rfl)
theorem dX5_fault_11 : decode cX5_fault 11 = .ok (.aload_n 0, 1) := dk_42 (dk_at dksX5_fault_0 11 rfl rfl)
theorem dX5_fault_12 : decode cX5_fault 12 = .ok (.getfield 124, 3) := dk_180 0 124 (dk_at dksX5_fault_0 12 rfl rfl)
theorem dX5_fault_15 : decode cX5_fault 15 = .ok (.iconst 0, 1) := dk_3 (dk_at dksX5_fault_0 15 rfl rfl)
theorem dX5_fault_16 : decode cX5_fault 16 = .ok (.invokevirtual 225, 3) := dk_182 0 225 (dk_at dksX5_fault_0 16 rfl rfl)
theorem dX5_fault_19 : decode cX5_fault 19 = .ok (.aload_n 0, 1) := dk_42 (dk_at dksX5_fault_0 19 rfl rfl)
theorem dX5_fault_20 : decode cX5_fault 20 = .ok (.getfield 143, 3) := dk_180 0 143 (dk_at dksX5_fault_0 20 rfl rfl)
theorem dX5_fault_23 : decode cX5_fault 23 = .ok (.ireturn, 1) := dk_172 (dk_at dksX5_fault_0 23 rfl rfl)
abbrev cX5_goThrough : ByteArray := prog_16_method_24_code
def yX5_goThrough : MethodName := ⟨RX5, "goThrough", "([BIII)V"⟩
def dkwX5_goThrough_4 : List UInt8 := [182, 0, 153, 2, 159, 0, 8, 42, 182, 0, 149, 87, 177]
abbrev dktX5_goThrough_4 : List UInt8 := dkwX5_goThrough_4 ++ []
def dkwX5_goThrough_3 : List UInt8 := [180, 0, 134, 4, 96, 181, 0, 134, 42, 182, 0, 222, 167, 255, 225, 42, 180, 0, 143, 2, 160, 0, 16, 42]
abbrev dktX5_goThrough_3 : List UInt8 := dkwX5_goThrough_3 ++ dktX5_goThrough_4
def dkwX5_goThrough_2 : List UInt8 := [182, 0, 222, 42, 180, 0, 143, 2, 160, 0, 29, 42, 182, 0, 153, 16, 59, 160, 0, 20, 42, 89]
abbrev dktX5_goThrough_2 : List UInt8 := dkwX5_goThrough_2 ++ dktX5_goThrough_3
def dkwX5_goThrough_1 : List UInt8 := [181, 0, 134, 42, 2, 181, 0, 143, 42, 3, 181, 0, 146, 42, 3, 181, 0, 212, 42, 3, 181, 0, 219, 42]
abbrev dktX5_goThrough_1 : List UInt8 := dkwX5_goThrough_1 ++ dktX5_goThrough_2
def dkwX5_goThrough_0 : List UInt8 := [42, 43, 181, 0, 23, 42, 28, 181, 0, 140, 42, 29, 181, 0, 137, 42, 21, 4, 181, 0, 216, 42, 3]
abbrev dktX5_goThrough_0 : List UInt8 := dkwX5_goThrough_0 ++ dktX5_goThrough_1
theorem dksX5_goThrough_0 : cX5_goThrough.data.toList.drop 0 = dktX5_goThrough_0 := by decide +kernel
theorem dksX5_goThrough_1 : cX5_goThrough.data.toList.drop 23 = dktX5_goThrough_1 := dk_seg dksX5_goThrough_0 23 rfl rfl
theorem dksX5_goThrough_2 : cX5_goThrough.data.toList.drop 47 = dktX5_goThrough_2 := dk_seg dksX5_goThrough_1 24 rfl rfl
theorem dksX5_goThrough_3 : cX5_goThrough.data.toList.drop 69 = dktX5_goThrough_3 := dk_seg dksX5_goThrough_2 22 rfl rfl
theorem dksX5_goThrough_4 : cX5_goThrough.data.toList.drop 93 = dktX5_goThrough_4 := dk_seg dksX5_goThrough_3 24 rfl rfl
theorem dX5_goThrough_0 : decode cX5_goThrough 0 = .ok (.aload_n 0, 1) := dk_42 (dk_at dksX5_goThrough_0 0 rfl rfl)
theorem dX5_goThrough_1 : decode cX5_goThrough 1 = .ok (.aload_n 1, 1) := dk_43 (dk_at dksX5_goThrough_0 1 rfl rfl)
theorem dX5_goThrough_2 : decode cX5_goThrough 2 = .ok (.putfield 23, 3) := dk_181 0 23 (dk_at dksX5_goThrough_0 2 rfl rfl)
theorem dX5_goThrough_5 : decode cX5_goThrough 5 = .ok (.aload_n 0, 1) := dk_42 (dk_at dksX5_goThrough_0 5 rfl rfl)
theorem dX5_goThrough_6 : decode cX5_goThrough 6 = .ok (.iload_n 2, 1) := dk_28 (dk_at dksX5_goThrough_0 6 rfl rfl)
theorem dX5_goThrough_7 : decode cX5_goThrough 7 = .ok (.putfield 140, 3) := dk_181 0 140 (dk_at dksX5_goThrough_0 7 rfl rfl)
theorem dX5_goThrough_10 : decode cX5_goThrough 10 = .ok (.aload_n 0, 1) := dk_42 (dk_at dksX5_goThrough_0 10 rfl rfl)
theorem dX5_goThrough_11 : decode cX5_goThrough 11 = .ok (.iload_n 3, 1) := dk_29 (dk_at dksX5_goThrough_0 11 rfl rfl)
theorem dX5_goThrough_12 : decode cX5_goThrough 12 = .ok (.putfield 137, 3) := dk_181 0 137 (dk_at dksX5_goThrough_0 12 rfl rfl)
theorem dX5_goThrough_15 : decode cX5_goThrough 15 = .ok (.aload_n 0, 1) := dk_42 (dk_at dksX5_goThrough_0 15 rfl rfl)
theorem dX5_goThrough_16 : decode cX5_goThrough 16 = .ok (.iload 4, 2) := dk_21 4 (dk_at dksX5_goThrough_0 16 rfl rfl)
theorem dX5_goThrough_18 : decode cX5_goThrough 18 = .ok (.putfield 216, 3) := dk_181 0 216 (dk_at dksX5_goThrough_0 18 rfl rfl)
theorem dX5_goThrough_21 : decode cX5_goThrough 21 = .ok (.aload_n 0, 1) := dk_42 (dk_at dksX5_goThrough_0 21 rfl rfl)
theorem dX5_goThrough_22 : decode cX5_goThrough 22 = .ok (.iconst 0, 1) := dk_3 (dk_at dksX5_goThrough_0 22 rfl rfl)
theorem dX5_goThrough_23 : decode cX5_goThrough 23 = .ok (.putfield 134, 3) := dk_181 0 134 (dk_at dksX5_goThrough_1 0 rfl rfl)
theorem dX5_goThrough_26 : decode cX5_goThrough 26 = .ok (.aload_n 0, 1) := dk_42 (dk_at dksX5_goThrough_1 3 rfl rfl)
theorem dX5_goThrough_27 : decode cX5_goThrough 27 = .ok (.iconst (-1), 1) := dk_2 (dk_at dksX5_goThrough_1 4 rfl rfl)
theorem dX5_goThrough_28 : decode cX5_goThrough 28 = .ok (.putfield 143, 3) := dk_181 0 143 (dk_at dksX5_goThrough_1 5 rfl rfl)
theorem dX5_goThrough_31 : decode cX5_goThrough 31 = .ok (.aload_n 0, 1) := dk_42 (dk_at dksX5_goThrough_1 8 rfl rfl)
theorem dX5_goThrough_32 : decode cX5_goThrough 32 = .ok (.iconst 0, 1) := dk_3 (dk_at dksX5_goThrough_1 9 rfl rfl)
theorem dX5_goThrough_33 : decode cX5_goThrough 33 = .ok (.putfield 146, 3) := dk_181 0 146 (dk_at dksX5_goThrough_1 10 rfl rfl)
theorem dX5_goThrough_36 : decode cX5_goThrough 36 = .ok (.aload_n 0, 1) := dk_42 (dk_at dksX5_goThrough_1 13 rfl rfl)
theorem dX5_goThrough_37 : decode cX5_goThrough 37 = .ok (.iconst 0, 1) := dk_3 (dk_at dksX5_goThrough_1 14 rfl rfl)
theorem dX5_goThrough_38 : decode cX5_goThrough 38 = .ok (.putfield 212, 3) := dk_181 0 212 (dk_at dksX5_goThrough_1 15 rfl rfl)
theorem dX5_goThrough_41 : decode cX5_goThrough 41 = .ok (.aload_n 0, 1) := dk_42 (dk_at dksX5_goThrough_1 18 rfl rfl)
theorem dX5_goThrough_42 : decode cX5_goThrough 42 = .ok (.iconst 0, 1) := dk_3 (dk_at dksX5_goThrough_1 19 rfl rfl)
theorem dX5_goThrough_43 : decode cX5_goThrough 43 = .ok (.putfield 219, 3) := dk_181 0 219 (dk_at dksX5_goThrough_1 20 rfl rfl)
theorem dX5_goThrough_46 : decode cX5_goThrough 46 = .ok (.aload_n 0, 1) := dk_42 (dk_at dksX5_goThrough_1 23 rfl rfl)
theorem dX5_goThrough_47 : decode cX5_goThrough 47 = .ok (.invokevirtual 222, 3) := dk_182 0 222 (dk_at dksX5_goThrough_2 0 rfl rfl)
theorem dX5_goThrough_50 : decode cX5_goThrough 50 = .ok (.aload_n 0, 1) := dk_42 (dk_at dksX5_goThrough_2 3 rfl rfl)
theorem dX5_goThrough_51 : decode cX5_goThrough 51 = .ok (.getfield 143, 3) := dk_180 0 143 (dk_at dksX5_goThrough_2 4 rfl rfl)
theorem dX5_goThrough_54 : decode cX5_goThrough 54 = .ok (.iconst (-1), 1) := dk_2 (dk_at dksX5_goThrough_2 7 rfl rfl)
theorem dX5_goThrough_55 : decode cX5_goThrough 55 = .ok (.if_icmp .ne 29, 3) := dk_160 0 29 (dk_at dksX5_goThrough_2 8 rfl rfl)
theorem dX5_goThrough_58 : decode cX5_goThrough 58 = .ok (.aload_n 0, 1) := dk_42 (dk_at dksX5_goThrough_2 11 rfl rfl)
theorem dX5_goThrough_59 : decode cX5_goThrough 59 = .ok (.invokevirtual 153, 3) := dk_182 0 153 (dk_at dksX5_goThrough_2 12 rfl rfl)
theorem dX5_goThrough_62 : decode cX5_goThrough 62 = .ok (.bipush 59, 2) := dk_16 59 (dk_at dksX5_goThrough_2 15 rfl rfl)
theorem dX5_goThrough_64 : decode cX5_goThrough 64 = .ok (.if_icmp .ne 20, 3) := dk_160 0 20 (dk_at dksX5_goThrough_2 17 rfl rfl)
theorem dX5_goThrough_67 : decode cX5_goThrough 67 = .ok (.aload_n 0, 1) := dk_42 (dk_at dksX5_goThrough_2 20 rfl rfl)
theorem dX5_goThrough_68 : decode cX5_goThrough 68 = .ok (.dup, 1) := dk_89 (dk_at dksX5_goThrough_2 21 rfl rfl)
theorem dX5_goThrough_69 : decode cX5_goThrough 69 = .ok (.getfield 134, 3) := dk_180 0 134 (dk_at dksX5_goThrough_3 0 rfl rfl)
theorem dX5_goThrough_72 : decode cX5_goThrough 72 = .ok (.iconst 1, 1) := dk_4 (dk_at dksX5_goThrough_3 3 rfl rfl)
theorem dX5_goThrough_73 : decode cX5_goThrough 73 = .ok (.iadd, 1) := dk_96 (dk_at dksX5_goThrough_3 4 rfl rfl)
theorem dX5_goThrough_74 : decode cX5_goThrough 74 = .ok (.putfield 134, 3) := dk_181 0 134 (dk_at dksX5_goThrough_3 5 rfl rfl)
theorem dX5_goThrough_77 : decode cX5_goThrough 77 = .ok (.aload_n 0, 1) := dk_42 (dk_at dksX5_goThrough_3 8 rfl rfl)
theorem dX5_goThrough_78 : decode cX5_goThrough 78 = .ok (.invokevirtual 222, 3) := dk_182 0 222 (dk_at dksX5_goThrough_3 9 rfl rfl)
theorem dX5_goThrough_81 : decode cX5_goThrough 81 = .ok (.goto (-31), 3) := dk_167 255 225 (dk_at dksX5_goThrough_3 12 rfl rfl)
theorem dX5_goThrough_84 : decode cX5_goThrough 84 = .ok (.aload_n 0, 1) := dk_42 (dk_at dksX5_goThrough_3 15 rfl rfl)
theorem dX5_goThrough_85 : decode cX5_goThrough 85 = .ok (.getfield 143, 3) := dk_180 0 143 (dk_at dksX5_goThrough_3 16 rfl rfl)
theorem dX5_goThrough_88 : decode cX5_goThrough 88 = .ok (.iconst (-1), 1) := dk_2 (dk_at dksX5_goThrough_3 19 rfl rfl)
theorem dX5_goThrough_89 : decode cX5_goThrough 89 = .ok (.if_icmp .ne 16, 3) := dk_160 0 16 (dk_at dksX5_goThrough_3 20 rfl rfl)
theorem dX5_goThrough_92 : decode cX5_goThrough 92 = .ok (.aload_n 0, 1) := dk_42 (dk_at dksX5_goThrough_3 23 rfl rfl)
theorem dX5_goThrough_93 : decode cX5_goThrough 93 = .ok (.invokevirtual 153, 3) := dk_182 0 153 (dk_at dksX5_goThrough_4 0 rfl rfl)
theorem dX5_goThrough_96 : decode cX5_goThrough 96 = .ok (.iconst (-1), 1) := dk_2 (dk_at dksX5_goThrough_4 3 rfl rfl)
theorem dX5_goThrough_97 : decode cX5_goThrough 97 = .ok (.if_icmp .eq 8, 3) := dk_159 0 8 (dk_at dksX5_goThrough_4 4 rfl rfl)
theorem dX5_goThrough_100 : decode cX5_goThrough 100 = .ok (.aload_n 0, 1) := dk_42 (dk_at dksX5_goThrough_4 7 rfl rfl)
theorem dX5_goThrough_101 : decode cX5_goThrough 101 = .ok (.invokevirtual 149, 3) := dk_182 0 149 (dk_at dksX5_goThrough_4 8 rfl rfl)
theorem dX5_goThrough_104 : decode cX5_goThrough 104 = .ok (.pop, 1) := dk_87 (dk_at dksX5_goThrough_4 11 rfl rfl)
theorem dX5_goThrough_105 : decode cX5_goThrough 105 = .ok (.return_, 1) := dk_177 (dk_at dksX5_goThrough_4 12 rfl rfl)
abbrev cX5_clause : ByteArray := prog_16_method_23_code
def yX5_clause : MethodName := ⟨RX5, "clause", "()V"⟩
def dkwX5_clause_7 : List UInt8 := [42, 4, 181, 0, 212, 42, 29, 181, 0, 219, 177]
abbrev dktX5_clause_7 : List UInt8 := dkwX5_clause_7 ++ []
def dkwX5_clause_6 : List UInt8 := [2, 160, 0, 22, 42, 180, 0, 212, 154, 0, 15, 27, 42, 180, 0, 216, 160, 0, 7, 28, 154, 0, 4, 177]
abbrev dktX5_clause_6 : List UInt8 := dkwX5_clause_6 ++ dktX5_clause_7
def dkwX5_clause_5 : List UInt8 := [29, 182, 0, 202, 61, 42, 16, 63, 182, 0, 179, 154, 0, 4, 177, 42, 182, 0, 176, 62, 42, 180, 0, 143]
abbrev dktX5_clause_5 : List UInt8 := dkwX5_clause_5 ++ dktX5_clause_6
def dkwX5_clause_4 : List UInt8 := [182, 0, 176, 62, 42, 180, 0, 143, 2, 160, 0, 35, 42, 182, 0, 153, 184, 0, 196, 153, 0, 25, 42, 4]
abbrev dktX5_clause_4 : List UInt8 := dkwX5_clause_4 ++ dktX5_clause_5
def dkwX5_clause_3 : List UInt8 := [182, 0, 202, 61, 42, 16, 63, 182, 0, 179, 154, 0, 4, 177, 42, 182, 0, 176, 62, 167, 0, 48, 42]
abbrev dktX5_clause_3 : List UInt8 := dkwX5_clause_3 ++ dktX5_clause_4
def dkwX5_clause_2 : List UInt8 := [182, 0, 153, 54, 4, 21, 4, 16, 33, 159, 0, 10, 21, 4, 16, 40, 160, 0, 28, 42, 3, 3]
abbrev dktX5_clause_2 : List UInt8 := dkwX5_clause_2 ++ dktX5_clause_3
def dkwX5_clause_1 : List UInt8 := [180, 0, 134, 4, 96, 181, 0, 134, 42, 16, 58, 182, 0, 179, 154, 0, 4, 177, 4, 61, 3, 62, 42]
abbrev dktX5_clause_1 : List UInt8 := dkwX5_clause_1 ++ dktX5_clause_2
def dkwX5_clause_0 : List UInt8 := [42, 182, 0, 153, 60, 18, 26, 27, 184, 0, 169, 154, 0, 9, 42, 182, 0, 149, 87, 177, 42, 89]
abbrev dktX5_clause_0 : List UInt8 := dkwX5_clause_0 ++ dktX5_clause_1
theorem dksX5_clause_0 : cX5_clause.data.toList.drop 0 = dktX5_clause_0 := by decide +kernel
theorem dksX5_clause_1 : cX5_clause.data.toList.drop 22 = dktX5_clause_1 := dk_seg dksX5_clause_0 22 rfl rfl
theorem dksX5_clause_2 : cX5_clause.data.toList.drop 45 = dktX5_clause_2 := dk_seg dksX5_clause_1 23 rfl rfl
theorem dksX5_clause_3 : cX5_clause.data.toList.drop 67 = dktX5_clause_3 := dk_seg dksX5_clause_2 22 rfl rfl
theorem dksX5_clause_4 : cX5_clause.data.toList.drop 90 = dktX5_clause_4 := dk_seg dksX5_clause_3 23 rfl rfl
theorem dksX5_clause_5 : cX5_clause.data.toList.drop 114 = dktX5_clause_5 := dk_seg dksX5_clause_4 24 rfl rfl
theorem dksX5_clause_6 : cX5_clause.data.toList.drop 138 = dktX5_clause_6 := dk_seg dksX5_clause_5 24 rfl rfl
theorem dksX5_clause_7 : cX5_clause.data.toList.drop 162 = dktX5_clause_7 := dk_seg dksX5_clause_6 24 rfl rfl
theorem dX5_clause_0 : decode cX5_clause 0 = .ok (.aload_n 0, 1) := dk_42 (dk_at dksX5_clause_0 0 rfl rfl)
theorem dX5_clause_1 : decode cX5_clause 1 = .ok (.invokevirtual 153, 3) := dk_182 0 153 (dk_at dksX5_clause_0 1 rfl rfl)
theorem dX5_clause_4 : decode cX5_clause 4 = .ok (.istore_n 1, 1) := dk_60 (dk_at dksX5_clause_0 4 rfl rfl)
theorem dX5_clause_5 : decode cX5_clause 5 = .ok (.ldc 26, 2) := dk_18 26 (dk_at dksX5_clause_0 5 rfl rfl)
theorem dX5_clause_7 : decode cX5_clause 7 = .ok (.iload_n 1, 1) := dk_27 (dk_at dksX5_clause_0 7 rfl rfl)
theorem dX5_clause_8 : decode cX5_clause 8 = .ok (.invokestatic 169, 3) := dk_184 0 169 (dk_at dksX5_clause_0 8 rfl rfl)
theorem dX5_clause_11 : decode cX5_clause 11 = .ok (.ifCond .ne 9, 3) := dk_154 0 9 (dk_at dksX5_clause_0 11 rfl rfl)
theorem dX5_clause_14 : decode cX5_clause 14 = .ok (.aload_n 0, 1) := dk_42 (dk_at dksX5_clause_0 14 rfl rfl)
theorem dX5_clause_15 : decode cX5_clause 15 = .ok (.invokevirtual 149, 3) := dk_182 0 149 (dk_at dksX5_clause_0 15 rfl rfl)
theorem dX5_clause_18 : decode cX5_clause 18 = .ok (.pop, 1) := dk_87 (dk_at dksX5_clause_0 18 rfl rfl)
theorem dX5_clause_19 : decode cX5_clause 19 = .ok (.return_, 1) := dk_177 (dk_at dksX5_clause_0 19 rfl rfl)
theorem dX5_clause_20 : decode cX5_clause 20 = .ok (.aload_n 0, 1) := dk_42 (dk_at dksX5_clause_0 20 rfl rfl)
theorem dX5_clause_21 : decode cX5_clause 21 = .ok (.dup, 1) := dk_89 (dk_at dksX5_clause_0 21 rfl rfl)
theorem dX5_clause_22 : decode cX5_clause 22 = .ok (.getfield 134, 3) := dk_180 0 134 (dk_at dksX5_clause_1 0 rfl rfl)
theorem dX5_clause_25 : decode cX5_clause 25 = .ok (.iconst 1, 1) := dk_4 (dk_at dksX5_clause_1 3 rfl rfl)
theorem dX5_clause_26 : decode cX5_clause 26 = .ok (.iadd, 1) := dk_96 (dk_at dksX5_clause_1 4 rfl rfl)
theorem dX5_clause_27 : decode cX5_clause 27 = .ok (.putfield 134, 3) := dk_181 0 134 (dk_at dksX5_clause_1 5 rfl rfl)
theorem dX5_clause_30 : decode cX5_clause 30 = .ok (.aload_n 0, 1) := dk_42 (dk_at dksX5_clause_1 8 rfl rfl)
theorem dX5_clause_31 : decode cX5_clause 31 = .ok (.bipush 58, 2) := dk_16 58 (dk_at dksX5_clause_1 9 rfl rfl)
theorem dX5_clause_33 : decode cX5_clause 33 = .ok (.invokevirtual 179, 3) := dk_182 0 179 (dk_at dksX5_clause_1 11 rfl rfl)
theorem dX5_clause_36 : decode cX5_clause 36 = .ok (.ifCond .ne 4, 3) := dk_154 0 4 (dk_at dksX5_clause_1 14 rfl rfl)
theorem dX5_clause_39 : decode cX5_clause 39 = .ok (.return_, 1) := dk_177 (dk_at dksX5_clause_1 17 rfl rfl)
theorem dX5_clause_40 : decode cX5_clause 40 = .ok (.iconst 1, 1) := dk_4 (dk_at dksX5_clause_1 18 rfl rfl)
theorem dX5_clause_41 : decode cX5_clause 41 = .ok (.istore_n 2, 1) := dk_61 (dk_at dksX5_clause_1 19 rfl rfl)
theorem dX5_clause_42 : decode cX5_clause 42 = .ok (.iconst 0, 1) := dk_3 (dk_at dksX5_clause_1 20 rfl rfl)
theorem dX5_clause_43 : decode cX5_clause 43 = .ok (.istore_n 3, 1) := dk_62 (dk_at dksX5_clause_1 21 rfl rfl)
theorem dX5_clause_44 : decode cX5_clause 44 = .ok (.aload_n 0, 1) := dk_42 (dk_at dksX5_clause_1 22 rfl rfl)
theorem dX5_clause_45 : decode cX5_clause 45 = .ok (.invokevirtual 153, 3) := dk_182 0 153 (dk_at dksX5_clause_2 0 rfl rfl)
theorem dX5_clause_48 : decode cX5_clause 48 = .ok (.istore 4, 2) := dk_54 4 (dk_at dksX5_clause_2 3 rfl rfl)
theorem dX5_clause_50 : decode cX5_clause 50 = .ok (.iload 4, 2) := dk_21 4 (dk_at dksX5_clause_2 5 rfl rfl)
theorem dX5_clause_52 : decode cX5_clause 52 = .ok (.bipush 33, 2) := dk_16 33 (dk_at dksX5_clause_2 7 rfl rfl)
theorem dX5_clause_54 : decode cX5_clause 54 = .ok (.if_icmp .eq 10, 3) := dk_159 0 10 (dk_at dksX5_clause_2 9 rfl rfl)
theorem dX5_clause_57 : decode cX5_clause 57 = .ok (.iload 4, 2) := dk_21 4 (dk_at dksX5_clause_2 12 rfl rfl)
theorem dX5_clause_59 : decode cX5_clause 59 = .ok (.bipush 40, 2) := dk_16 40 (dk_at dksX5_clause_2 14 rfl rfl)
theorem dX5_clause_61 : decode cX5_clause 61 = .ok (.if_icmp .ne 28, 3) := dk_160 0 28 (dk_at dksX5_clause_2 16 rfl rfl)
theorem dX5_clause_64 : decode cX5_clause 64 = .ok (.aload_n 0, 1) := dk_42 (dk_at dksX5_clause_2 19 rfl rfl)
theorem dX5_clause_65 : decode cX5_clause 65 = .ok (.iconst 0, 1) := dk_3 (dk_at dksX5_clause_2 20 rfl rfl)
theorem dX5_clause_66 : decode cX5_clause 66 = .ok (.iconst 0, 1) := dk_3 (dk_at dksX5_clause_2 21 rfl rfl)
theorem dX5_clause_67 : decode cX5_clause 67 = .ok (.invokevirtual 202, 3) := dk_182 0 202 (dk_at dksX5_clause_3 0 rfl rfl)
theorem dX5_clause_70 : decode cX5_clause 70 = .ok (.istore_n 2, 1) := dk_61 (dk_at dksX5_clause_3 3 rfl rfl)
theorem dX5_clause_71 : decode cX5_clause 71 = .ok (.aload_n 0, 1) := dk_42 (dk_at dksX5_clause_3 4 rfl rfl)
theorem dX5_clause_72 : decode cX5_clause 72 = .ok (.bipush 63, 2) := dk_16 63 (dk_at dksX5_clause_3 5 rfl rfl)
theorem dX5_clause_74 : decode cX5_clause 74 = .ok (.invokevirtual 179, 3) := dk_182 0 179 (dk_at dksX5_clause_3 7 rfl rfl)
theorem dX5_clause_77 : decode cX5_clause 77 = .ok (.ifCond .ne 4, 3) := dk_154 0 4 (dk_at dksX5_clause_3 10 rfl rfl)
theorem dX5_clause_80 : decode cX5_clause 80 = .ok (.return_, 1) := dk_177 (dk_at dksX5_clause_3 13 rfl rfl)
theorem dX5_clause_81 : decode cX5_clause 81 = .ok (.aload_n 0, 1) := dk_42 (dk_at dksX5_clause_3 14 rfl rfl)
theorem dX5_clause_82 : decode cX5_clause 82 = .ok (.invokevirtual 176, 3) := dk_182 0 176 (dk_at dksX5_clause_3 15 rfl rfl)
theorem dX5_clause_85 : decode cX5_clause 85 = .ok (.istore_n 3, 1) := dk_62 (dk_at dksX5_clause_3 18 rfl rfl)
theorem dX5_clause_86 : decode cX5_clause 86 = .ok (.goto 48, 3) := dk_167 0 48 (dk_at dksX5_clause_3 19 rfl rfl)
theorem dX5_clause_89 : decode cX5_clause 89 = .ok (.aload_n 0, 1) := dk_42 (dk_at dksX5_clause_3 22 rfl rfl)
theorem dX5_clause_90 : decode cX5_clause 90 = .ok (.invokevirtual 176, 3) := dk_182 0 176 (dk_at dksX5_clause_4 0 rfl rfl)
theorem dX5_clause_93 : decode cX5_clause 93 = .ok (.istore_n 3, 1) := dk_62 (dk_at dksX5_clause_4 3 rfl rfl)
theorem dX5_clause_94 : decode cX5_clause 94 = .ok (.aload_n 0, 1) := dk_42 (dk_at dksX5_clause_4 4 rfl rfl)
theorem dX5_clause_95 : decode cX5_clause 95 = .ok (.getfield 143, 3) := dk_180 0 143 (dk_at dksX5_clause_4 5 rfl rfl)
theorem dX5_clause_98 : decode cX5_clause 98 = .ok (.iconst (-1), 1) := dk_2 (dk_at dksX5_clause_4 8 rfl rfl)
theorem dX5_clause_99 : decode cX5_clause 99 = .ok (.if_icmp .ne 35, 3) := dk_160 0 35 (dk_at dksX5_clause_4 9 rfl rfl)
theorem dX5_clause_102 : decode cX5_clause 102 = .ok (.aload_n 0, 1) := dk_42 (dk_at dksX5_clause_4 12 rfl rfl)
theorem dX5_clause_103 : decode cX5_clause 103 = .ok (.invokevirtual 153, 3) := dk_182 0 153 (dk_at dksX5_clause_4 13 rfl rfl)
theorem dX5_clause_106 : decode cX5_clause 106 = .ok (.invokestatic 196, 3) := dk_184 0 196 (dk_at dksX5_clause_4 16 rfl rfl)
theorem dX5_clause_109 : decode cX5_clause 109 = .ok (.ifCond .eq 25, 3) := dk_153 0 25 (dk_at dksX5_clause_4 19 rfl rfl)
theorem dX5_clause_112 : decode cX5_clause 112 = .ok (.aload_n 0, 1) := dk_42 (dk_at dksX5_clause_4 22 rfl rfl)
theorem dX5_clause_113 : decode cX5_clause 113 = .ok (.iconst 1, 1) := dk_4 (dk_at dksX5_clause_4 23 rfl rfl)
theorem dX5_clause_114 : decode cX5_clause 114 = .ok (.iload_n 3, 1) := dk_29 (dk_at dksX5_clause_5 0 rfl rfl)
theorem dX5_clause_115 : decode cX5_clause 115 = .ok (.invokevirtual 202, 3) := dk_182 0 202 (dk_at dksX5_clause_5 1 rfl rfl)
theorem dX5_clause_118 : decode cX5_clause 118 = .ok (.istore_n 2, 1) := dk_61 (dk_at dksX5_clause_5 4 rfl rfl)
theorem dX5_clause_119 : decode cX5_clause 119 = .ok (.aload_n 0, 1) := dk_42 (dk_at dksX5_clause_5 5 rfl rfl)
theorem dX5_clause_120 : decode cX5_clause 120 = .ok (.bipush 63, 2) := dk_16 63 (dk_at dksX5_clause_5 6 rfl rfl)
theorem dX5_clause_122 : decode cX5_clause 122 = .ok (.invokevirtual 179, 3) := dk_182 0 179 (dk_at dksX5_clause_5 8 rfl rfl)
theorem dX5_clause_125 : decode cX5_clause 125 = .ok (.ifCond .ne 4, 3) := dk_154 0 4 (dk_at dksX5_clause_5 11 rfl rfl)
theorem dX5_clause_128 : decode cX5_clause 128 = .ok (.return_, 1) := dk_177 (dk_at dksX5_clause_5 14 rfl rfl)
theorem dX5_clause_129 : decode cX5_clause 129 = .ok (.aload_n 0, 1) := dk_42 (dk_at dksX5_clause_5 15 rfl rfl)
theorem dX5_clause_130 : decode cX5_clause 130 = .ok (.invokevirtual 176, 3) := dk_182 0 176 (dk_at dksX5_clause_5 16 rfl rfl)
theorem dX5_clause_133 : decode cX5_clause 133 = .ok (.istore_n 3, 1) := dk_62 (dk_at dksX5_clause_5 19 rfl rfl)
theorem dX5_clause_134 : decode cX5_clause 134 = .ok (.aload_n 0, 1) := dk_42 (dk_at dksX5_clause_5 20 rfl rfl)
theorem dX5_clause_135 : decode cX5_clause 135 = .ok (.getfield 143, 3) := dk_180 0 143 (dk_at dksX5_clause_5 21 rfl rfl)
theorem dX5_clause_138 : decode cX5_clause 138 = .ok (.iconst (-1), 1) := dk_2 (dk_at dksX5_clause_6 0 rfl rfl)
theorem dX5_clause_139 : decode cX5_clause 139 = .ok (.if_icmp .ne 22, 3) := dk_160 0 22 (dk_at dksX5_clause_6 1 rfl rfl)
theorem dX5_clause_142 : decode cX5_clause 142 = .ok (.aload_n 0, 1) := dk_42 (dk_at dksX5_clause_6 4 rfl rfl)
theorem dX5_clause_143 : decode cX5_clause 143 = .ok (.getfield 212, 3) := dk_180 0 212 (dk_at dksX5_clause_6 5 rfl rfl)
theorem dX5_clause_146 : decode cX5_clause 146 = .ok (.ifCond .ne 15, 3) := dk_154 0 15 (dk_at dksX5_clause_6 8 rfl rfl)
theorem dX5_clause_149 : decode cX5_clause 149 = .ok (.iload_n 1, 1) := dk_27 (dk_at dksX5_clause_6 11 rfl rfl)
theorem dX5_clause_150 : decode cX5_clause 150 = .ok (.aload_n 0, 1) := dk_42 (dk_at dksX5_clause_6 12 rfl rfl)
theorem dX5_clause_151 : decode cX5_clause 151 = .ok (.getfield 216, 3) := dk_180 0 216 (dk_at dksX5_clause_6 13 rfl rfl)
theorem dX5_clause_154 : decode cX5_clause 154 = .ok (.if_icmp .ne 7, 3) := dk_160 0 7 (dk_at dksX5_clause_6 16 rfl rfl)
theorem dX5_clause_157 : decode cX5_clause 157 = .ok (.iload_n 2, 1) := dk_28 (dk_at dksX5_clause_6 19 rfl rfl)
theorem dX5_clause_158 : decode cX5_clause 158 = .ok (.ifCond .ne 4, 3) := dk_154 0 4 (dk_at dksX5_clause_6 20 rfl rfl)
theorem dX5_clause_161 : decode cX5_clause 161 = .ok (.return_, 1) := dk_177 (dk_at dksX5_clause_6 23 rfl rfl)
theorem dX5_clause_162 : decode cX5_clause 162 = .ok (.aload_n 0, 1) := dk_42 (dk_at dksX5_clause_7 0 rfl rfl)
theorem dX5_clause_163 : decode cX5_clause 163 = .ok (.iconst 1, 1) := dk_4 (dk_at dksX5_clause_7 1 rfl rfl)
theorem dX5_clause_164 : decode cX5_clause 164 = .ok (.putfield 212, 3) := dk_181 0 212 (dk_at dksX5_clause_7 2 rfl rfl)
theorem dX5_clause_167 : decode cX5_clause 167 = .ok (.aload_n 0, 1) := dk_42 (dk_at dksX5_clause_7 5 rfl rfl)
theorem dX5_clause_168 : decode cX5_clause 168 = .ok (.iload_n 3, 1) := dk_29 (dk_at dksX5_clause_7 6 rfl rfl)
theorem dX5_clause_169 : decode cX5_clause 169 = .ok (.putfield 219, 3) := dk_181 0 219 (dk_at dksX5_clause_7 7 rfl rfl)
theorem dX5_clause_172 : decode cX5_clause 172 = .ok (.return_, 1) := dk_177 (dk_at dksX5_clause_7 10 rfl rfl)
abbrev cX5_look : ByteArray := prog_16_method_9_code
def yX5_look : MethodName := ⟨RX5, "look", "()I"⟩
def dkwX5_look_3 : List UInt8 := [167, 0, 4, 2, 172]
abbrev dktX5_look_3 : List UInt8 := dkwX5_look_3 ++ []
def dkwX5_look_2 : List UInt8 := [180, 0, 137, 162, 0, 24, 42, 180, 0, 23, 42, 180, 0, 140, 42, 180, 0, 134, 96, 51, 17, 0, 255, 126]
abbrev dktX5_look_2 : List UInt8 := dkwX5_look_2 ++ dktX5_look_3
def dkwX5_look_1 : List UInt8 := [51, 16, 32, 160, 0, 16, 42, 89, 180, 0, 134, 4, 96, 181, 0, 134, 167, 255, 216, 42, 180, 0, 134, 42]
abbrev dktX5_look_1 : List UInt8 := dkwX5_look_1 ++ dktX5_look_2
def dkwX5_look_0 : List UInt8 := [42, 180, 0, 134, 42, 180, 0, 137, 162, 0, 35, 42, 180, 0, 23, 42, 180, 0, 140, 42, 180, 0, 134, 96]
abbrev dktX5_look_0 : List UInt8 := dkwX5_look_0 ++ dktX5_look_1
theorem dksX5_look_0 : cX5_look.data.toList.drop 0 = dktX5_look_0 := by decide +kernel
theorem dksX5_look_1 : cX5_look.data.toList.drop 24 = dktX5_look_1 := dk_seg dksX5_look_0 24 rfl rfl
theorem dksX5_look_2 : cX5_look.data.toList.drop 48 = dktX5_look_2 := dk_seg dksX5_look_1 24 rfl rfl
theorem dksX5_look_3 : cX5_look.data.toList.drop 72 = dktX5_look_3 := dk_seg dksX5_look_2 24 rfl rfl
theorem dX5_look_0 : decode cX5_look 0 = .ok (.aload_n 0, 1) := dk_42 (dk_at dksX5_look_0 0 rfl rfl)
theorem dX5_look_1 : decode cX5_look 1 = .ok (.getfield 134, 3) := dk_180 0 134 (dk_at dksX5_look_0 1 rfl rfl)
theorem dX5_look_4 : decode cX5_look 4 = .ok (.aload_n 0, 1) := dk_42 (dk_at dksX5_look_0 4 rfl rfl)
theorem dX5_look_5 : decode cX5_look 5 = .ok (.getfield 137, 3) := dk_180 0 137 (dk_at dksX5_look_0 5 rfl rfl)
theorem dX5_look_8 : decode cX5_look 8 = .ok (.if_icmp .ge 35, 3) := dk_162 0 35 (dk_at dksX5_look_0 8 rfl rfl)
theorem dX5_look_11 : decode cX5_look 11 = .ok (.aload_n 0, 1) := dk_42 (dk_at dksX5_look_0 11 rfl rfl)
theorem dX5_look_12 : decode cX5_look 12 = .ok (.getfield 23, 3) := dk_180 0 23 (dk_at dksX5_look_0 12 rfl rfl)
theorem dX5_look_15 : decode cX5_look 15 = .ok (.aload_n 0, 1) := dk_42 (dk_at dksX5_look_0 15 rfl rfl)
theorem dX5_look_16 : decode cX5_look 16 = .ok (.getfield 140, 3) := dk_180 0 140 (dk_at dksX5_look_0 16 rfl rfl)
theorem dX5_look_19 : decode cX5_look 19 = .ok (.aload_n 0, 1) := dk_42 (dk_at dksX5_look_0 19 rfl rfl)
theorem dX5_look_20 : decode cX5_look 20 = .ok (.getfield 134, 3) := dk_180 0 134 (dk_at dksX5_look_0 20 rfl rfl)
theorem dX5_look_23 : decode cX5_look 23 = .ok (.iadd, 1) := dk_96 (dk_at dksX5_look_0 23 rfl rfl)
theorem dX5_look_24 : decode cX5_look 24 = .ok (.baload, 1) := dk_51 (dk_at dksX5_look_1 0 rfl rfl)
theorem dX5_look_25 : decode cX5_look 25 = .ok (.bipush 32, 2) := dk_16 32 (dk_at dksX5_look_1 1 rfl rfl)
theorem dX5_look_27 : decode cX5_look 27 = .ok (.if_icmp .ne 16, 3) := dk_160 0 16 (dk_at dksX5_look_1 3 rfl rfl)
theorem dX5_look_30 : decode cX5_look 30 = .ok (.aload_n 0, 1) := dk_42 (dk_at dksX5_look_1 6 rfl rfl)
theorem dX5_look_31 : decode cX5_look 31 = .ok (.dup, 1) := dk_89 (dk_at dksX5_look_1 7 rfl rfl)
theorem dX5_look_32 : decode cX5_look 32 = .ok (.getfield 134, 3) := dk_180 0 134 (dk_at dksX5_look_1 8 rfl rfl)
theorem dX5_look_35 : decode cX5_look 35 = .ok (.iconst 1, 1) := dk_4 (dk_at dksX5_look_1 11 rfl rfl)
theorem dX5_look_36 : decode cX5_look 36 = .ok (.iadd, 1) := dk_96 (dk_at dksX5_look_1 12 rfl rfl)
theorem dX5_look_37 : decode cX5_look 37 = .ok (.putfield 134, 3) := dk_181 0 134 (dk_at dksX5_look_1 13 rfl rfl)
theorem dX5_look_40 : decode cX5_look 40 = .ok (.goto (-40), 3) := dk_167 255 216 (dk_at dksX5_look_1 16 rfl rfl)
theorem dX5_look_43 : decode cX5_look 43 = .ok (.aload_n 0, 1) := dk_42 (dk_at dksX5_look_1 19 rfl rfl)
theorem dX5_look_44 : decode cX5_look 44 = .ok (.getfield 134, 3) := dk_180 0 134 (dk_at dksX5_look_1 20 rfl rfl)
theorem dX5_look_47 : decode cX5_look 47 = .ok (.aload_n 0, 1) := dk_42 (dk_at dksX5_look_1 23 rfl rfl)
theorem dX5_look_48 : decode cX5_look 48 = .ok (.getfield 137, 3) := dk_180 0 137 (dk_at dksX5_look_2 0 rfl rfl)
theorem dX5_look_51 : decode cX5_look 51 = .ok (.if_icmp .ge 24, 3) := dk_162 0 24 (dk_at dksX5_look_2 3 rfl rfl)
theorem dX5_look_54 : decode cX5_look 54 = .ok (.aload_n 0, 1) := dk_42 (dk_at dksX5_look_2 6 rfl rfl)
theorem dX5_look_55 : decode cX5_look 55 = .ok (.getfield 23, 3) := dk_180 0 23 (dk_at dksX5_look_2 7 rfl rfl)
theorem dX5_look_58 : decode cX5_look 58 = .ok (.aload_n 0, 1) := dk_42 (dk_at dksX5_look_2 10 rfl rfl)
theorem dX5_look_59 : decode cX5_look 59 = .ok (.getfield 140, 3) := dk_180 0 140 (dk_at dksX5_look_2 11 rfl rfl)
theorem dX5_look_62 : decode cX5_look 62 = .ok (.aload_n 0, 1) := dk_42 (dk_at dksX5_look_2 14 rfl rfl)
theorem dX5_look_63 : decode cX5_look 63 = .ok (.getfield 134, 3) := dk_180 0 134 (dk_at dksX5_look_2 15 rfl rfl)
theorem dX5_look_66 : decode cX5_look 66 = .ok (.iadd, 1) := dk_96 (dk_at dksX5_look_2 18 rfl rfl)
theorem dX5_look_67 : decode cX5_look 67 = .ok (.baload, 1) := dk_51 (dk_at dksX5_look_2 19 rfl rfl)
theorem dX5_look_68 : decode cX5_look 68 = .ok (.sipush 255, 3) := dk_17 0 255 (dk_at dksX5_look_2 20 rfl rfl)
theorem dX5_look_71 : decode cX5_look 71 = .ok (.iand, 1) := dk_126 (dk_at dksX5_look_2 23 rfl rfl)
theorem dX5_look_72 : decode cX5_look 72 = .ok (.goto 4, 3) := dk_167 0 4 (dk_at dksX5_look_3 0 rfl rfl)
theorem dX5_look_75 : decode cX5_look 75 = .ok (.iconst (-1), 1) := dk_2 (dk_at dksX5_look_3 3 rfl rfl)
theorem dX5_look_76 : decode cX5_look 76 = .ok (.ireturn, 1) := dk_172 (dk_at dksX5_look_3 4 rfl rfl)
abbrev cX5_isAmong : ByteArray := prog_16_method_4_code
def yX5_isAmong : MethodName := ⟨RX5, "isAmong", "(Ljava/lang/String;I)Z"⟩
def dkwX5_isAmong_1 : List UInt8 := [167, 255, 234, 3, 172]
abbrev dktX5_isAmong_1 : List UInt8 := dkwX5_isAmong_1 ++ []
def dkwX5_isAmong_0 : List UInt8 := [3, 61, 28, 42, 182, 0, 114, 162, 0, 20, 42, 28, 182, 0, 120, 27, 160, 0, 5, 4, 172, 132, 2, 1]
abbrev dktX5_isAmong_0 : List UInt8 := dkwX5_isAmong_0 ++ dktX5_isAmong_1
theorem dksX5_isAmong_0 : cX5_isAmong.data.toList.drop 0 = dktX5_isAmong_0 := by decide +kernel
theorem dksX5_isAmong_1 : cX5_isAmong.data.toList.drop 24 = dktX5_isAmong_1 := dk_seg dksX5_isAmong_0 24 rfl rfl
theorem dX5_isAmong_0 : decode cX5_isAmong 0 = .ok (.iconst 0, 1) := dk_3 (dk_at dksX5_isAmong_0 0 rfl rfl)
theorem dX5_isAmong_1 : decode cX5_isAmong 1 = .ok (.istore_n 2, 1) := dk_61 (dk_at dksX5_isAmong_0 1 rfl rfl)
theorem dX5_isAmong_2 : decode cX5_isAmong 2 = .ok (.iload_n 2, 1) := dk_28 (dk_at dksX5_isAmong_0 2 rfl rfl)
theorem dX5_isAmong_3 : decode cX5_isAmong 3 = .ok (.aload_n 0, 1) := dk_42 (dk_at dksX5_isAmong_0 3 rfl rfl)
theorem dX5_isAmong_4 : decode cX5_isAmong 4 = .ok (.invokevirtual 114, 3) := dk_182 0 114 (dk_at dksX5_isAmong_0 4 rfl rfl)
theorem dX5_isAmong_7 : decode cX5_isAmong 7 = .ok (.if_icmp .ge 20, 3) := dk_162 0 20 (dk_at dksX5_isAmong_0 7 rfl rfl)
theorem dX5_isAmong_10 : decode cX5_isAmong 10 = .ok (.aload_n 0, 1) := dk_42 (dk_at dksX5_isAmong_0 10 rfl rfl)
theorem dX5_isAmong_11 : decode cX5_isAmong 11 = .ok (.iload_n 2, 1) := dk_28 (dk_at dksX5_isAmong_0 11 rfl rfl)
theorem dX5_isAmong_12 : decode cX5_isAmong 12 = .ok (.invokevirtual 120, 3) := dk_182 0 120 (dk_at dksX5_isAmong_0 12 rfl rfl)
theorem dX5_isAmong_15 : decode cX5_isAmong 15 = .ok (.iload_n 1, 1) := dk_27 (dk_at dksX5_isAmong_0 15 rfl rfl)
theorem dX5_isAmong_16 : decode cX5_isAmong 16 = .ok (.if_icmp .ne 5, 3) := dk_160 0 5 (dk_at dksX5_isAmong_0 16 rfl rfl)
theorem dX5_isAmong_19 : decode cX5_isAmong 19 = .ok (.iconst 1, 1) := dk_4 (dk_at dksX5_isAmong_0 19 rfl rfl)
theorem dX5_isAmong_20 : decode cX5_isAmong 20 = .ok (.ireturn, 1) := dk_172 (dk_at dksX5_isAmong_0 20 rfl rfl)
theorem dX5_isAmong_21 : decode cX5_isAmong 21 = .ok (.iinc 2 1, 3) := dk_132 2 1 (dk_at dksX5_isAmong_0 21 rfl rfl)
theorem dX5_isAmong_24 : decode cX5_isAmong 24 = .ok (.goto (-22), 3) := dk_167 255 234 (dk_at dksX5_isAmong_1 0 rfl rfl)
theorem dX5_isAmong_27 : decode cX5_isAmong 27 = .ok (.iconst 0, 1) := dk_3 (dk_at dksX5_isAmong_1 3 rfl rfl)
theorem dX5_isAmong_28 : decode cX5_isAmong 28 = .ok (.ireturn, 1) := dk_172 (dk_at dksX5_isAmong_1 4 rfl rfl)
abbrev cX5_fails : ByteArray := prog_16_method_10_code
def yX5_fails : MethodName := ⟨RX5, "fails", "()Z"⟩
def dkwX5_fails_0 : List UInt8 := [42, 180, 0, 143, 2, 160, 0, 11, 42, 42, 180, 0, 134, 181, 0, 143, 3, 172]
abbrev dktX5_fails_0 : List UInt8 := dkwX5_fails_0 ++ []
theorem dksX5_fails_0 : cX5_fails.data.toList.drop 0 = dktX5_fails_0 := by decide +kernel
theorem dX5_fails_0 : decode cX5_fails 0 = .ok (.aload_n 0, 1) := dk_42 (dk_at dksX5_fails_0 0 rfl rfl)
theorem dX5_fails_1 : decode cX5_fails 1 = .ok (.getfield 143, 3) := dk_180 0 143 (dk_at dksX5_fails_0 1 rfl rfl)
theorem dX5_fails_4 : decode cX5_fails 4 = .ok (.iconst (-1), 1) := dk_2 (dk_at dksX5_fails_0 4 rfl rfl)
theorem dX5_fails_5 : decode cX5_fails 5 = .ok (.if_icmp .ne 11, 3) := dk_160 0 11 (dk_at dksX5_fails_0 5 rfl rfl)
theorem dX5_fails_8 : decode cX5_fails 8 = .ok (.aload_n 0, 1) := dk_42 (dk_at dksX5_fails_0 8 rfl rfl)
theorem dX5_fails_9 : decode cX5_fails 9 = .ok (.aload_n 0, 1) := dk_42 (dk_at dksX5_fails_0 9 rfl rfl)
theorem dX5_fails_10 : decode cX5_fails 10 = .ok (.getfield 134, 3) := dk_180 0 134 (dk_at dksX5_fails_0 10 rfl rfl)
theorem dX5_fails_13 : decode cX5_fails 13 = .ok (.putfield 143, 3) := dk_181 0 143 (dk_at dksX5_fails_0 13 rfl rfl)
theorem dX5_fails_16 : decode cX5_fails 16 = .ok (.iconst 0, 1) := dk_3 (dk_at dksX5_fails_0 16 rfl rfl)
theorem dX5_fails_17 : decode cX5_fails 17 = .ok (.ireturn, 1) := dk_172 (dk_at dksX5_fails_0 17 rfl rfl)
abbrev cX5_takes : ByteArray := prog_16_method_12_code
def yX5_takes : MethodName := ⟨RX5, "takes", "(I)Z"⟩
def dkwX5_takes_1 : List UInt8 := [180, 0, 134, 4, 96, 181, 0, 134, 4, 172]
abbrev dktX5_takes_1 : List UInt8 := dkwX5_takes_1 ++ []
def dkwX5_takes_0 : List UInt8 := [42, 180, 0, 143, 2, 160, 0, 11, 42, 182, 0, 153, 27, 159, 0, 8, 42, 182, 0, 149, 172, 42, 89]
abbrev dktX5_takes_0 : List UInt8 := dkwX5_takes_0 ++ dktX5_takes_1
theorem dksX5_takes_0 : cX5_takes.data.toList.drop 0 = dktX5_takes_0 := by decide +kernel
theorem dksX5_takes_1 : cX5_takes.data.toList.drop 23 = dktX5_takes_1 := dk_seg dksX5_takes_0 23 rfl rfl
theorem dX5_takes_0 : decode cX5_takes 0 = .ok (.aload_n 0, 1) := dk_42 (dk_at dksX5_takes_0 0 rfl rfl)
theorem dX5_takes_1 : decode cX5_takes 1 = .ok (.getfield 143, 3) := dk_180 0 143 (dk_at dksX5_takes_0 1 rfl rfl)
theorem dX5_takes_4 : decode cX5_takes 4 = .ok (.iconst (-1), 1) := dk_2 (dk_at dksX5_takes_0 4 rfl rfl)
theorem dX5_takes_5 : decode cX5_takes 5 = .ok (.if_icmp .ne 11, 3) := dk_160 0 11 (dk_at dksX5_takes_0 5 rfl rfl)
theorem dX5_takes_8 : decode cX5_takes 8 = .ok (.aload_n 0, 1) := dk_42 (dk_at dksX5_takes_0 8 rfl rfl)
theorem dX5_takes_9 : decode cX5_takes 9 = .ok (.invokevirtual 153, 3) := dk_182 0 153 (dk_at dksX5_takes_0 9 rfl rfl)
theorem dX5_takes_12 : decode cX5_takes 12 = .ok (.iload_n 1, 1) := dk_27 (dk_at dksX5_takes_0 12 rfl rfl)
theorem dX5_takes_13 : decode cX5_takes 13 = .ok (.if_icmp .eq 8, 3) := dk_159 0 8 (dk_at dksX5_takes_0 13 rfl rfl)
theorem dX5_takes_16 : decode cX5_takes 16 = .ok (.aload_n 0, 1) := dk_42 (dk_at dksX5_takes_0 16 rfl rfl)
theorem dX5_takes_17 : decode cX5_takes 17 = .ok (.invokevirtual 149, 3) := dk_182 0 149 (dk_at dksX5_takes_0 17 rfl rfl)
theorem dX5_takes_20 : decode cX5_takes 20 = .ok (.ireturn, 1) := dk_172 (dk_at dksX5_takes_0 20 rfl rfl)
theorem dX5_takes_21 : decode cX5_takes 21 = .ok (.aload_n 0, 1) := dk_42 (dk_at dksX5_takes_0 21 rfl rfl)
theorem dX5_takes_22 : decode cX5_takes 22 = .ok (.dup, 1) := dk_89 (dk_at dksX5_takes_0 22 rfl rfl)
theorem dX5_takes_23 : decode cX5_takes 23 = .ok (.getfield 134, 3) := dk_180 0 134 (dk_at dksX5_takes_1 0 rfl rfl)
theorem dX5_takes_26 : decode cX5_takes 26 = .ok (.iconst 1, 1) := dk_4 (dk_at dksX5_takes_1 3 rfl rfl)
theorem dX5_takes_27 : decode cX5_takes 27 = .ok (.iadd, 1) := dk_96 (dk_at dksX5_takes_1 4 rfl rfl)
theorem dX5_takes_28 : decode cX5_takes 28 = .ok (.putfield 134, 3) := dk_181 0 134 (dk_at dksX5_takes_1 5 rfl rfl)
theorem dX5_takes_31 : decode cX5_takes 31 = .ok (.iconst 1, 1) := dk_4 (dk_at dksX5_takes_1 8 rfl rfl)
theorem dX5_takes_32 : decode cX5_takes 32 = .ok (.ireturn, 1) := dk_172 (dk_at dksX5_takes_1 9 rfl rfl)
abbrev cX5_condition : ByteArray := prog_16_method_22_code
def yX5_condition : MethodName := ⟨RX5, "condition", "(ZI)Z"⟩
def dkwX5_condition_2 : List UInt8 := [153, 0, 7, 4, 167, 0, 4, 3, 62, 167, 255, 206, 29, 172]
abbrev dktX5_condition_2 : List UInt8 := dkwX5_condition_2 ++ []
def dkwX5_condition_1 : List UInt8 := [42, 89, 180, 0, 134, 4, 96, 181, 0, 134, 42, 3, 3, 182, 0, 209, 54, 4, 29, 154, 0, 8, 21, 4]
abbrev dktX5_condition_1 : List UInt8 := dkwX5_condition_1 ++ dktX5_condition_2
def dkwX5_condition_0 : List UInt8 := [42, 27, 28, 182, 0, 209, 62, 42, 180, 0, 143, 2, 160, 0, 48, 42, 182, 0, 153, 16, 124, 160, 0, 39]
abbrev dktX5_condition_0 : List UInt8 := dkwX5_condition_0 ++ dktX5_condition_1
theorem dksX5_condition_0 : cX5_condition.data.toList.drop 0 = dktX5_condition_0 := by decide +kernel
theorem dksX5_condition_1 : cX5_condition.data.toList.drop 24 = dktX5_condition_1 := dk_seg dksX5_condition_0 24 rfl rfl
theorem dksX5_condition_2 : cX5_condition.data.toList.drop 48 = dktX5_condition_2 := dk_seg dksX5_condition_1 24 rfl rfl
theorem dX5_condition_0 : decode cX5_condition 0 = .ok (.aload_n 0, 1) := dk_42 (dk_at dksX5_condition_0 0 rfl rfl)
theorem dX5_condition_1 : decode cX5_condition 1 = .ok (.iload_n 1, 1) := dk_27 (dk_at dksX5_condition_0 1 rfl rfl)
theorem dX5_condition_2 : decode cX5_condition 2 = .ok (.iload_n 2, 1) := dk_28 (dk_at dksX5_condition_0 2 rfl rfl)
theorem dX5_condition_3 : decode cX5_condition 3 = .ok (.invokevirtual 209, 3) := dk_182 0 209 (dk_at dksX5_condition_0 3 rfl rfl)
theorem dX5_condition_6 : decode cX5_condition 6 = .ok (.istore_n 3, 1) := dk_62 (dk_at dksX5_condition_0 6 rfl rfl)
theorem dX5_condition_7 : decode cX5_condition 7 = .ok (.aload_n 0, 1) := dk_42 (dk_at dksX5_condition_0 7 rfl rfl)
theorem dX5_condition_8 : decode cX5_condition 8 = .ok (.getfield 143, 3) := dk_180 0 143 (dk_at dksX5_condition_0 8 rfl rfl)
theorem dX5_condition_11 : decode cX5_condition 11 = .ok (.iconst (-1), 1) := dk_2 (dk_at dksX5_condition_0 11 rfl rfl)
theorem dX5_condition_12 : decode cX5_condition 12 = .ok (.if_icmp .ne 48, 3) := dk_160 0 48 (dk_at dksX5_condition_0 12 rfl rfl)
theorem dX5_condition_15 : decode cX5_condition 15 = .ok (.aload_n 0, 1) := dk_42 (dk_at dksX5_condition_0 15 rfl rfl)
theorem dX5_condition_16 : decode cX5_condition 16 = .ok (.invokevirtual 153, 3) := dk_182 0 153 (dk_at dksX5_condition_0 16 rfl rfl)
theorem dX5_condition_19 : decode cX5_condition 19 = .ok (.bipush 124, 2) := dk_16 124 (dk_at dksX5_condition_0 19 rfl rfl)
theorem dX5_condition_21 : decode cX5_condition 21 = .ok (.if_icmp .ne 39, 3) := dk_160 0 39 (dk_at dksX5_condition_0 21 rfl rfl)
theorem dX5_condition_24 : decode cX5_condition 24 = .ok (.aload_n 0, 1) := dk_42 (dk_at dksX5_condition_1 0 rfl rfl)
theorem dX5_condition_25 : decode cX5_condition 25 = .ok (.dup, 1) := dk_89 (dk_at dksX5_condition_1 1 rfl rfl)
theorem dX5_condition_26 : decode cX5_condition 26 = .ok (.getfield 134, 3) := dk_180 0 134 (dk_at dksX5_condition_1 2 rfl rfl)
theorem dX5_condition_29 : decode cX5_condition 29 = .ok (.iconst 1, 1) := dk_4 (dk_at dksX5_condition_1 5 rfl rfl)
theorem dX5_condition_30 : decode cX5_condition 30 = .ok (.iadd, 1) := dk_96 (dk_at dksX5_condition_1 6 rfl rfl)
theorem dX5_condition_31 : decode cX5_condition 31 = .ok (.putfield 134, 3) := dk_181 0 134 (dk_at dksX5_condition_1 7 rfl rfl)
theorem dX5_condition_34 : decode cX5_condition 34 = .ok (.aload_n 0, 1) := dk_42 (dk_at dksX5_condition_1 10 rfl rfl)
theorem dX5_condition_35 : decode cX5_condition 35 = .ok (.iconst 0, 1) := dk_3 (dk_at dksX5_condition_1 11 rfl rfl)
theorem dX5_condition_36 : decode cX5_condition 36 = .ok (.iconst 0, 1) := dk_3 (dk_at dksX5_condition_1 12 rfl rfl)
theorem dX5_condition_37 : decode cX5_condition 37 = .ok (.invokevirtual 209, 3) := dk_182 0 209 (dk_at dksX5_condition_1 13 rfl rfl)
theorem dX5_condition_40 : decode cX5_condition 40 = .ok (.istore 4, 2) := dk_54 4 (dk_at dksX5_condition_1 16 rfl rfl)
theorem dX5_condition_42 : decode cX5_condition 42 = .ok (.iload_n 3, 1) := dk_29 (dk_at dksX5_condition_1 18 rfl rfl)
theorem dX5_condition_43 : decode cX5_condition 43 = .ok (.ifCond .ne 8, 3) := dk_154 0 8 (dk_at dksX5_condition_1 19 rfl rfl)
theorem dX5_condition_46 : decode cX5_condition 46 = .ok (.iload 4, 2) := dk_21 4 (dk_at dksX5_condition_1 22 rfl rfl)
theorem dX5_condition_48 : decode cX5_condition 48 = .ok (.ifCond .eq 7, 3) := dk_153 0 7 (dk_at dksX5_condition_2 0 rfl rfl)
theorem dX5_condition_51 : decode cX5_condition 51 = .ok (.iconst 1, 1) := dk_4 (dk_at dksX5_condition_2 3 rfl rfl)
theorem dX5_condition_52 : decode cX5_condition 52 = .ok (.goto 4, 3) := dk_167 0 4 (dk_at dksX5_condition_2 4 rfl rfl)
theorem dX5_condition_55 : decode cX5_condition 55 = .ok (.iconst 0, 1) := dk_3 (dk_at dksX5_condition_2 7 rfl rfl)
theorem dX5_condition_56 : decode cX5_condition 56 = .ok (.istore_n 3, 1) := dk_62 (dk_at dksX5_condition_2 8 rfl rfl)
theorem dX5_condition_57 : decode cX5_condition 57 = .ok (.goto (-50), 3) := dk_167 255 206 (dk_at dksX5_condition_2 9 rfl rfl)
theorem dX5_condition_60 : decode cX5_condition 60 = .ok (.iload_n 3, 1) := dk_29 (dk_at dksX5_condition_2 12 rfl rfl)
theorem dX5_condition_61 : decode cX5_condition 61 = .ok (.ireturn, 1) := dk_172 (dk_at dksX5_condition_2 13 rfl rfl)
abbrev cX5_part : ByteArray := prog_16_method_21_code
def yX5_part : MethodName := ⟨RX5, "part", "(ZI)Z"⟩
def dkwX5_part_3 : List UInt8 := [172]
abbrev dktX5_part_3 : List UInt8 := dkwX5_part_3 ++ []
def dkwX5_part_2 : List UInt8 := [182, 0, 199, 54, 4, 29, 153, 0, 12, 21, 4, 153, 0, 7, 4, 167, 0, 4, 3, 62, 167, 255, 208, 29]
abbrev dktX5_part_2 : List UInt8 := dkwX5_part_2 ++ dktX5_part_3
def dkwX5_part_1 : List UInt8 := [160, 0, 46, 42, 182, 0, 153, 16, 38, 160, 0, 37, 42, 89, 180, 0, 134, 4, 96, 181, 0, 134, 42]
abbrev dktX5_part_1 : List UInt8 := dkwX5_part_1 ++ dktX5_part_2
def dkwX5_part_0 : List UInt8 := [27, 153, 0, 12, 42, 4, 28, 182, 0, 206, 167, 0, 7, 42, 182, 0, 199, 62, 42, 180, 0, 143, 2]
abbrev dktX5_part_0 : List UInt8 := dkwX5_part_0 ++ dktX5_part_1
theorem dksX5_part_0 : cX5_part.data.toList.drop 0 = dktX5_part_0 := by decide +kernel
theorem dksX5_part_1 : cX5_part.data.toList.drop 23 = dktX5_part_1 := dk_seg dksX5_part_0 23 rfl rfl
theorem dksX5_part_2 : cX5_part.data.toList.drop 46 = dktX5_part_2 := dk_seg dksX5_part_1 23 rfl rfl
theorem dksX5_part_3 : cX5_part.data.toList.drop 70 = dktX5_part_3 := dk_seg dksX5_part_2 24 rfl rfl
theorem dX5_part_0 : decode cX5_part 0 = .ok (.iload_n 1, 1) := dk_27 (dk_at dksX5_part_0 0 rfl rfl)
theorem dX5_part_1 : decode cX5_part 1 = .ok (.ifCond .eq 12, 3) := dk_153 0 12 (dk_at dksX5_part_0 1 rfl rfl)
theorem dX5_part_4 : decode cX5_part 4 = .ok (.aload_n 0, 1) := dk_42 (dk_at dksX5_part_0 4 rfl rfl)
theorem dX5_part_5 : decode cX5_part 5 = .ok (.iconst 1, 1) := dk_4 (dk_at dksX5_part_0 5 rfl rfl)
theorem dX5_part_6 : decode cX5_part 6 = .ok (.iload_n 2, 1) := dk_28 (dk_at dksX5_part_0 6 rfl rfl)
theorem dX5_part_7 : decode cX5_part 7 = .ok (.invokevirtual 206, 3) := dk_182 0 206 (dk_at dksX5_part_0 7 rfl rfl)
theorem dX5_part_10 : decode cX5_part 10 = .ok (.goto 7, 3) := dk_167 0 7 (dk_at dksX5_part_0 10 rfl rfl)
theorem dX5_part_13 : decode cX5_part 13 = .ok (.aload_n 0, 1) := dk_42 (dk_at dksX5_part_0 13 rfl rfl)
theorem dX5_part_14 : decode cX5_part 14 = .ok (.invokevirtual 199, 3) := dk_182 0 199 (dk_at dksX5_part_0 14 rfl rfl)
theorem dX5_part_17 : decode cX5_part 17 = .ok (.istore_n 3, 1) := dk_62 (dk_at dksX5_part_0 17 rfl rfl)
theorem dX5_part_18 : decode cX5_part 18 = .ok (.aload_n 0, 1) := dk_42 (dk_at dksX5_part_0 18 rfl rfl)
theorem dX5_part_19 : decode cX5_part 19 = .ok (.getfield 143, 3) := dk_180 0 143 (dk_at dksX5_part_0 19 rfl rfl)
theorem dX5_part_22 : decode cX5_part 22 = .ok (.iconst (-1), 1) := dk_2 (dk_at dksX5_part_0 22 rfl rfl)
theorem dX5_part_23 : decode cX5_part 23 = .ok (.if_icmp .ne 46, 3) := dk_160 0 46 (dk_at dksX5_part_1 0 rfl rfl)
theorem dX5_part_26 : decode cX5_part 26 = .ok (.aload_n 0, 1) := dk_42 (dk_at dksX5_part_1 3 rfl rfl)
theorem dX5_part_27 : decode cX5_part 27 = .ok (.invokevirtual 153, 3) := dk_182 0 153 (dk_at dksX5_part_1 4 rfl rfl)
theorem dX5_part_30 : decode cX5_part 30 = .ok (.bipush 38, 2) := dk_16 38 (dk_at dksX5_part_1 7 rfl rfl)
theorem dX5_part_32 : decode cX5_part 32 = .ok (.if_icmp .ne 37, 3) := dk_160 0 37 (dk_at dksX5_part_1 9 rfl rfl)
theorem dX5_part_35 : decode cX5_part 35 = .ok (.aload_n 0, 1) := dk_42 (dk_at dksX5_part_1 12 rfl rfl)
theorem dX5_part_36 : decode cX5_part 36 = .ok (.dup, 1) := dk_89 (dk_at dksX5_part_1 13 rfl rfl)
theorem dX5_part_37 : decode cX5_part 37 = .ok (.getfield 134, 3) := dk_180 0 134 (dk_at dksX5_part_1 14 rfl rfl)
theorem dX5_part_40 : decode cX5_part 40 = .ok (.iconst 1, 1) := dk_4 (dk_at dksX5_part_1 17 rfl rfl)
theorem dX5_part_41 : decode cX5_part 41 = .ok (.iadd, 1) := dk_96 (dk_at dksX5_part_1 18 rfl rfl)
theorem dX5_part_42 : decode cX5_part 42 = .ok (.putfield 134, 3) := dk_181 0 134 (dk_at dksX5_part_1 19 rfl rfl)
theorem dX5_part_45 : decode cX5_part 45 = .ok (.aload_n 0, 1) := dk_42 (dk_at dksX5_part_1 22 rfl rfl)
theorem dX5_part_46 : decode cX5_part 46 = .ok (.invokevirtual 199, 3) := dk_182 0 199 (dk_at dksX5_part_2 0 rfl rfl)
theorem dX5_part_49 : decode cX5_part 49 = .ok (.istore 4, 2) := dk_54 4 (dk_at dksX5_part_2 3 rfl rfl)
theorem dX5_part_51 : decode cX5_part 51 = .ok (.iload_n 3, 1) := dk_29 (dk_at dksX5_part_2 5 rfl rfl)
theorem dX5_part_52 : decode cX5_part 52 = .ok (.ifCond .eq 12, 3) := dk_153 0 12 (dk_at dksX5_part_2 6 rfl rfl)
theorem dX5_part_55 : decode cX5_part 55 = .ok (.iload 4, 2) := dk_21 4 (dk_at dksX5_part_2 9 rfl rfl)
theorem dX5_part_57 : decode cX5_part 57 = .ok (.ifCond .eq 7, 3) := dk_153 0 7 (dk_at dksX5_part_2 11 rfl rfl)
theorem dX5_part_60 : decode cX5_part 60 = .ok (.iconst 1, 1) := dk_4 (dk_at dksX5_part_2 14 rfl rfl)
theorem dX5_part_61 : decode cX5_part 61 = .ok (.goto 4, 3) := dk_167 0 4 (dk_at dksX5_part_2 15 rfl rfl)
theorem dX5_part_64 : decode cX5_part 64 = .ok (.iconst 0, 1) := dk_3 (dk_at dksX5_part_2 18 rfl rfl)
theorem dX5_part_65 : decode cX5_part 65 = .ok (.istore_n 3, 1) := dk_62 (dk_at dksX5_part_2 19 rfl rfl)
theorem dX5_part_66 : decode cX5_part 66 = .ok (.goto (-48), 3) := dk_167 255 208 (dk_at dksX5_part_2 20 rfl rfl)
theorem dX5_part_69 : decode cX5_part 69 = .ok (.iload_n 3, 1) := dk_29 (dk_at dksX5_part_2 23 rfl rfl)
theorem dX5_part_70 : decode cX5_part 70 = .ok (.ireturn, 1) := dk_172 (dk_at dksX5_part_3 0 rfl rfl)
abbrev cX5_compares : ByteArray := prog_16_method_19_code
def yX5_compares : MethodName := ⟨RX5, "compares", "(ZI)Z"⟩
def dkwX5_compares_4 : List UInt8 := [3, 167, 0, 14, 29, 21, 5, 164, 0, 7, 4, 167, 0, 4, 3, 172]
abbrev dktX5_compares_4 : List UInt8 := dkwX5_compares_4 ++ []
def dkwX5_compares_3 : List UInt8 := [167, 0, 39, 3, 167, 0, 35, 21, 4, 16, 60, 160, 0, 17, 29, 21, 5, 162, 0, 7, 4, 167, 0, 18]
abbrev dktX5_compares_3 : List UInt8 := dkwX5_compares_3 ++ dktX5_compares_4
def dkwX5_compares_2 : List UInt8 := [96, 181, 0, 134, 42, 182, 0, 176, 54, 5, 21, 4, 16, 61, 160, 0, 17, 29, 21, 5, 160, 0, 7, 4]
abbrev dktX5_compares_2 : List UInt8 := dkwX5_compares_2 ++ dktX5_compares_3
def dkwX5_compares_1 : List UInt8 := [182, 0, 153, 54, 4, 21, 4, 184, 0, 196, 154, 0, 8, 42, 182, 0, 149, 172, 42, 89, 180, 0, 134, 4]
abbrev dktX5_compares_1 : List UInt8 := dkwX5_compares_1 ++ dktX5_compares_2
def dkwX5_compares_0 : List UInt8 := [27, 153, 0, 7, 28, 167, 0, 7, 42, 182, 0, 176, 62, 42, 180, 0, 143, 2, 159, 0, 5, 3, 172, 42]
abbrev dktX5_compares_0 : List UInt8 := dkwX5_compares_0 ++ dktX5_compares_1
theorem dksX5_compares_0 : cX5_compares.data.toList.drop 0 = dktX5_compares_0 := by decide +kernel
theorem dksX5_compares_1 : cX5_compares.data.toList.drop 24 = dktX5_compares_1 := dk_seg dksX5_compares_0 24 rfl rfl
theorem dksX5_compares_2 : cX5_compares.data.toList.drop 48 = dktX5_compares_2 := dk_seg dksX5_compares_1 24 rfl rfl
theorem dksX5_compares_3 : cX5_compares.data.toList.drop 72 = dktX5_compares_3 := dk_seg dksX5_compares_2 24 rfl rfl
theorem dksX5_compares_4 : cX5_compares.data.toList.drop 96 = dktX5_compares_4 := dk_seg dksX5_compares_3 24 rfl rfl
theorem dX5_compares_0 : decode cX5_compares 0 = .ok (.iload_n 1, 1) := dk_27 (dk_at dksX5_compares_0 0 rfl rfl)
theorem dX5_compares_1 : decode cX5_compares 1 = .ok (.ifCond .eq 7, 3) := dk_153 0 7 (dk_at dksX5_compares_0 1 rfl rfl)
theorem dX5_compares_4 : decode cX5_compares 4 = .ok (.iload_n 2, 1) := dk_28 (dk_at dksX5_compares_0 4 rfl rfl)
theorem dX5_compares_5 : decode cX5_compares 5 = .ok (.goto 7, 3) := dk_167 0 7 (dk_at dksX5_compares_0 5 rfl rfl)
theorem dX5_compares_8 : decode cX5_compares 8 = .ok (.aload_n 0, 1) := dk_42 (dk_at dksX5_compares_0 8 rfl rfl)
theorem dX5_compares_9 : decode cX5_compares 9 = .ok (.invokevirtual 176, 3) := dk_182 0 176 (dk_at dksX5_compares_0 9 rfl rfl)
theorem dX5_compares_12 : decode cX5_compares 12 = .ok (.istore_n 3, 1) := dk_62 (dk_at dksX5_compares_0 12 rfl rfl)
theorem dX5_compares_13 : decode cX5_compares 13 = .ok (.aload_n 0, 1) := dk_42 (dk_at dksX5_compares_0 13 rfl rfl)
theorem dX5_compares_14 : decode cX5_compares 14 = .ok (.getfield 143, 3) := dk_180 0 143 (dk_at dksX5_compares_0 14 rfl rfl)
theorem dX5_compares_17 : decode cX5_compares 17 = .ok (.iconst (-1), 1) := dk_2 (dk_at dksX5_compares_0 17 rfl rfl)
theorem dX5_compares_18 : decode cX5_compares 18 = .ok (.if_icmp .eq 5, 3) := dk_159 0 5 (dk_at dksX5_compares_0 18 rfl rfl)
theorem dX5_compares_21 : decode cX5_compares 21 = .ok (.iconst 0, 1) := dk_3 (dk_at dksX5_compares_0 21 rfl rfl)
theorem dX5_compares_22 : decode cX5_compares 22 = .ok (.ireturn, 1) := dk_172 (dk_at dksX5_compares_0 22 rfl rfl)
theorem dX5_compares_23 : decode cX5_compares 23 = .ok (.aload_n 0, 1) := dk_42 (dk_at dksX5_compares_0 23 rfl rfl)
theorem dX5_compares_24 : decode cX5_compares 24 = .ok (.invokevirtual 153, 3) := dk_182 0 153 (dk_at dksX5_compares_1 0 rfl rfl)
theorem dX5_compares_27 : decode cX5_compares 27 = .ok (.istore 4, 2) := dk_54 4 (dk_at dksX5_compares_1 3 rfl rfl)
theorem dX5_compares_29 : decode cX5_compares 29 = .ok (.iload 4, 2) := dk_21 4 (dk_at dksX5_compares_1 5 rfl rfl)
theorem dX5_compares_31 : decode cX5_compares 31 = .ok (.invokestatic 196, 3) := dk_184 0 196 (dk_at dksX5_compares_1 7 rfl rfl)
theorem dX5_compares_34 : decode cX5_compares 34 = .ok (.ifCond .ne 8, 3) := dk_154 0 8 (dk_at dksX5_compares_1 10 rfl rfl)
theorem dX5_compares_37 : decode cX5_compares 37 = .ok (.aload_n 0, 1) := dk_42 (dk_at dksX5_compares_1 13 rfl rfl)
theorem dX5_compares_38 : decode cX5_compares 38 = .ok (.invokevirtual 149, 3) := dk_182 0 149 (dk_at dksX5_compares_1 14 rfl rfl)
theorem dX5_compares_41 : decode cX5_compares 41 = .ok (.ireturn, 1) := dk_172 (dk_at dksX5_compares_1 17 rfl rfl)
theorem dX5_compares_42 : decode cX5_compares 42 = .ok (.aload_n 0, 1) := dk_42 (dk_at dksX5_compares_1 18 rfl rfl)
theorem dX5_compares_43 : decode cX5_compares 43 = .ok (.dup, 1) := dk_89 (dk_at dksX5_compares_1 19 rfl rfl)
theorem dX5_compares_44 : decode cX5_compares 44 = .ok (.getfield 134, 3) := dk_180 0 134 (dk_at dksX5_compares_1 20 rfl rfl)
theorem dX5_compares_47 : decode cX5_compares 47 = .ok (.iconst 1, 1) := dk_4 (dk_at dksX5_compares_1 23 rfl rfl)
theorem dX5_compares_48 : decode cX5_compares 48 = .ok (.iadd, 1) := dk_96 (dk_at dksX5_compares_2 0 rfl rfl)
theorem dX5_compares_49 : decode cX5_compares 49 = .ok (.putfield 134, 3) := dk_181 0 134 (dk_at dksX5_compares_2 1 rfl rfl)
theorem dX5_compares_52 : decode cX5_compares 52 = .ok (.aload_n 0, 1) := dk_42 (dk_at dksX5_compares_2 4 rfl rfl)
theorem dX5_compares_53 : decode cX5_compares 53 = .ok (.invokevirtual 176, 3) := dk_182 0 176 (dk_at dksX5_compares_2 5 rfl rfl)
theorem dX5_compares_56 : decode cX5_compares 56 = .ok (.istore 5, 2) := dk_54 5 (dk_at dksX5_compares_2 8 rfl rfl)
theorem dX5_compares_58 : decode cX5_compares 58 = .ok (.iload 4, 2) := dk_21 4 (dk_at dksX5_compares_2 10 rfl rfl)
theorem dX5_compares_60 : decode cX5_compares 60 = .ok (.bipush 61, 2) := dk_16 61 (dk_at dksX5_compares_2 12 rfl rfl)
theorem dX5_compares_62 : decode cX5_compares 62 = .ok (.if_icmp .ne 17, 3) := dk_160 0 17 (dk_at dksX5_compares_2 14 rfl rfl)
theorem dX5_compares_65 : decode cX5_compares 65 = .ok (.iload_n 3, 1) := dk_29 (dk_at dksX5_compares_2 17 rfl rfl)
theorem dX5_compares_66 : decode cX5_compares 66 = .ok (.iload 5, 2) := dk_21 5 (dk_at dksX5_compares_2 18 rfl rfl)
theorem dX5_compares_68 : decode cX5_compares 68 = .ok (.if_icmp .ne 7, 3) := dk_160 0 7 (dk_at dksX5_compares_2 20 rfl rfl)
theorem dX5_compares_71 : decode cX5_compares 71 = .ok (.iconst 1, 1) := dk_4 (dk_at dksX5_compares_2 23 rfl rfl)
theorem dX5_compares_72 : decode cX5_compares 72 = .ok (.goto 39, 3) := dk_167 0 39 (dk_at dksX5_compares_3 0 rfl rfl)
theorem dX5_compares_75 : decode cX5_compares 75 = .ok (.iconst 0, 1) := dk_3 (dk_at dksX5_compares_3 3 rfl rfl)
theorem dX5_compares_76 : decode cX5_compares 76 = .ok (.goto 35, 3) := dk_167 0 35 (dk_at dksX5_compares_3 4 rfl rfl)
theorem dX5_compares_79 : decode cX5_compares 79 = .ok (.iload 4, 2) := dk_21 4 (dk_at dksX5_compares_3 7 rfl rfl)
theorem dX5_compares_81 : decode cX5_compares 81 = .ok (.bipush 60, 2) := dk_16 60 (dk_at dksX5_compares_3 9 rfl rfl)
theorem dX5_compares_83 : decode cX5_compares 83 = .ok (.if_icmp .ne 17, 3) := dk_160 0 17 (dk_at dksX5_compares_3 11 rfl rfl)
theorem dX5_compares_86 : decode cX5_compares 86 = .ok (.iload_n 3, 1) := dk_29 (dk_at dksX5_compares_3 14 rfl rfl)
theorem dX5_compares_87 : decode cX5_compares 87 = .ok (.iload 5, 2) := dk_21 5 (dk_at dksX5_compares_3 15 rfl rfl)
theorem dX5_compares_89 : decode cX5_compares 89 = .ok (.if_icmp .ge 7, 3) := dk_162 0 7 (dk_at dksX5_compares_3 17 rfl rfl)
theorem dX5_compares_92 : decode cX5_compares 92 = .ok (.iconst 1, 1) := dk_4 (dk_at dksX5_compares_3 20 rfl rfl)
theorem dX5_compares_93 : decode cX5_compares 93 = .ok (.goto 18, 3) := dk_167 0 18 (dk_at dksX5_compares_3 21 rfl rfl)
theorem dX5_compares_96 : decode cX5_compares 96 = .ok (.iconst 0, 1) := dk_3 (dk_at dksX5_compares_4 0 rfl rfl)
theorem dX5_compares_97 : decode cX5_compares 97 = .ok (.goto 14, 3) := dk_167 0 14 (dk_at dksX5_compares_4 1 rfl rfl)
theorem dX5_compares_100 : decode cX5_compares 100 = .ok (.iload_n 3, 1) := dk_29 (dk_at dksX5_compares_4 4 rfl rfl)
theorem dX5_compares_101 : decode cX5_compares 101 = .ok (.iload 5, 2) := dk_21 5 (dk_at dksX5_compares_4 5 rfl rfl)
theorem dX5_compares_103 : decode cX5_compares 103 = .ok (.if_icmp .le 7, 3) := dk_164 0 7 (dk_at dksX5_compares_4 7 rfl rfl)
theorem dX5_compares_106 : decode cX5_compares 106 = .ok (.iconst 1, 1) := dk_4 (dk_at dksX5_compares_4 10 rfl rfl)
theorem dX5_compares_107 : decode cX5_compares 107 = .ok (.goto 4, 3) := dk_167 0 4 (dk_at dksX5_compares_4 11 rfl rfl)
theorem dX5_compares_110 : decode cX5_compares 110 = .ok (.iconst 0, 1) := dk_3 (dk_at dksX5_compares_4 14 rfl rfl)
theorem dX5_compares_111 : decode cX5_compares 111 = .ok (.ireturn, 1) := dk_172 (dk_at dksX5_compares_4 15 rfl rfl)
abbrev cX5_sum : ByteArray := prog_16_method_17_code
def yX5_sum : MethodName := ⟨RX5, "sum", "()I"⟩
def dkwX5_sum_3 : List UInt8 := [167, 0, 7, 27, 133, 33, 101, 184, 0, 189, 60, 167, 255, 180, 27, 172]
abbrev dktX5_sum_3 : List UInt8 := dkwX5_sum_3 ++ []
def dkwX5_sum_2 : List UInt8 := [89, 180, 0, 134, 4, 96, 181, 0, 134, 42, 182, 0, 193, 133, 66, 28, 153, 0, 10, 27, 133, 33, 97]
abbrev dktX5_sum_2 : List UInt8 := dkwX5_sum_2 ++ dktX5_sum_3
def dkwX5_sum_1 : List UInt8 := [182, 0, 153, 16, 45, 160, 0, 56, 42, 182, 0, 153, 16, 43, 160, 0, 7, 4, 167, 0, 4, 3, 61, 42]
abbrev dktX5_sum_1 : List UInt8 := dkwX5_sum_1 ++ dktX5_sum_2
def dkwX5_sum_0 : List UInt8 := [42, 182, 0, 193, 60, 42, 180, 0, 143, 2, 160, 0, 74, 42, 182, 0, 153, 16, 43, 159, 0, 12, 42]
abbrev dktX5_sum_0 : List UInt8 := dkwX5_sum_0 ++ dktX5_sum_1
theorem dksX5_sum_0 : cX5_sum.data.toList.drop 0 = dktX5_sum_0 := by decide +kernel
theorem dksX5_sum_1 : cX5_sum.data.toList.drop 23 = dktX5_sum_1 := dk_seg dksX5_sum_0 23 rfl rfl
theorem dksX5_sum_2 : cX5_sum.data.toList.drop 47 = dktX5_sum_2 := dk_seg dksX5_sum_1 24 rfl rfl
theorem dksX5_sum_3 : cX5_sum.data.toList.drop 70 = dktX5_sum_3 := dk_seg dksX5_sum_2 23 rfl rfl
theorem dX5_sum_0 : decode cX5_sum 0 = .ok (.aload_n 0, 1) := dk_42 (dk_at dksX5_sum_0 0 rfl rfl)
theorem dX5_sum_1 : decode cX5_sum 1 = .ok (.invokevirtual 193, 3) := dk_182 0 193 (dk_at dksX5_sum_0 1 rfl rfl)
theorem dX5_sum_4 : decode cX5_sum 4 = .ok (.istore_n 1, 1) := dk_60 (dk_at dksX5_sum_0 4 rfl rfl)
theorem dX5_sum_5 : decode cX5_sum 5 = .ok (.aload_n 0, 1) := dk_42 (dk_at dksX5_sum_0 5 rfl rfl)
theorem dX5_sum_6 : decode cX5_sum 6 = .ok (.getfield 143, 3) := dk_180 0 143 (dk_at dksX5_sum_0 6 rfl rfl)
theorem dX5_sum_9 : decode cX5_sum 9 = .ok (.iconst (-1), 1) := dk_2 (dk_at dksX5_sum_0 9 rfl rfl)
theorem dX5_sum_10 : decode cX5_sum 10 = .ok (.if_icmp .ne 74, 3) := dk_160 0 74 (dk_at dksX5_sum_0 10 rfl rfl)
theorem dX5_sum_13 : decode cX5_sum 13 = .ok (.aload_n 0, 1) := dk_42 (dk_at dksX5_sum_0 13 rfl rfl)
theorem dX5_sum_14 : decode cX5_sum 14 = .ok (.invokevirtual 153, 3) := dk_182 0 153 (dk_at dksX5_sum_0 14 rfl rfl)
theorem dX5_sum_17 : decode cX5_sum 17 = .ok (.bipush 43, 2) := dk_16 43 (dk_at dksX5_sum_0 17 rfl rfl)
theorem dX5_sum_19 : decode cX5_sum 19 = .ok (.if_icmp .eq 12, 3) := dk_159 0 12 (dk_at dksX5_sum_0 19 rfl rfl)
theorem dX5_sum_22 : decode cX5_sum 22 = .ok (.aload_n 0, 1) := dk_42 (dk_at dksX5_sum_0 22 rfl rfl)
theorem dX5_sum_23 : decode cX5_sum 23 = .ok (.invokevirtual 153, 3) := dk_182 0 153 (dk_at dksX5_sum_1 0 rfl rfl)
theorem dX5_sum_26 : decode cX5_sum 26 = .ok (.bipush 45, 2) := dk_16 45 (dk_at dksX5_sum_1 3 rfl rfl)
theorem dX5_sum_28 : decode cX5_sum 28 = .ok (.if_icmp .ne 56, 3) := dk_160 0 56 (dk_at dksX5_sum_1 5 rfl rfl)
theorem dX5_sum_31 : decode cX5_sum 31 = .ok (.aload_n 0, 1) := dk_42 (dk_at dksX5_sum_1 8 rfl rfl)
theorem dX5_sum_32 : decode cX5_sum 32 = .ok (.invokevirtual 153, 3) := dk_182 0 153 (dk_at dksX5_sum_1 9 rfl rfl)
theorem dX5_sum_35 : decode cX5_sum 35 = .ok (.bipush 43, 2) := dk_16 43 (dk_at dksX5_sum_1 12 rfl rfl)
theorem dX5_sum_37 : decode cX5_sum 37 = .ok (.if_icmp .ne 7, 3) := dk_160 0 7 (dk_at dksX5_sum_1 14 rfl rfl)
theorem dX5_sum_40 : decode cX5_sum 40 = .ok (.iconst 1, 1) := dk_4 (dk_at dksX5_sum_1 17 rfl rfl)
theorem dX5_sum_41 : decode cX5_sum 41 = .ok (.goto 4, 3) := dk_167 0 4 (dk_at dksX5_sum_1 18 rfl rfl)
theorem dX5_sum_44 : decode cX5_sum 44 = .ok (.iconst 0, 1) := dk_3 (dk_at dksX5_sum_1 21 rfl rfl)
theorem dX5_sum_45 : decode cX5_sum 45 = .ok (.istore_n 2, 1) := dk_61 (dk_at dksX5_sum_1 22 rfl rfl)
theorem dX5_sum_46 : decode cX5_sum 46 = .ok (.aload_n 0, 1) := dk_42 (dk_at dksX5_sum_1 23 rfl rfl)
theorem dX5_sum_47 : decode cX5_sum 47 = .ok (.dup, 1) := dk_89 (dk_at dksX5_sum_2 0 rfl rfl)
theorem dX5_sum_48 : decode cX5_sum 48 = .ok (.getfield 134, 3) := dk_180 0 134 (dk_at dksX5_sum_2 1 rfl rfl)
theorem dX5_sum_51 : decode cX5_sum 51 = .ok (.iconst 1, 1) := dk_4 (dk_at dksX5_sum_2 4 rfl rfl)
theorem dX5_sum_52 : decode cX5_sum 52 = .ok (.iadd, 1) := dk_96 (dk_at dksX5_sum_2 5 rfl rfl)
theorem dX5_sum_53 : decode cX5_sum 53 = .ok (.putfield 134, 3) := dk_181 0 134 (dk_at dksX5_sum_2 6 rfl rfl)
theorem dX5_sum_56 : decode cX5_sum 56 = .ok (.aload_n 0, 1) := dk_42 (dk_at dksX5_sum_2 9 rfl rfl)
theorem dX5_sum_57 : decode cX5_sum 57 = .ok (.invokevirtual 193, 3) := dk_182 0 193 (dk_at dksX5_sum_2 10 rfl rfl)
theorem dX5_sum_60 : decode cX5_sum 60 = .ok (.i2l, 1) := dk_133 (dk_at dksX5_sum_2 13 rfl rfl)
theorem dX5_sum_61 : decode cX5_sum 61 = .ok (.lstore_n 3, 1) := dk_66 (dk_at dksX5_sum_2 14 rfl rfl)
theorem dX5_sum_62 : decode cX5_sum 62 = .ok (.iload_n 2, 1) := dk_28 (dk_at dksX5_sum_2 15 rfl rfl)
theorem dX5_sum_63 : decode cX5_sum 63 = .ok (.ifCond .eq 10, 3) := dk_153 0 10 (dk_at dksX5_sum_2 16 rfl rfl)
theorem dX5_sum_66 : decode cX5_sum 66 = .ok (.iload_n 1, 1) := dk_27 (dk_at dksX5_sum_2 19 rfl rfl)
theorem dX5_sum_67 : decode cX5_sum 67 = .ok (.i2l, 1) := dk_133 (dk_at dksX5_sum_2 20 rfl rfl)
theorem dX5_sum_68 : decode cX5_sum 68 = .ok (.lload_n 3, 1) := dk_33 (dk_at dksX5_sum_2 21 rfl rfl)
theorem dX5_sum_69 : decode cX5_sum 69 = .ok (.ladd, 1) := dk_97 (dk_at dksX5_sum_2 22 rfl rfl)
theorem dX5_sum_70 : decode cX5_sum 70 = .ok (.goto 7, 3) := dk_167 0 7 (dk_at dksX5_sum_3 0 rfl rfl)
theorem dX5_sum_73 : decode cX5_sum 73 = .ok (.iload_n 1, 1) := dk_27 (dk_at dksX5_sum_3 3 rfl rfl)
theorem dX5_sum_74 : decode cX5_sum 74 = .ok (.i2l, 1) := dk_133 (dk_at dksX5_sum_3 4 rfl rfl)
theorem dX5_sum_75 : decode cX5_sum 75 = .ok (.lload_n 3, 1) := dk_33 (dk_at dksX5_sum_3 5 rfl rfl)
theorem dX5_sum_76 : decode cX5_sum 76 = .ok (.lsub, 1) := dk_101 (dk_at dksX5_sum_3 6 rfl rfl)
theorem dX5_sum_77 : decode cX5_sum 77 = .ok (.invokestatic 189, 3) := dk_184 0 189 (dk_at dksX5_sum_3 7 rfl rfl)
theorem dX5_sum_80 : decode cX5_sum 80 = .ok (.istore_n 1, 1) := dk_60 (dk_at dksX5_sum_3 10 rfl rfl)
theorem dX5_sum_81 : decode cX5_sum 81 = .ok (.goto (-76), 3) := dk_167 255 180 (dk_at dksX5_sum_3 11 rfl rfl)
theorem dX5_sum_84 : decode cX5_sum 84 = .ok (.iload_n 1, 1) := dk_27 (dk_at dksX5_sum_3 14 rfl rfl)
theorem dX5_sum_85 : decode cX5_sum 85 = .ok (.ireturn, 1) := dk_172 (dk_at dksX5_sum_3 15 rfl rfl)
abbrev cX5_term : ByteArray := prog_16_method_16_code
def yX5_term : MethodName := ⟨RX5, "term", "()I"⟩
def dkwX5_term_4 : List UInt8 := [27, 172]
abbrev dktX5_term_4 : List UInt8 := dkwX5_term_4 ++ []
def dkwX5_term_3 : List UInt8 := [167, 0, 17, 33, 9, 148, 154, 0, 7, 9, 167, 0, 7, 27, 133, 33, 109, 184, 0, 189, 60, 167, 255, 170]
abbrev dktX5_term_3 : List UInt8 := dkwX5_term_3 ++ dktX5_term_4
def dkwX5_term_2 : List UInt8 := [89, 180, 0, 134, 4, 96, 181, 0, 134, 42, 182, 0, 186, 133, 66, 28, 153, 0, 10, 27, 133, 33, 105]
abbrev dktX5_term_2 : List UInt8 := dkwX5_term_2 ++ dktX5_term_3
def dkwX5_term_1 : List UInt8 := [182, 0, 153, 16, 47, 160, 0, 66, 42, 182, 0, 153, 16, 42, 160, 0, 7, 4, 167, 0, 4, 3, 61, 42]
abbrev dktX5_term_1 : List UInt8 := dkwX5_term_1 ++ dktX5_term_2
def dkwX5_term_0 : List UInt8 := [42, 182, 0, 186, 60, 42, 180, 0, 143, 2, 160, 0, 84, 42, 182, 0, 153, 16, 42, 159, 0, 12, 42]
abbrev dktX5_term_0 : List UInt8 := dkwX5_term_0 ++ dktX5_term_1
theorem dksX5_term_0 : cX5_term.data.toList.drop 0 = dktX5_term_0 := by decide +kernel
theorem dksX5_term_1 : cX5_term.data.toList.drop 23 = dktX5_term_1 := dk_seg dksX5_term_0 23 rfl rfl
theorem dksX5_term_2 : cX5_term.data.toList.drop 47 = dktX5_term_2 := dk_seg dksX5_term_1 24 rfl rfl
theorem dksX5_term_3 : cX5_term.data.toList.drop 70 = dktX5_term_3 := dk_seg dksX5_term_2 23 rfl rfl
theorem dksX5_term_4 : cX5_term.data.toList.drop 94 = dktX5_term_4 := dk_seg dksX5_term_3 24 rfl rfl
theorem dX5_term_0 : decode cX5_term 0 = .ok (.aload_n 0, 1) := dk_42 (dk_at dksX5_term_0 0 rfl rfl)
theorem dX5_term_1 : decode cX5_term 1 = .ok (.invokevirtual 186, 3) := dk_182 0 186 (dk_at dksX5_term_0 1 rfl rfl)
theorem dX5_term_4 : decode cX5_term 4 = .ok (.istore_n 1, 1) := dk_60 (dk_at dksX5_term_0 4 rfl rfl)
theorem dX5_term_5 : decode cX5_term 5 = .ok (.aload_n 0, 1) := dk_42 (dk_at dksX5_term_0 5 rfl rfl)
theorem dX5_term_6 : decode cX5_term 6 = .ok (.getfield 143, 3) := dk_180 0 143 (dk_at dksX5_term_0 6 rfl rfl)
theorem dX5_term_9 : decode cX5_term 9 = .ok (.iconst (-1), 1) := dk_2 (dk_at dksX5_term_0 9 rfl rfl)
theorem dX5_term_10 : decode cX5_term 10 = .ok (.if_icmp .ne 84, 3) := dk_160 0 84 (dk_at dksX5_term_0 10 rfl rfl)
theorem dX5_term_13 : decode cX5_term 13 = .ok (.aload_n 0, 1) := dk_42 (dk_at dksX5_term_0 13 rfl rfl)
theorem dX5_term_14 : decode cX5_term 14 = .ok (.invokevirtual 153, 3) := dk_182 0 153 (dk_at dksX5_term_0 14 rfl rfl)
theorem dX5_term_17 : decode cX5_term 17 = .ok (.bipush 42, 2) := dk_16 42 (dk_at dksX5_term_0 17 rfl rfl)
theorem dX5_term_19 : decode cX5_term 19 = .ok (.if_icmp .eq 12, 3) := dk_159 0 12 (dk_at dksX5_term_0 19 rfl rfl)
theorem dX5_term_22 : decode cX5_term 22 = .ok (.aload_n 0, 1) := dk_42 (dk_at dksX5_term_0 22 rfl rfl)
theorem dX5_term_23 : decode cX5_term 23 = .ok (.invokevirtual 153, 3) := dk_182 0 153 (dk_at dksX5_term_1 0 rfl rfl)
theorem dX5_term_26 : decode cX5_term 26 = .ok (.bipush 47, 2) := dk_16 47 (dk_at dksX5_term_1 3 rfl rfl)
theorem dX5_term_28 : decode cX5_term 28 = .ok (.if_icmp .ne 66, 3) := dk_160 0 66 (dk_at dksX5_term_1 5 rfl rfl)
theorem dX5_term_31 : decode cX5_term 31 = .ok (.aload_n 0, 1) := dk_42 (dk_at dksX5_term_1 8 rfl rfl)
theorem dX5_term_32 : decode cX5_term 32 = .ok (.invokevirtual 153, 3) := dk_182 0 153 (dk_at dksX5_term_1 9 rfl rfl)
theorem dX5_term_35 : decode cX5_term 35 = .ok (.bipush 42, 2) := dk_16 42 (dk_at dksX5_term_1 12 rfl rfl)
theorem dX5_term_37 : decode cX5_term 37 = .ok (.if_icmp .ne 7, 3) := dk_160 0 7 (dk_at dksX5_term_1 14 rfl rfl)
theorem dX5_term_40 : decode cX5_term 40 = .ok (.iconst 1, 1) := dk_4 (dk_at dksX5_term_1 17 rfl rfl)
theorem dX5_term_41 : decode cX5_term 41 = .ok (.goto 4, 3) := dk_167 0 4 (dk_at dksX5_term_1 18 rfl rfl)
theorem dX5_term_44 : decode cX5_term 44 = .ok (.iconst 0, 1) := dk_3 (dk_at dksX5_term_1 21 rfl rfl)
theorem dX5_term_45 : decode cX5_term 45 = .ok (.istore_n 2, 1) := dk_61 (dk_at dksX5_term_1 22 rfl rfl)
theorem dX5_term_46 : decode cX5_term 46 = .ok (.aload_n 0, 1) := dk_42 (dk_at dksX5_term_1 23 rfl rfl)
theorem dX5_term_47 : decode cX5_term 47 = .ok (.dup, 1) := dk_89 (dk_at dksX5_term_2 0 rfl rfl)
theorem dX5_term_48 : decode cX5_term 48 = .ok (.getfield 134, 3) := dk_180 0 134 (dk_at dksX5_term_2 1 rfl rfl)
theorem dX5_term_51 : decode cX5_term 51 = .ok (.iconst 1, 1) := dk_4 (dk_at dksX5_term_2 4 rfl rfl)
theorem dX5_term_52 : decode cX5_term 52 = .ok (.iadd, 1) := dk_96 (dk_at dksX5_term_2 5 rfl rfl)
theorem dX5_term_53 : decode cX5_term 53 = .ok (.putfield 134, 3) := dk_181 0 134 (dk_at dksX5_term_2 6 rfl rfl)
theorem dX5_term_56 : decode cX5_term 56 = .ok (.aload_n 0, 1) := dk_42 (dk_at dksX5_term_2 9 rfl rfl)
theorem dX5_term_57 : decode cX5_term 57 = .ok (.invokevirtual 186, 3) := dk_182 0 186 (dk_at dksX5_term_2 10 rfl rfl)
theorem dX5_term_60 : decode cX5_term 60 = .ok (.i2l, 1) := dk_133 (dk_at dksX5_term_2 13 rfl rfl)
theorem dX5_term_61 : decode cX5_term 61 = .ok (.lstore_n 3, 1) := dk_66 (dk_at dksX5_term_2 14 rfl rfl)
theorem dX5_term_62 : decode cX5_term 62 = .ok (.iload_n 2, 1) := dk_28 (dk_at dksX5_term_2 15 rfl rfl)
theorem dX5_term_63 : decode cX5_term 63 = .ok (.ifCond .eq 10, 3) := dk_153 0 10 (dk_at dksX5_term_2 16 rfl rfl)
theorem dX5_term_66 : decode cX5_term 66 = .ok (.iload_n 1, 1) := dk_27 (dk_at dksX5_term_2 19 rfl rfl)
theorem dX5_term_67 : decode cX5_term 67 = .ok (.i2l, 1) := dk_133 (dk_at dksX5_term_2 20 rfl rfl)
theorem dX5_term_68 : decode cX5_term 68 = .ok (.lload_n 3, 1) := dk_33 (dk_at dksX5_term_2 21 rfl rfl)
theorem dX5_term_69 : decode cX5_term 69 = .ok (.lmul, 1) := dk_105 (dk_at dksX5_term_2 22 rfl rfl)
theorem dX5_term_70 : decode cX5_term 70 = .ok (.goto 17, 3) := dk_167 0 17 (dk_at dksX5_term_3 0 rfl rfl)
theorem dX5_term_73 : decode cX5_term 73 = .ok (.lload_n 3, 1) := dk_33 (dk_at dksX5_term_3 3 rfl rfl)
theorem dX5_term_74 : decode cX5_term 74 = .ok (.lconst 0, 1) := dk_9 (dk_at dksX5_term_3 4 rfl rfl)
theorem dX5_term_75 : decode cX5_term 75 = .ok (.lcmp, 1) := dk_148 (dk_at dksX5_term_3 5 rfl rfl)
theorem dX5_term_76 : decode cX5_term 76 = .ok (.ifCond .ne 7, 3) := dk_154 0 7 (dk_at dksX5_term_3 6 rfl rfl)
theorem dX5_term_79 : decode cX5_term 79 = .ok (.lconst 0, 1) := dk_9 (dk_at dksX5_term_3 9 rfl rfl)
theorem dX5_term_80 : decode cX5_term 80 = .ok (.goto 7, 3) := dk_167 0 7 (dk_at dksX5_term_3 10 rfl rfl)
theorem dX5_term_83 : decode cX5_term 83 = .ok (.iload_n 1, 1) := dk_27 (dk_at dksX5_term_3 13 rfl rfl)
theorem dX5_term_84 : decode cX5_term 84 = .ok (.i2l, 1) := dk_133 (dk_at dksX5_term_3 14 rfl rfl)
theorem dX5_term_85 : decode cX5_term 85 = .ok (.lload_n 3, 1) := dk_33 (dk_at dksX5_term_3 15 rfl rfl)
theorem dX5_term_86 : decode cX5_term 86 = .ok (.ldiv, 1) := dk_109 (dk_at dksX5_term_3 16 rfl rfl)
theorem dX5_term_87 : decode cX5_term 87 = .ok (.invokestatic 189, 3) := dk_184 0 189 (dk_at dksX5_term_3 17 rfl rfl)
theorem dX5_term_90 : decode cX5_term 90 = .ok (.istore_n 1, 1) := dk_60 (dk_at dksX5_term_3 20 rfl rfl)
theorem dX5_term_91 : decode cX5_term 91 = .ok (.goto (-86), 3) := dk_167 255 170 (dk_at dksX5_term_3 21 rfl rfl)
theorem dX5_term_94 : decode cX5_term 94 = .ok (.iload_n 1, 1) := dk_27 (dk_at dksX5_term_4 0 rfl rfl)
theorem dX5_term_95 : decode cX5_term 95 = .ok (.ireturn, 1) := dk_172 (dk_at dksX5_term_4 1 rfl rfl)
abbrev cX5_atom : ByteArray := prog_16_method_15_code
def yX5_atom : MethodName := ⟨RX5, "atom", "()I"⟩
def dkwX5_atom_6 : List UInt8 := [61, 42, 89, 180, 0, 134, 4, 96, 181, 0, 134, 132, 3, 1, 167, 255, 193, 28, 172]
abbrev dktX5_atom_6 : List UInt8 := dkwX5_atom_6 ++ []
def dkwX5_atom_5 : List UInt8 := [3, 172, 16, 10, 28, 104, 42, 180, 0, 23, 42, 180, 0, 140, 42, 180, 0, 134, 96, 51, 96, 16, 48, 100]
abbrev dktX5_atom_5 : List UInt8 := dkwX5_atom_5 ++ dktX5_atom_6
def dkwX5_atom_4 : List UInt8 := [182, 0, 183, 153, 0, 62, 42, 180, 0, 143, 2, 160, 0, 54, 29, 7, 160, 0, 10, 42, 182, 0, 149, 87]
abbrev dktX5_atom_4 : List UInt8 := dkwX5_atom_4 ++ dktX5_atom_5
def dkwX5_atom_3 : List UInt8 := [181, 0, 146, 28, 172, 42, 182, 0, 183, 154, 0, 8, 42, 182, 0, 149, 87, 3, 61, 3, 62, 42]
abbrev dktX5_atom_3 : List UInt8 := dkwX5_atom_3 ++ dktX5_atom_4
def dkwX5_atom_2 : List UInt8 := [182, 0, 176, 61, 42, 16, 93, 182, 0, 179, 154, 0, 5, 3, 172, 42, 89, 180, 0, 146, 4, 100]
abbrev dktX5_atom_2 : List UInt8 := dkwX5_atom_2 ++ dktX5_atom_3
def dkwX5_atom_1 : List UInt8 := [42, 180, 0, 20, 27, 46, 172, 27, 16, 91, 160, 0, 40, 42, 182, 0, 173, 154, 0, 5, 3, 172, 42]
abbrev dktX5_atom_1 : List UInt8 := dkwX5_atom_1 ++ dktX5_atom_2
def dkwX5_atom_0 : List UInt8 := [42, 182, 0, 153, 60, 18, 32, 27, 184, 0, 169, 153, 0, 20, 42, 89, 180, 0, 134, 4, 96, 181, 0, 134]
abbrev dktX5_atom_0 : List UInt8 := dkwX5_atom_0 ++ dktX5_atom_1
theorem dksX5_atom_0 : cX5_atom.data.toList.drop 0 = dktX5_atom_0 := by decide +kernel
theorem dksX5_atom_1 : cX5_atom.data.toList.drop 24 = dktX5_atom_1 := dk_seg dksX5_atom_0 24 rfl rfl
theorem dksX5_atom_2 : cX5_atom.data.toList.drop 47 = dktX5_atom_2 := dk_seg dksX5_atom_1 23 rfl rfl
theorem dksX5_atom_3 : cX5_atom.data.toList.drop 69 = dktX5_atom_3 := dk_seg dksX5_atom_2 22 rfl rfl
theorem dksX5_atom_4 : cX5_atom.data.toList.drop 91 = dktX5_atom_4 := dk_seg dksX5_atom_3 22 rfl rfl
theorem dksX5_atom_5 : cX5_atom.data.toList.drop 115 = dktX5_atom_5 := dk_seg dksX5_atom_4 24 rfl rfl
theorem dksX5_atom_6 : cX5_atom.data.toList.drop 139 = dktX5_atom_6 := dk_seg dksX5_atom_5 24 rfl rfl
theorem dX5_atom_0 : decode cX5_atom 0 = .ok (.aload_n 0, 1) := dk_42 (dk_at dksX5_atom_0 0 rfl rfl)
theorem dX5_atom_1 : decode cX5_atom 1 = .ok (.invokevirtual 153, 3) := dk_182 0 153 (dk_at dksX5_atom_0 1 rfl rfl)
theorem dX5_atom_4 : decode cX5_atom 4 = .ok (.istore_n 1, 1) := dk_60 (dk_at dksX5_atom_0 4 rfl rfl)
theorem dX5_atom_5 : decode cX5_atom 5 = .ok (.ldc 32, 2) := dk_18 32 (dk_at dksX5_atom_0 5 rfl rfl)
theorem dX5_atom_7 : decode cX5_atom 7 = .ok (.iload_n 1, 1) := dk_27 (dk_at dksX5_atom_0 7 rfl rfl)
theorem dX5_atom_8 : decode cX5_atom 8 = .ok (.invokestatic 169, 3) := dk_184 0 169 (dk_at dksX5_atom_0 8 rfl rfl)
theorem dX5_atom_11 : decode cX5_atom 11 = .ok (.ifCond .eq 20, 3) := dk_153 0 20 (dk_at dksX5_atom_0 11 rfl rfl)
theorem dX5_atom_14 : decode cX5_atom 14 = .ok (.aload_n 0, 1) := dk_42 (dk_at dksX5_atom_0 14 rfl rfl)
theorem dX5_atom_15 : decode cX5_atom 15 = .ok (.dup, 1) := dk_89 (dk_at dksX5_atom_0 15 rfl rfl)
theorem dX5_atom_16 : decode cX5_atom 16 = .ok (.getfield 134, 3) := dk_180 0 134 (dk_at dksX5_atom_0 16 rfl rfl)
theorem dX5_atom_19 : decode cX5_atom 19 = .ok (.iconst 1, 1) := dk_4 (dk_at dksX5_atom_0 19 rfl rfl)
theorem dX5_atom_20 : decode cX5_atom 20 = .ok (.iadd, 1) := dk_96 (dk_at dksX5_atom_0 20 rfl rfl)
theorem dX5_atom_21 : decode cX5_atom 21 = .ok (.putfield 134, 3) := dk_181 0 134 (dk_at dksX5_atom_0 21 rfl rfl)
theorem dX5_atom_24 : decode cX5_atom 24 = .ok (.aload_n 0, 1) := dk_42 (dk_at dksX5_atom_1 0 rfl rfl)
theorem dX5_atom_25 : decode cX5_atom 25 = .ok (.getfield 20, 3) := dk_180 0 20 (dk_at dksX5_atom_1 1 rfl rfl)
theorem dX5_atom_28 : decode cX5_atom 28 = .ok (.iload_n 1, 1) := dk_27 (dk_at dksX5_atom_1 4 rfl rfl)
theorem dX5_atom_29 : decode cX5_atom 29 = .ok (.iaload, 1) := dk_46 (dk_at dksX5_atom_1 5 rfl rfl)
theorem dX5_atom_30 : decode cX5_atom 30 = .ok (.ireturn, 1) := dk_172 (dk_at dksX5_atom_1 6 rfl rfl)
theorem dX5_atom_31 : decode cX5_atom 31 = .ok (.iload_n 1, 1) := dk_27 (dk_at dksX5_atom_1 7 rfl rfl)
theorem dX5_atom_32 : decode cX5_atom 32 = .ok (.bipush 91, 2) := dk_16 91 (dk_at dksX5_atom_1 8 rfl rfl)
theorem dX5_atom_34 : decode cX5_atom 34 = .ok (.if_icmp .ne 40, 3) := dk_160 0 40 (dk_at dksX5_atom_1 10 rfl rfl)
theorem dX5_atom_37 : decode cX5_atom 37 = .ok (.aload_n 0, 1) := dk_42 (dk_at dksX5_atom_1 13 rfl rfl)
theorem dX5_atom_38 : decode cX5_atom 38 = .ok (.invokevirtual 173, 3) := dk_182 0 173 (dk_at dksX5_atom_1 14 rfl rfl)
theorem dX5_atom_41 : decode cX5_atom 41 = .ok (.ifCond .ne 5, 3) := dk_154 0 5 (dk_at dksX5_atom_1 17 rfl rfl)
theorem dX5_atom_44 : decode cX5_atom 44 = .ok (.iconst 0, 1) := dk_3 (dk_at dksX5_atom_1 20 rfl rfl)
theorem dX5_atom_45 : decode cX5_atom 45 = .ok (.ireturn, 1) := dk_172 (dk_at dksX5_atom_1 21 rfl rfl)
theorem dX5_atom_46 : decode cX5_atom 46 = .ok (.aload_n 0, 1) := dk_42 (dk_at dksX5_atom_1 22 rfl rfl)
theorem dX5_atom_47 : decode cX5_atom 47 = .ok (.invokevirtual 176, 3) := dk_182 0 176 (dk_at dksX5_atom_2 0 rfl rfl)
theorem dX5_atom_50 : decode cX5_atom 50 = .ok (.istore_n 2, 1) := dk_61 (dk_at dksX5_atom_2 3 rfl rfl)
theorem dX5_atom_51 : decode cX5_atom 51 = .ok (.aload_n 0, 1) := dk_42 (dk_at dksX5_atom_2 4 rfl rfl)
theorem dX5_atom_52 : decode cX5_atom 52 = .ok (.bipush 93, 2) := dk_16 93 (dk_at dksX5_atom_2 5 rfl rfl)
theorem dX5_atom_54 : decode cX5_atom 54 = .ok (.invokevirtual 179, 3) := dk_182 0 179 (dk_at dksX5_atom_2 7 rfl rfl)
theorem dX5_atom_57 : decode cX5_atom 57 = .ok (.ifCond .ne 5, 3) := dk_154 0 5 (dk_at dksX5_atom_2 10 rfl rfl)
theorem dX5_atom_60 : decode cX5_atom 60 = .ok (.iconst 0, 1) := dk_3 (dk_at dksX5_atom_2 13 rfl rfl)
theorem dX5_atom_61 : decode cX5_atom 61 = .ok (.ireturn, 1) := dk_172 (dk_at dksX5_atom_2 14 rfl rfl)
theorem dX5_atom_62 : decode cX5_atom 62 = .ok (.aload_n 0, 1) := dk_42 (dk_at dksX5_atom_2 15 rfl rfl)
theorem dX5_atom_63 : decode cX5_atom 63 = .ok (.dup, 1) := dk_89 (dk_at dksX5_atom_2 16 rfl rfl)
theorem dX5_atom_64 : decode cX5_atom 64 = .ok (.getfield 146, 3) := dk_180 0 146 (dk_at dksX5_atom_2 17 rfl rfl)
theorem dX5_atom_67 : decode cX5_atom 67 = .ok (.iconst 1, 1) := dk_4 (dk_at dksX5_atom_2 20 rfl rfl)
theorem dX5_atom_68 : decode cX5_atom 68 = .ok (.isub, 1) := dk_100 (dk_at dksX5_atom_2 21 rfl rfl)
theorem dX5_atom_69 : decode cX5_atom 69 = .ok (.putfield 146, 3) := dk_181 0 146 (dk_at dksX5_atom_3 0 rfl rfl)
theorem dX5_atom_72 : decode cX5_atom 72 = .ok (.iload_n 2, 1) := dk_28 (dk_at dksX5_atom_3 3 rfl rfl)
theorem dX5_atom_73 : decode cX5_atom 73 = .ok (.ireturn, 1) := dk_172 (dk_at dksX5_atom_3 4 rfl rfl)
theorem dX5_atom_74 : decode cX5_atom 74 = .ok (.aload_n 0, 1) := dk_42 (dk_at dksX5_atom_3 5 rfl rfl)
theorem dX5_atom_75 : decode cX5_atom 75 = .ok (.invokevirtual 183, 3) := dk_182 0 183 (dk_at dksX5_atom_3 6 rfl rfl)
theorem dX5_atom_78 : decode cX5_atom 78 = .ok (.ifCond .ne 8, 3) := dk_154 0 8 (dk_at dksX5_atom_3 9 rfl rfl)
theorem dX5_atom_81 : decode cX5_atom 81 = .ok (.aload_n 0, 1) := dk_42 (dk_at dksX5_atom_3 12 rfl rfl)
theorem dX5_atom_82 : decode cX5_atom 82 = .ok (.invokevirtual 149, 3) := dk_182 0 149 (dk_at dksX5_atom_3 13 rfl rfl)
theorem dX5_atom_85 : decode cX5_atom 85 = .ok (.pop, 1) := dk_87 (dk_at dksX5_atom_3 16 rfl rfl)
theorem dX5_atom_86 : decode cX5_atom 86 = .ok (.iconst 0, 1) := dk_3 (dk_at dksX5_atom_3 17 rfl rfl)
theorem dX5_atom_87 : decode cX5_atom 87 = .ok (.istore_n 2, 1) := dk_61 (dk_at dksX5_atom_3 18 rfl rfl)
theorem dX5_atom_88 : decode cX5_atom 88 = .ok (.iconst 0, 1) := dk_3 (dk_at dksX5_atom_3 19 rfl rfl)
theorem dX5_atom_89 : decode cX5_atom 89 = .ok (.istore_n 3, 1) := dk_62 (dk_at dksX5_atom_3 20 rfl rfl)
theorem dX5_atom_90 : decode cX5_atom 90 = .ok (.aload_n 0, 1) := dk_42 (dk_at dksX5_atom_3 21 rfl rfl)
theorem dX5_atom_91 : decode cX5_atom 91 = .ok (.invokevirtual 183, 3) := dk_182 0 183 (dk_at dksX5_atom_4 0 rfl rfl)
theorem dX5_atom_94 : decode cX5_atom 94 = .ok (.ifCond .eq 62, 3) := dk_153 0 62 (dk_at dksX5_atom_4 3 rfl rfl)
theorem dX5_atom_97 : decode cX5_atom 97 = .ok (.aload_n 0, 1) := dk_42 (dk_at dksX5_atom_4 6 rfl rfl)
theorem dX5_atom_98 : decode cX5_atom 98 = .ok (.getfield 143, 3) := dk_180 0 143 (dk_at dksX5_atom_4 7 rfl rfl)
theorem dX5_atom_101 : decode cX5_atom 101 = .ok (.iconst (-1), 1) := dk_2 (dk_at dksX5_atom_4 10 rfl rfl)
theorem dX5_atom_102 : decode cX5_atom 102 = .ok (.if_icmp .ne 54, 3) := dk_160 0 54 (dk_at dksX5_atom_4 11 rfl rfl)
theorem dX5_atom_105 : decode cX5_atom 105 = .ok (.iload_n 3, 1) := dk_29 (dk_at dksX5_atom_4 14 rfl rfl)
theorem dX5_atom_106 : decode cX5_atom 106 = .ok (.iconst 4, 1) := dk_7 (dk_at dksX5_atom_4 15 rfl rfl)
theorem dX5_atom_107 : decode cX5_atom 107 = .ok (.if_icmp .ne 10, 3) := dk_160 0 10 (dk_at dksX5_atom_4 16 rfl rfl)
theorem dX5_atom_110 : decode cX5_atom 110 = .ok (.aload_n 0, 1) := dk_42 (dk_at dksX5_atom_4 19 rfl rfl)
theorem dX5_atom_111 : decode cX5_atom 111 = .ok (.invokevirtual 149, 3) := dk_182 0 149 (dk_at dksX5_atom_4 20 rfl rfl)
theorem dX5_atom_114 : decode cX5_atom 114 = .ok (.pop, 1) := dk_87 (dk_at dksX5_atom_4 23 rfl rfl)
theorem dX5_atom_115 : decode cX5_atom 115 = .ok (.iconst 0, 1) := dk_3 (dk_at dksX5_atom_5 0 rfl rfl)
theorem dX5_atom_116 : decode cX5_atom 116 = .ok (.ireturn, 1) := dk_172 (dk_at dksX5_atom_5 1 rfl rfl)
theorem dX5_atom_117 : decode cX5_atom 117 = .ok (.bipush 10, 2) := dk_16 10 (dk_at dksX5_atom_5 2 rfl rfl)
theorem dX5_atom_119 : decode cX5_atom 119 = .ok (.iload_n 2, 1) := dk_28 (dk_at dksX5_atom_5 4 rfl rfl)
theorem dX5_atom_120 : decode cX5_atom 120 = .ok (.imul, 1) := dk_104 (dk_at dksX5_atom_5 5 rfl rfl)
theorem dX5_atom_121 : decode cX5_atom 121 = .ok (.aload_n 0, 1) := dk_42 (dk_at dksX5_atom_5 6 rfl rfl)
theorem dX5_atom_122 : decode cX5_atom 122 = .ok (.getfield 23, 3) := dk_180 0 23 (dk_at dksX5_atom_5 7 rfl rfl)
theorem dX5_atom_125 : decode cX5_atom 125 = .ok (.aload_n 0, 1) := dk_42 (dk_at dksX5_atom_5 10 rfl rfl)
theorem dX5_atom_126 : decode cX5_atom 126 = .ok (.getfield 140, 3) := dk_180 0 140 (dk_at dksX5_atom_5 11 rfl rfl)
theorem dX5_atom_129 : decode cX5_atom 129 = .ok (.aload_n 0, 1) := dk_42 (dk_at dksX5_atom_5 14 rfl rfl)
theorem dX5_atom_130 : decode cX5_atom 130 = .ok (.getfield 134, 3) := dk_180 0 134 (dk_at dksX5_atom_5 15 rfl rfl)
theorem dX5_atom_133 : decode cX5_atom 133 = .ok (.iadd, 1) := dk_96 (dk_at dksX5_atom_5 18 rfl rfl)
theorem dX5_atom_134 : decode cX5_atom 134 = .ok (.baload, 1) := dk_51 (dk_at dksX5_atom_5 19 rfl rfl)
theorem dX5_atom_135 : decode cX5_atom 135 = .ok (.iadd, 1) := dk_96 (dk_at dksX5_atom_5 20 rfl rfl)
theorem dX5_atom_136 : decode cX5_atom 136 = .ok (.bipush 48, 2) := dk_16 48 (dk_at dksX5_atom_5 21 rfl rfl)
theorem dX5_atom_138 : decode cX5_atom 138 = .ok (.isub, 1) := dk_100 (dk_at dksX5_atom_5 23 rfl rfl)
theorem dX5_atom_139 : decode cX5_atom 139 = .ok (.istore_n 2, 1) := dk_61 (dk_at dksX5_atom_6 0 rfl rfl)
theorem dX5_atom_140 : decode cX5_atom 140 = .ok (.aload_n 0, 1) := dk_42 (dk_at dksX5_atom_6 1 rfl rfl)
theorem dX5_atom_141 : decode cX5_atom 141 = .ok (.dup, 1) := dk_89 (dk_at dksX5_atom_6 2 rfl rfl)
theorem dX5_atom_142 : decode cX5_atom 142 = .ok (.getfield 134, 3) := dk_180 0 134 (dk_at dksX5_atom_6 3 rfl rfl)
theorem dX5_atom_145 : decode cX5_atom 145 = .ok (.iconst 1, 1) := dk_4 (dk_at dksX5_atom_6 6 rfl rfl)
theorem dX5_atom_146 : decode cX5_atom 146 = .ok (.iadd, 1) := dk_96 (dk_at dksX5_atom_6 7 rfl rfl)
theorem dX5_atom_147 : decode cX5_atom 147 = .ok (.putfield 134, 3) := dk_181 0 134 (dk_at dksX5_atom_6 8 rfl rfl)
theorem dX5_atom_150 : decode cX5_atom 150 = .ok (.iinc 3 1, 3) := dk_132 3 1 (dk_at dksX5_atom_6 11 rfl rfl)
theorem dX5_atom_153 : decode cX5_atom 153 = .ok (.goto (-63), 3) := dk_167 255 193 (dk_at dksX5_atom_6 14 rfl rfl)
theorem dX5_atom_156 : decode cX5_atom 156 = .ok (.iload_n 2, 1) := dk_28 (dk_at dksX5_atom_6 17 rfl rfl)
theorem dX5_atom_157 : decode cX5_atom 157 = .ok (.ireturn, 1) := dk_172 (dk_at dksX5_atom_6 18 rfl rfl)
abbrev cX5_goesIn : ByteArray := prog_16_method_11_code
def yX5_goesIn : MethodName := ⟨RX5, "goesIn", "()Z"⟩
def dkwX5_goesIn_1 : List UInt8 := [42, 89, 180, 0, 134, 4, 96, 181, 0, 134, 4, 172]
abbrev dktX5_goesIn_1 : List UInt8 := dkwX5_goesIn_1 ++ []
def dkwX5_goesIn_0 : List UInt8 := [42, 180, 0, 146, 16, 6, 160, 0, 8, 42, 182, 0, 149, 172, 42, 89, 180, 0, 146, 4, 96, 181, 0, 146]
abbrev dktX5_goesIn_0 : List UInt8 := dkwX5_goesIn_0 ++ dktX5_goesIn_1
theorem dksX5_goesIn_0 : cX5_goesIn.data.toList.drop 0 = dktX5_goesIn_0 := by decide +kernel
theorem dksX5_goesIn_1 : cX5_goesIn.data.toList.drop 24 = dktX5_goesIn_1 := dk_seg dksX5_goesIn_0 24 rfl rfl
theorem dX5_goesIn_0 : decode cX5_goesIn 0 = .ok (.aload_n 0, 1) := dk_42 (dk_at dksX5_goesIn_0 0 rfl rfl)
theorem dX5_goesIn_1 : decode cX5_goesIn 1 = .ok (.getfield 146, 3) := dk_180 0 146 (dk_at dksX5_goesIn_0 1 rfl rfl)
theorem dX5_goesIn_4 : decode cX5_goesIn 4 = .ok (.bipush 6, 2) := dk_16 6 (dk_at dksX5_goesIn_0 4 rfl rfl)
theorem dX5_goesIn_6 : decode cX5_goesIn 6 = .ok (.if_icmp .ne 8, 3) := dk_160 0 8 (dk_at dksX5_goesIn_0 6 rfl rfl)
theorem dX5_goesIn_9 : decode cX5_goesIn 9 = .ok (.aload_n 0, 1) := dk_42 (dk_at dksX5_goesIn_0 9 rfl rfl)
theorem dX5_goesIn_10 : decode cX5_goesIn 10 = .ok (.invokevirtual 149, 3) := dk_182 0 149 (dk_at dksX5_goesIn_0 10 rfl rfl)
theorem dX5_goesIn_13 : decode cX5_goesIn 13 = .ok (.ireturn, 1) := dk_172 (dk_at dksX5_goesIn_0 13 rfl rfl)
theorem dX5_goesIn_14 : decode cX5_goesIn 14 = .ok (.aload_n 0, 1) := dk_42 (dk_at dksX5_goesIn_0 14 rfl rfl)
theorem dX5_goesIn_15 : decode cX5_goesIn 15 = .ok (.dup, 1) := dk_89 (dk_at dksX5_goesIn_0 15 rfl rfl)
theorem dX5_goesIn_16 : decode cX5_goesIn 16 = .ok (.getfield 146, 3) := dk_180 0 146 (dk_at dksX5_goesIn_0 16 rfl rfl)
theorem dX5_goesIn_19 : decode cX5_goesIn 19 = .ok (.iconst 1, 1) := dk_4 (dk_at dksX5_goesIn_0 19 rfl rfl)
theorem dX5_goesIn_20 : decode cX5_goesIn 20 = .ok (.iadd, 1) := dk_96 (dk_at dksX5_goesIn_0 20 rfl rfl)
theorem dX5_goesIn_21 : decode cX5_goesIn 21 = .ok (.putfield 146, 3) := dk_181 0 146 (dk_at dksX5_goesIn_0 21 rfl rfl)
theorem dX5_goesIn_24 : decode cX5_goesIn 24 = .ok (.aload_n 0, 1) := dk_42 (dk_at dksX5_goesIn_1 0 rfl rfl)
theorem dX5_goesIn_25 : decode cX5_goesIn 25 = .ok (.dup, 1) := dk_89 (dk_at dksX5_goesIn_1 1 rfl rfl)
theorem dX5_goesIn_26 : decode cX5_goesIn 26 = .ok (.getfield 134, 3) := dk_180 0 134 (dk_at dksX5_goesIn_1 2 rfl rfl)
theorem dX5_goesIn_29 : decode cX5_goesIn 29 = .ok (.iconst 1, 1) := dk_4 (dk_at dksX5_goesIn_1 5 rfl rfl)
theorem dX5_goesIn_30 : decode cX5_goesIn 30 = .ok (.iadd, 1) := dk_96 (dk_at dksX5_goesIn_1 6 rfl rfl)
theorem dX5_goesIn_31 : decode cX5_goesIn 31 = .ok (.putfield 134, 3) := dk_181 0 134 (dk_at dksX5_goesIn_1 7 rfl rfl)
theorem dX5_goesIn_34 : decode cX5_goesIn 34 = .ok (.iconst 1, 1) := dk_4 (dk_at dksX5_goesIn_1 10 rfl rfl)
theorem dX5_goesIn_35 : decode cX5_goesIn 35 = .ok (.ireturn, 1) := dk_172 (dk_at dksX5_goesIn_1 11 rfl rfl)
abbrev cX5_isDigit : ByteArray := prog_16_method_13_code
def yX5_isDigit : MethodName := ⟨RX5, "isDigit", "()Z"⟩
def dkwX5_isDigit_2 : List UInt8 := [163, 0, 7, 4, 167, 0, 4, 3, 172]
abbrev dktX5_isDigit_2 : List UInt8 := dkwX5_isDigit_2 ++ []
def dkwX5_isDigit_1 : List UInt8 := [51, 16, 48, 161, 0, 26, 42, 180, 0, 23, 42, 180, 0, 140, 42, 180, 0, 134, 96, 51, 16, 57]
abbrev dktX5_isDigit_1 : List UInt8 := dkwX5_isDigit_1 ++ dktX5_isDigit_2
def dkwX5_isDigit_0 : List UInt8 := [42, 180, 0, 134, 42, 180, 0, 137, 162, 0, 45, 42, 180, 0, 23, 42, 180, 0, 140, 42, 180, 0, 134, 96]
abbrev dktX5_isDigit_0 : List UInt8 := dkwX5_isDigit_0 ++ dktX5_isDigit_1
theorem dksX5_isDigit_0 : cX5_isDigit.data.toList.drop 0 = dktX5_isDigit_0 := by decide +kernel
theorem dksX5_isDigit_1 : cX5_isDigit.data.toList.drop 24 = dktX5_isDigit_1 := dk_seg dksX5_isDigit_0 24 rfl rfl
theorem dksX5_isDigit_2 : cX5_isDigit.data.toList.drop 46 = dktX5_isDigit_2 := dk_seg dksX5_isDigit_1 22 rfl rfl
theorem dX5_isDigit_0 : decode cX5_isDigit 0 = .ok (.aload_n 0, 1) := dk_42 (dk_at dksX5_isDigit_0 0 rfl rfl)
theorem dX5_isDigit_1 : decode cX5_isDigit 1 = .ok (.getfield 134, 3) := dk_180 0 134 (dk_at dksX5_isDigit_0 1 rfl rfl)
theorem dX5_isDigit_4 : decode cX5_isDigit 4 = .ok (.aload_n 0, 1) := dk_42 (dk_at dksX5_isDigit_0 4 rfl rfl)
theorem dX5_isDigit_5 : decode cX5_isDigit 5 = .ok (.getfield 137, 3) := dk_180 0 137 (dk_at dksX5_isDigit_0 5 rfl rfl)
theorem dX5_isDigit_8 : decode cX5_isDigit 8 = .ok (.if_icmp .ge 45, 3) := dk_162 0 45 (dk_at dksX5_isDigit_0 8 rfl rfl)
theorem dX5_isDigit_11 : decode cX5_isDigit 11 = .ok (.aload_n 0, 1) := dk_42 (dk_at dksX5_isDigit_0 11 rfl rfl)
theorem dX5_isDigit_12 : decode cX5_isDigit 12 = .ok (.getfield 23, 3) := dk_180 0 23 (dk_at dksX5_isDigit_0 12 rfl rfl)
theorem dX5_isDigit_15 : decode cX5_isDigit 15 = .ok (.aload_n 0, 1) := dk_42 (dk_at dksX5_isDigit_0 15 rfl rfl)
theorem dX5_isDigit_16 : decode cX5_isDigit 16 = .ok (.getfield 140, 3) := dk_180 0 140 (dk_at dksX5_isDigit_0 16 rfl rfl)
theorem dX5_isDigit_19 : decode cX5_isDigit 19 = .ok (.aload_n 0, 1) := dk_42 (dk_at dksX5_isDigit_0 19 rfl rfl)
theorem dX5_isDigit_20 : decode cX5_isDigit 20 = .ok (.getfield 134, 3) := dk_180 0 134 (dk_at dksX5_isDigit_0 20 rfl rfl)
theorem dX5_isDigit_23 : decode cX5_isDigit 23 = .ok (.iadd, 1) := dk_96 (dk_at dksX5_isDigit_0 23 rfl rfl)
theorem dX5_isDigit_24 : decode cX5_isDigit 24 = .ok (.baload, 1) := dk_51 (dk_at dksX5_isDigit_1 0 rfl rfl)
theorem dX5_isDigit_25 : decode cX5_isDigit 25 = .ok (.bipush 48, 2) := dk_16 48 (dk_at dksX5_isDigit_1 1 rfl rfl)
theorem dX5_isDigit_27 : decode cX5_isDigit 27 = .ok (.if_icmp .lt 26, 3) := dk_161 0 26 (dk_at dksX5_isDigit_1 3 rfl rfl)
theorem dX5_isDigit_30 : decode cX5_isDigit 30 = .ok (.aload_n 0, 1) := dk_42 (dk_at dksX5_isDigit_1 6 rfl rfl)
theorem dX5_isDigit_31 : decode cX5_isDigit 31 = .ok (.getfield 23, 3) := dk_180 0 23 (dk_at dksX5_isDigit_1 7 rfl rfl)
theorem dX5_isDigit_34 : decode cX5_isDigit 34 = .ok (.aload_n 0, 1) := dk_42 (dk_at dksX5_isDigit_1 10 rfl rfl)
theorem dX5_isDigit_35 : decode cX5_isDigit 35 = .ok (.getfield 140, 3) := dk_180 0 140 (dk_at dksX5_isDigit_1 11 rfl rfl)
theorem dX5_isDigit_38 : decode cX5_isDigit 38 = .ok (.aload_n 0, 1) := dk_42 (dk_at dksX5_isDigit_1 14 rfl rfl)
theorem dX5_isDigit_39 : decode cX5_isDigit 39 = .ok (.getfield 134, 3) := dk_180 0 134 (dk_at dksX5_isDigit_1 15 rfl rfl)
theorem dX5_isDigit_42 : decode cX5_isDigit 42 = .ok (.iadd, 1) := dk_96 (dk_at dksX5_isDigit_1 18 rfl rfl)
theorem dX5_isDigit_43 : decode cX5_isDigit 43 = .ok (.baload, 1) := dk_51 (dk_at dksX5_isDigit_1 19 rfl rfl)
theorem dX5_isDigit_44 : decode cX5_isDigit 44 = .ok (.bipush 57, 2) := dk_16 57 (dk_at dksX5_isDigit_1 20 rfl rfl)
theorem dX5_isDigit_46 : decode cX5_isDigit 46 = .ok (.if_icmp .gt 7, 3) := dk_163 0 7 (dk_at dksX5_isDigit_2 0 rfl rfl)
theorem dX5_isDigit_49 : decode cX5_isDigit 49 = .ok (.iconst 1, 1) := dk_4 (dk_at dksX5_isDigit_2 3 rfl rfl)
theorem dX5_isDigit_50 : decode cX5_isDigit 50 = .ok (.goto 4, 3) := dk_167 0 4 (dk_at dksX5_isDigit_2 4 rfl rfl)
theorem dX5_isDigit_53 : decode cX5_isDigit 53 = .ok (.iconst 0, 1) := dk_3 (dk_at dksX5_isDigit_2 7 rfl rfl)
theorem dX5_isDigit_54 : decode cX5_isDigit 54 = .ok (.ireturn, 1) := dk_172 (dk_at dksX5_isDigit_2 8 rfl rfl)
abbrev cX5_within : ByteArray := prog_16_method_14_code
def yX5_within : MethodName := ⟨RX5, "within", "(J)I"⟩
def dkwX5_within_0 : List UInt8 := [20, 0, 156, 20, 0, 158, 30, 184, 0, 160, 184, 0, 166, 136, 172]
abbrev dktX5_within_0 : List UInt8 := dkwX5_within_0 ++ []
theorem dksX5_within_0 : cX5_within.data.toList.drop 0 = dktX5_within_0 := by decide +kernel
theorem dX5_within_0 : decode cX5_within 0 = .ok (.ldc2_w 156, 3) := dk_20 0 156 (dk_at dksX5_within_0 0 rfl rfl)
theorem dX5_within_3 : decode cX5_within 3 = .ok (.ldc2_w 158, 3) := dk_20 0 158 (dk_at dksX5_within_0 3 rfl rfl)
theorem dX5_within_6 : decode cX5_within 6 = .ok (.lload_n 0, 1) := dk_30 (dk_at dksX5_within_0 6 rfl rfl)
theorem dX5_within_7 : decode cX5_within 7 = .ok (.invokestatic 160, 3) := dk_184 0 160 (dk_at dksX5_within_0 7 rfl rfl)
theorem dX5_within_10 : decode cX5_within 10 = .ok (.invokestatic 166, 3) := dk_184 0 166 (dk_at dksX5_within_0 10 rfl rfl)
theorem dX5_within_13 : decode cX5_within 13 = .ok (.l2i, 1) := dk_136 (dk_at dksX5_within_0 13 rfl rfl)
theorem dX5_within_14 : decode cX5_within 14 = .ok (.ireturn, 1) := dk_172 (dk_at dksX5_within_0 14 rfl rfl)
abbrev cX5_isSign : ByteArray := prog_16_method_18_code
def yX5_isSign : MethodName := ⟨RX5, "isSign", "(I)Z"⟩
def dkwX5_isSign_0 : List UInt8 := [26, 16, 61, 159, 0, 15, 26, 16, 60, 159, 0, 9, 26, 16, 62, 160, 0, 7, 4, 167, 0, 4, 3, 172]
abbrev dktX5_isSign_0 : List UInt8 := dkwX5_isSign_0 ++ []
theorem dksX5_isSign_0 : cX5_isSign.data.toList.drop 0 = dktX5_isSign_0 := by decide +kernel
theorem dX5_isSign_0 : decode cX5_isSign 0 = .ok (.iload_n 0, 1) := dk_26 (dk_at dksX5_isSign_0 0 rfl rfl)
theorem dX5_isSign_1 : decode cX5_isSign 1 = .ok (.bipush 61, 2) := dk_16 61 (dk_at dksX5_isSign_0 1 rfl rfl)
theorem dX5_isSign_3 : decode cX5_isSign 3 = .ok (.if_icmp .eq 15, 3) := dk_159 0 15 (dk_at dksX5_isSign_0 3 rfl rfl)
theorem dX5_isSign_6 : decode cX5_isSign 6 = .ok (.iload_n 0, 1) := dk_26 (dk_at dksX5_isSign_0 6 rfl rfl)
theorem dX5_isSign_7 : decode cX5_isSign 7 = .ok (.bipush 60, 2) := dk_16 60 (dk_at dksX5_isSign_0 7 rfl rfl)
theorem dX5_isSign_9 : decode cX5_isSign 9 = .ok (.if_icmp .eq 9, 3) := dk_159 0 9 (dk_at dksX5_isSign_0 9 rfl rfl)
theorem dX5_isSign_12 : decode cX5_isSign 12 = .ok (.iload_n 0, 1) := dk_26 (dk_at dksX5_isSign_0 12 rfl rfl)
theorem dX5_isSign_13 : decode cX5_isSign 13 = .ok (.bipush 62, 2) := dk_16 62 (dk_at dksX5_isSign_0 13 rfl rfl)
theorem dX5_isSign_15 : decode cX5_isSign 15 = .ok (.if_icmp .ne 7, 3) := dk_160 0 7 (dk_at dksX5_isSign_0 15 rfl rfl)
theorem dX5_isSign_18 : decode cX5_isSign 18 = .ok (.iconst 1, 1) := dk_4 (dk_at dksX5_isSign_0 18 rfl rfl)
theorem dX5_isSign_19 : decode cX5_isSign 19 = .ok (.goto 4, 3) := dk_167 0 4 (dk_at dksX5_isSign_0 19 rfl rfl)
theorem dX5_isSign_22 : decode cX5_isSign 22 = .ok (.iconst 0, 1) := dk_3 (dk_at dksX5_isSign_0 22 rfl rfl)
theorem dX5_isSign_23 : decode cX5_isSign 23 = .ok (.ireturn, 1) := dk_172 (dk_at dksX5_isSign_0 23 rfl rfl)
abbrev cX5_unit : ByteArray := prog_16_method_20_code
def yX5_unit : MethodName := ⟨RX5, "unit", "()Z"⟩
def dkwX5_unit_4 : List UInt8 := [182, 0, 206, 172]
abbrev dktX5_unit_4 : List UInt8 := dkwX5_unit_4 ++ []
def dkwX5_unit_3 : List UInt8 := [182, 0, 179, 154, 0, 5, 3, 172, 42, 89, 180, 0, 146, 4, 100, 181, 0, 146, 28, 172, 42, 3, 3]
abbrev dktX5_unit_3 : List UInt8 := dkwX5_unit_3 ++ dktX5_unit_4
def dkwX5_unit_2 : List UInt8 := [160, 0, 42, 42, 182, 0, 173, 154, 0, 5, 3, 172, 42, 3, 3, 182, 0, 202, 61, 42, 16, 41]
abbrev dktX5_unit_2 : List UInt8 := dkwX5_unit_2 ++ dktX5_unit_3
def dkwX5_unit_1 : List UInt8 := [61, 42, 89, 180, 0, 146, 4, 100, 181, 0, 146, 28, 154, 0, 7, 4, 167, 0, 4, 3, 172, 27, 16, 40]
abbrev dktX5_unit_1 : List UInt8 := dkwX5_unit_1 ++ dktX5_unit_2
def dkwX5_unit_0 : List UInt8 := [42, 182, 0, 153, 60, 27, 16, 33, 160, 0, 37, 42, 182, 0, 173, 154, 0, 5, 3, 172, 42, 182, 0, 199]
abbrev dktX5_unit_0 : List UInt8 := dkwX5_unit_0 ++ dktX5_unit_1
theorem dksX5_unit_0 : cX5_unit.data.toList.drop 0 = dktX5_unit_0 := by decide +kernel
theorem dksX5_unit_1 : cX5_unit.data.toList.drop 24 = dktX5_unit_1 := dk_seg dksX5_unit_0 24 rfl rfl
theorem dksX5_unit_2 : cX5_unit.data.toList.drop 48 = dktX5_unit_2 := dk_seg dksX5_unit_1 24 rfl rfl
theorem dksX5_unit_3 : cX5_unit.data.toList.drop 70 = dktX5_unit_3 := dk_seg dksX5_unit_2 22 rfl rfl
theorem dksX5_unit_4 : cX5_unit.data.toList.drop 93 = dktX5_unit_4 := dk_seg dksX5_unit_3 23 rfl rfl
theorem dX5_unit_0 : decode cX5_unit 0 = .ok (.aload_n 0, 1) := dk_42 (dk_at dksX5_unit_0 0 rfl rfl)
theorem dX5_unit_1 : decode cX5_unit 1 = .ok (.invokevirtual 153, 3) := dk_182 0 153 (dk_at dksX5_unit_0 1 rfl rfl)
theorem dX5_unit_4 : decode cX5_unit 4 = .ok (.istore_n 1, 1) := dk_60 (dk_at dksX5_unit_0 4 rfl rfl)
theorem dX5_unit_5 : decode cX5_unit 5 = .ok (.iload_n 1, 1) := dk_27 (dk_at dksX5_unit_0 5 rfl rfl)
theorem dX5_unit_6 : decode cX5_unit 6 = .ok (.bipush 33, 2) := dk_16 33 (dk_at dksX5_unit_0 6 rfl rfl)
theorem dX5_unit_8 : decode cX5_unit 8 = .ok (.if_icmp .ne 37, 3) := dk_160 0 37 (dk_at dksX5_unit_0 8 rfl rfl)
theorem dX5_unit_11 : decode cX5_unit 11 = .ok (.aload_n 0, 1) := dk_42 (dk_at dksX5_unit_0 11 rfl rfl)
theorem dX5_unit_12 : decode cX5_unit 12 = .ok (.invokevirtual 173, 3) := dk_182 0 173 (dk_at dksX5_unit_0 12 rfl rfl)
theorem dX5_unit_15 : decode cX5_unit 15 = .ok (.ifCond .ne 5, 3) := dk_154 0 5 (dk_at dksX5_unit_0 15 rfl rfl)
theorem dX5_unit_18 : decode cX5_unit 18 = .ok (.iconst 0, 1) := dk_3 (dk_at dksX5_unit_0 18 rfl rfl)
theorem dX5_unit_19 : decode cX5_unit 19 = .ok (.ireturn, 1) := dk_172 (dk_at dksX5_unit_0 19 rfl rfl)
theorem dX5_unit_20 : decode cX5_unit 20 = .ok (.aload_n 0, 1) := dk_42 (dk_at dksX5_unit_0 20 rfl rfl)
theorem dX5_unit_21 : decode cX5_unit 21 = .ok (.invokevirtual 199, 3) := dk_182 0 199 (dk_at dksX5_unit_0 21 rfl rfl)
theorem dX5_unit_24 : decode cX5_unit 24 = .ok (.istore_n 2, 1) := dk_61 (dk_at dksX5_unit_1 0 rfl rfl)
theorem dX5_unit_25 : decode cX5_unit 25 = .ok (.aload_n 0, 1) := dk_42 (dk_at dksX5_unit_1 1 rfl rfl)
theorem dX5_unit_26 : decode cX5_unit 26 = .ok (.dup, 1) := dk_89 (dk_at dksX5_unit_1 2 rfl rfl)
theorem dX5_unit_27 : decode cX5_unit 27 = .ok (.getfield 146, 3) := dk_180 0 146 (dk_at dksX5_unit_1 3 rfl rfl)
theorem dX5_unit_30 : decode cX5_unit 30 = .ok (.iconst 1, 1) := dk_4 (dk_at dksX5_unit_1 6 rfl rfl)
theorem dX5_unit_31 : decode cX5_unit 31 = .ok (.isub, 1) := dk_100 (dk_at dksX5_unit_1 7 rfl rfl)
theorem dX5_unit_32 : decode cX5_unit 32 = .ok (.putfield 146, 3) := dk_181 0 146 (dk_at dksX5_unit_1 8 rfl rfl)
theorem dX5_unit_35 : decode cX5_unit 35 = .ok (.iload_n 2, 1) := dk_28 (dk_at dksX5_unit_1 11 rfl rfl)
theorem dX5_unit_36 : decode cX5_unit 36 = .ok (.ifCond .ne 7, 3) := dk_154 0 7 (dk_at dksX5_unit_1 12 rfl rfl)
theorem dX5_unit_39 : decode cX5_unit 39 = .ok (.iconst 1, 1) := dk_4 (dk_at dksX5_unit_1 15 rfl rfl)
theorem dX5_unit_40 : decode cX5_unit 40 = .ok (.goto 4, 3) := dk_167 0 4 (dk_at dksX5_unit_1 16 rfl rfl)
theorem dX5_unit_43 : decode cX5_unit 43 = .ok (.iconst 0, 1) := dk_3 (dk_at dksX5_unit_1 19 rfl rfl)
theorem dX5_unit_44 : decode cX5_unit 44 = .ok (.ireturn, 1) := dk_172 (dk_at dksX5_unit_1 20 rfl rfl)
theorem dX5_unit_45 : decode cX5_unit 45 = .ok (.iload_n 1, 1) := dk_27 (dk_at dksX5_unit_1 21 rfl rfl)
theorem dX5_unit_46 : decode cX5_unit 46 = .ok (.bipush 40, 2) := dk_16 40 (dk_at dksX5_unit_1 22 rfl rfl)
theorem dX5_unit_48 : decode cX5_unit 48 = .ok (.if_icmp .ne 42, 3) := dk_160 0 42 (dk_at dksX5_unit_2 0 rfl rfl)
theorem dX5_unit_51 : decode cX5_unit 51 = .ok (.aload_n 0, 1) := dk_42 (dk_at dksX5_unit_2 3 rfl rfl)
theorem dX5_unit_52 : decode cX5_unit 52 = .ok (.invokevirtual 173, 3) := dk_182 0 173 (dk_at dksX5_unit_2 4 rfl rfl)
theorem dX5_unit_55 : decode cX5_unit 55 = .ok (.ifCond .ne 5, 3) := dk_154 0 5 (dk_at dksX5_unit_2 7 rfl rfl)
theorem dX5_unit_58 : decode cX5_unit 58 = .ok (.iconst 0, 1) := dk_3 (dk_at dksX5_unit_2 10 rfl rfl)
theorem dX5_unit_59 : decode cX5_unit 59 = .ok (.ireturn, 1) := dk_172 (dk_at dksX5_unit_2 11 rfl rfl)
theorem dX5_unit_60 : decode cX5_unit 60 = .ok (.aload_n 0, 1) := dk_42 (dk_at dksX5_unit_2 12 rfl rfl)
theorem dX5_unit_61 : decode cX5_unit 61 = .ok (.iconst 0, 1) := dk_3 (dk_at dksX5_unit_2 13 rfl rfl)
theorem dX5_unit_62 : decode cX5_unit 62 = .ok (.iconst 0, 1) := dk_3 (dk_at dksX5_unit_2 14 rfl rfl)
theorem dX5_unit_63 : decode cX5_unit 63 = .ok (.invokevirtual 202, 3) := dk_182 0 202 (dk_at dksX5_unit_2 15 rfl rfl)
theorem dX5_unit_66 : decode cX5_unit 66 = .ok (.istore_n 2, 1) := dk_61 (dk_at dksX5_unit_2 18 rfl rfl)
theorem dX5_unit_67 : decode cX5_unit 67 = .ok (.aload_n 0, 1) := dk_42 (dk_at dksX5_unit_2 19 rfl rfl)
theorem dX5_unit_68 : decode cX5_unit 68 = .ok (.bipush 41, 2) := dk_16 41 (dk_at dksX5_unit_2 20 rfl rfl)
theorem dX5_unit_70 : decode cX5_unit 70 = .ok (.invokevirtual 179, 3) := dk_182 0 179 (dk_at dksX5_unit_3 0 rfl rfl)
theorem dX5_unit_73 : decode cX5_unit 73 = .ok (.ifCond .ne 5, 3) := dk_154 0 5 (dk_at dksX5_unit_3 3 rfl rfl)
theorem dX5_unit_76 : decode cX5_unit 76 = .ok (.iconst 0, 1) := dk_3 (dk_at dksX5_unit_3 6 rfl rfl)
theorem dX5_unit_77 : decode cX5_unit 77 = .ok (.ireturn, 1) := dk_172 (dk_at dksX5_unit_3 7 rfl rfl)
theorem dX5_unit_78 : decode cX5_unit 78 = .ok (.aload_n 0, 1) := dk_42 (dk_at dksX5_unit_3 8 rfl rfl)
theorem dX5_unit_79 : decode cX5_unit 79 = .ok (.dup, 1) := dk_89 (dk_at dksX5_unit_3 9 rfl rfl)
theorem dX5_unit_80 : decode cX5_unit 80 = .ok (.getfield 146, 3) := dk_180 0 146 (dk_at dksX5_unit_3 10 rfl rfl)
theorem dX5_unit_83 : decode cX5_unit 83 = .ok (.iconst 1, 1) := dk_4 (dk_at dksX5_unit_3 13 rfl rfl)
theorem dX5_unit_84 : decode cX5_unit 84 = .ok (.isub, 1) := dk_100 (dk_at dksX5_unit_3 14 rfl rfl)
theorem dX5_unit_85 : decode cX5_unit 85 = .ok (.putfield 146, 3) := dk_181 0 146 (dk_at dksX5_unit_3 15 rfl rfl)
theorem dX5_unit_88 : decode cX5_unit 88 = .ok (.iload_n 2, 1) := dk_28 (dk_at dksX5_unit_3 18 rfl rfl)
theorem dX5_unit_89 : decode cX5_unit 89 = .ok (.ireturn, 1) := dk_172 (dk_at dksX5_unit_3 19 rfl rfl)
theorem dX5_unit_90 : decode cX5_unit 90 = .ok (.aload_n 0, 1) := dk_42 (dk_at dksX5_unit_3 20 rfl rfl)
theorem dX5_unit_91 : decode cX5_unit 91 = .ok (.iconst 0, 1) := dk_3 (dk_at dksX5_unit_3 21 rfl rfl)
theorem dX5_unit_92 : decode cX5_unit 92 = .ok (.iconst 0, 1) := dk_3 (dk_at dksX5_unit_3 22 rfl rfl)
theorem dX5_unit_93 : decode cX5_unit 93 = .ok (.invokevirtual 206, 3) := dk_182 0 206 (dk_at dksX5_unit_4 0 rfl rfl)
theorem dX5_unit_96 : decode cX5_unit 96 = .ok (.ireturn, 1) := dk_172 (dk_at dksX5_unit_4 3 rfl rfl)
abbrev cX5_law : ByteArray := prog_16_method_26_code
def yX5_law : MethodName := ⟨RX5, "law", "()I"⟩
def dkwX5_law_4 : List UInt8 := [42, 89, 180, 0, 229, 4, 96, 181, 0, 229, 42, 180, 0, 229, 4, 100, 172]
abbrev dktX5_law_4 : List UInt8 := dkwX5_law_4 ++ []
def dkwX5_law_3 : List UInt8 := [132, 1, 1, 167, 255, 225, 42, 180, 0, 16, 42, 180, 0, 229, 42, 180, 0, 124, 79, 42, 3, 181, 0, 124]
abbrev dktX5_law_3 : List UInt8 := dkwX5_law_3 ++ dktX5_law_4
def dkwX5_law_2 : List UInt8 := [162, 0, 29, 42, 180, 0, 13, 16, 120, 42, 180, 0, 229, 104, 27, 96, 42, 180, 0, 9, 27, 51, 84]
abbrev dktX5_law_2 : List UInt8 := dkwX5_law_2 ++ dktX5_law_3
def dkwX5_law_1 : List UInt8 := [180, 0, 124, 3, 182, 0, 225, 42, 180, 0, 143, 2, 159, 0, 5, 2, 172, 3, 60, 27, 42, 180, 0, 124]
abbrev dktX5_law_1 : List UInt8 := dkwX5_law_1 ++ dktX5_law_2
def dkwX5_law_0 : List UInt8 := [42, 3, 181, 0, 111, 42, 180, 0, 229, 16, 6, 160, 0, 5, 2, 172, 42, 42, 180, 0, 9, 3, 42]
abbrev dktX5_law_0 : List UInt8 := dkwX5_law_0 ++ dktX5_law_1
theorem dksX5_law_0 : cX5_law.data.toList.drop 0 = dktX5_law_0 := by decide +kernel
theorem dksX5_law_1 : cX5_law.data.toList.drop 23 = dktX5_law_1 := dk_seg dksX5_law_0 23 rfl rfl
theorem dksX5_law_2 : cX5_law.data.toList.drop 47 = dktX5_law_2 := dk_seg dksX5_law_1 24 rfl rfl
theorem dksX5_law_3 : cX5_law.data.toList.drop 70 = dktX5_law_3 := dk_seg dksX5_law_2 23 rfl rfl
theorem dksX5_law_4 : cX5_law.data.toList.drop 94 = dktX5_law_4 := dk_seg dksX5_law_3 24 rfl rfl
theorem dX5_law_0 : decode cX5_law 0 = .ok (.aload_n 0, 1) := dk_42 (dk_at dksX5_law_0 0 rfl rfl)
theorem dX5_law_1 : decode cX5_law 1 = .ok (.iconst 0, 1) := dk_3 (dk_at dksX5_law_0 1 rfl rfl)
theorem dX5_law_2 : decode cX5_law 2 = .ok (.putfield 111, 3) := dk_181 0 111 (dk_at dksX5_law_0 2 rfl rfl)
theorem dX5_law_5 : decode cX5_law 5 = .ok (.aload_n 0, 1) := dk_42 (dk_at dksX5_law_0 5 rfl rfl)
theorem dX5_law_6 : decode cX5_law 6 = .ok (.getfield 229, 3) := dk_180 0 229 (dk_at dksX5_law_0 6 rfl rfl)
theorem dX5_law_9 : decode cX5_law 9 = .ok (.bipush 6, 2) := dk_16 6 (dk_at dksX5_law_0 9 rfl rfl)
theorem dX5_law_11 : decode cX5_law 11 = .ok (.if_icmp .ne 5, 3) := dk_160 0 5 (dk_at dksX5_law_0 11 rfl rfl)
theorem dX5_law_14 : decode cX5_law 14 = .ok (.iconst (-1), 1) := dk_2 (dk_at dksX5_law_0 14 rfl rfl)
theorem dX5_law_15 : decode cX5_law 15 = .ok (.ireturn, 1) := dk_172 (dk_at dksX5_law_0 15 rfl rfl)
theorem dX5_law_16 : decode cX5_law 16 = .ok (.aload_n 0, 1) := dk_42 (dk_at dksX5_law_0 16 rfl rfl)
theorem dX5_law_17 : decode cX5_law 17 = .ok (.aload_n 0, 1) := dk_42 (dk_at dksX5_law_0 17 rfl rfl)
theorem dX5_law_18 : decode cX5_law 18 = .ok (.getfield 9, 3) := dk_180 0 9 (dk_at dksX5_law_0 18 rfl rfl)
theorem dX5_law_21 : decode cX5_law 21 = .ok (.iconst 0, 1) := dk_3 (dk_at dksX5_law_0 21 rfl rfl)
theorem dX5_law_22 : decode cX5_law 22 = .ok (.aload_n 0, 1) := dk_42 (dk_at dksX5_law_0 22 rfl rfl)
theorem dX5_law_23 : decode cX5_law 23 = .ok (.getfield 124, 3) := dk_180 0 124 (dk_at dksX5_law_1 0 rfl rfl)
theorem dX5_law_26 : decode cX5_law 26 = .ok (.iconst 0, 1) := dk_3 (dk_at dksX5_law_1 3 rfl rfl)
theorem dX5_law_27 : decode cX5_law 27 = .ok (.invokevirtual 225, 3) := dk_182 0 225 (dk_at dksX5_law_1 4 rfl rfl)
theorem dX5_law_30 : decode cX5_law 30 = .ok (.aload_n 0, 1) := dk_42 (dk_at dksX5_law_1 7 rfl rfl)
theorem dX5_law_31 : decode cX5_law 31 = .ok (.getfield 143, 3) := dk_180 0 143 (dk_at dksX5_law_1 8 rfl rfl)
theorem dX5_law_34 : decode cX5_law 34 = .ok (.iconst (-1), 1) := dk_2 (dk_at dksX5_law_1 11 rfl rfl)
theorem dX5_law_35 : decode cX5_law 35 = .ok (.if_icmp .eq 5, 3) := dk_159 0 5 (dk_at dksX5_law_1 12 rfl rfl)
theorem dX5_law_38 : decode cX5_law 38 = .ok (.iconst (-1), 1) := dk_2 (dk_at dksX5_law_1 15 rfl rfl)
theorem dX5_law_39 : decode cX5_law 39 = .ok (.ireturn, 1) := dk_172 (dk_at dksX5_law_1 16 rfl rfl)
theorem dX5_law_40 : decode cX5_law 40 = .ok (.iconst 0, 1) := dk_3 (dk_at dksX5_law_1 17 rfl rfl)
theorem dX5_law_41 : decode cX5_law 41 = .ok (.istore_n 1, 1) := dk_60 (dk_at dksX5_law_1 18 rfl rfl)
theorem dX5_law_42 : decode cX5_law 42 = .ok (.iload_n 1, 1) := dk_27 (dk_at dksX5_law_1 19 rfl rfl)
theorem dX5_law_43 : decode cX5_law 43 = .ok (.aload_n 0, 1) := dk_42 (dk_at dksX5_law_1 20 rfl rfl)
theorem dX5_law_44 : decode cX5_law 44 = .ok (.getfield 124, 3) := dk_180 0 124 (dk_at dksX5_law_1 21 rfl rfl)
theorem dX5_law_47 : decode cX5_law 47 = .ok (.if_icmp .ge 29, 3) := dk_162 0 29 (dk_at dksX5_law_2 0 rfl rfl)
theorem dX5_law_50 : decode cX5_law 50 = .ok (.aload_n 0, 1) := dk_42 (dk_at dksX5_law_2 3 rfl rfl)
theorem dX5_law_51 : decode cX5_law 51 = .ok (.getfield 13, 3) := dk_180 0 13 (dk_at dksX5_law_2 4 rfl rfl)
theorem dX5_law_54 : decode cX5_law 54 = .ok (.bipush 120, 2) := dk_16 120 (dk_at dksX5_law_2 7 rfl rfl)
theorem dX5_law_56 : decode cX5_law 56 = .ok (.aload_n 0, 1) := dk_42 (dk_at dksX5_law_2 9 rfl rfl)
theorem dX5_law_57 : decode cX5_law 57 = .ok (.getfield 229, 3) := dk_180 0 229 (dk_at dksX5_law_2 10 rfl rfl)
theorem dX5_law_60 : decode cX5_law 60 = .ok (.imul, 1) := dk_104 (dk_at dksX5_law_2 13 rfl rfl)
theorem dX5_law_61 : decode cX5_law 61 = .ok (.iload_n 1, 1) := dk_27 (dk_at dksX5_law_2 14 rfl rfl)
theorem dX5_law_62 : decode cX5_law 62 = .ok (.iadd, 1) := dk_96 (dk_at dksX5_law_2 15 rfl rfl)
theorem dX5_law_63 : decode cX5_law 63 = .ok (.aload_n 0, 1) := dk_42 (dk_at dksX5_law_2 16 rfl rfl)
theorem dX5_law_64 : decode cX5_law 64 = .ok (.getfield 9, 3) := dk_180 0 9 (dk_at dksX5_law_2 17 rfl rfl)
theorem dX5_law_67 : decode cX5_law 67 = .ok (.iload_n 1, 1) := dk_27 (dk_at dksX5_law_2 20 rfl rfl)
theorem dX5_law_68 : decode cX5_law 68 = .ok (.baload, 1) := dk_51 (dk_at dksX5_law_2 21 rfl rfl)
theorem dX5_law_69 : decode cX5_law 69 = .ok (.bastore, 1) := dk_84 (dk_at dksX5_law_2 22 rfl rfl)
theorem dX5_law_70 : decode cX5_law 70 = .ok (.iinc 1 1, 3) := dk_132 1 1 (dk_at dksX5_law_3 0 rfl rfl)
theorem dX5_law_73 : decode cX5_law 73 = .ok (.goto (-31), 3) := dk_167 255 225 (dk_at dksX5_law_3 3 rfl rfl)
theorem dX5_law_76 : decode cX5_law 76 = .ok (.aload_n 0, 1) := dk_42 (dk_at dksX5_law_3 6 rfl rfl)
theorem dX5_law_77 : decode cX5_law 77 = .ok (.getfield 16, 3) := dk_180 0 16 (dk_at dksX5_law_3 7 rfl rfl)
theorem dX5_law_80 : decode cX5_law 80 = .ok (.aload_n 0, 1) := dk_42 (dk_at dksX5_law_3 10 rfl rfl)
theorem dX5_law_81 : decode cX5_law 81 = .ok (.getfield 229, 3) := dk_180 0 229 (dk_at dksX5_law_3 11 rfl rfl)
theorem dX5_law_84 : decode cX5_law 84 = .ok (.aload_n 0, 1) := dk_42 (dk_at dksX5_law_3 14 rfl rfl)
theorem dX5_law_85 : decode cX5_law 85 = .ok (.getfield 124, 3) := dk_180 0 124 (dk_at dksX5_law_3 15 rfl rfl)
theorem dX5_law_88 : decode cX5_law 88 = .ok (.iastore, 1) := dk_79 (dk_at dksX5_law_3 18 rfl rfl)
theorem dX5_law_89 : decode cX5_law 89 = .ok (.aload_n 0, 1) := dk_42 (dk_at dksX5_law_3 19 rfl rfl)
theorem dX5_law_90 : decode cX5_law 90 = .ok (.iconst 0, 1) := dk_3 (dk_at dksX5_law_3 20 rfl rfl)
theorem dX5_law_91 : decode cX5_law 91 = .ok (.putfield 124, 3) := dk_181 0 124 (dk_at dksX5_law_3 21 rfl rfl)
theorem dX5_law_94 : decode cX5_law 94 = .ok (.aload_n 0, 1) := dk_42 (dk_at dksX5_law_4 0 rfl rfl)
theorem dX5_law_95 : decode cX5_law 95 = .ok (.dup, 1) := dk_89 (dk_at dksX5_law_4 1 rfl rfl)
theorem dX5_law_96 : decode cX5_law 96 = .ok (.getfield 229, 3) := dk_180 0 229 (dk_at dksX5_law_4 2 rfl rfl)
theorem dX5_law_99 : decode cX5_law 99 = .ok (.iconst 1, 1) := dk_4 (dk_at dksX5_law_4 5 rfl rfl)
theorem dX5_law_100 : decode cX5_law 100 = .ok (.iadd, 1) := dk_96 (dk_at dksX5_law_4 6 rfl rfl)
theorem dX5_law_101 : decode cX5_law 101 = .ok (.putfield 229, 3) := dk_181 0 229 (dk_at dksX5_law_4 7 rfl rfl)
theorem dX5_law_104 : decode cX5_law 104 = .ok (.aload_n 0, 1) := dk_42 (dk_at dksX5_law_4 10 rfl rfl)
theorem dX5_law_105 : decode cX5_law 105 = .ok (.getfield 229, 3) := dk_180 0 229 (dk_at dksX5_law_4 11 rfl rfl)
theorem dX5_law_108 : decode cX5_law 108 = .ok (.iconst 1, 1) := dk_4 (dk_at dksX5_law_4 14 rfl rfl)
theorem dX5_law_109 : decode cX5_law 109 = .ok (.isub, 1) := dk_100 (dk_at dksX5_law_4 15 rfl rfl)
theorem dX5_law_110 : decode cX5_law 110 = .ok (.ireturn, 1) := dk_172 (dk_at dksX5_law_4 16 rfl rfl)
abbrev cX5_animal : ByteArray := prog_16_method_30_code
def yX5_animal : MethodName := ⟨RX5, "animal", "(III)I"⟩
def dkwX5_animal_4 : List UInt8 := [180, 0, 232, 29, 79, 42, 89, 180, 0, 232, 4, 96, 181, 0, 232, 42, 180, 0, 232, 4, 100, 172]
abbrev dktX5_animal_4 : List UInt8 := dkwX5_animal_4 ++ []
def dkwX5_animal_3 : List UInt8 := [180, 0, 37, 42, 180, 0, 232, 27, 79, 42, 180, 0, 40, 42, 180, 0, 232, 28, 79, 42, 180, 0, 43, 42]
abbrev dktX5_animal_3 : List UInt8 := dkwX5_animal_3 ++ dktX5_animal_4
def dkwX5_animal_2 : List UInt8 := [27, 182, 0, 239, 153, 0, 16, 42, 28, 182, 0, 239, 153, 0, 8, 27, 28, 160, 0, 5, 2, 172, 42]
abbrev dktX5_animal_2 : List UInt8 := dkwX5_animal_2 ++ dktX5_animal_3
def dkwX5_animal_1 : List UInt8 := [180, 0, 232, 16, 16, 159, 0, 39, 29, 4, 16, 99, 184, 0, 235, 153, 0, 29, 21, 4, 154, 0, 26, 42]
abbrev dktX5_animal_1 : List UInt8 := dkwX5_animal_1 ++ dktX5_animal_2
def dkwX5_animal_0 : List UInt8 := [42, 3, 181, 0, 111, 27, 2, 160, 0, 12, 28, 2, 160, 0, 7, 4, 167, 0, 4, 3, 54, 4, 42]
abbrev dktX5_animal_0 : List UInt8 := dkwX5_animal_0 ++ dktX5_animal_1
theorem dksX5_animal_0 : cX5_animal.data.toList.drop 0 = dktX5_animal_0 := by decide +kernel
theorem dksX5_animal_1 : cX5_animal.data.toList.drop 23 = dktX5_animal_1 := dk_seg dksX5_animal_0 23 rfl rfl
theorem dksX5_animal_2 : cX5_animal.data.toList.drop 47 = dktX5_animal_2 := dk_seg dksX5_animal_1 24 rfl rfl
theorem dksX5_animal_3 : cX5_animal.data.toList.drop 70 = dktX5_animal_3 := dk_seg dksX5_animal_2 23 rfl rfl
theorem dksX5_animal_4 : cX5_animal.data.toList.drop 94 = dktX5_animal_4 := dk_seg dksX5_animal_3 24 rfl rfl
theorem dX5_animal_0 : decode cX5_animal 0 = .ok (.aload_n 0, 1) := dk_42 (dk_at dksX5_animal_0 0 rfl rfl)
theorem dX5_animal_1 : decode cX5_animal 1 = .ok (.iconst 0, 1) := dk_3 (dk_at dksX5_animal_0 1 rfl rfl)
theorem dX5_animal_2 : decode cX5_animal 2 = .ok (.putfield 111, 3) := dk_181 0 111 (dk_at dksX5_animal_0 2 rfl rfl)
theorem dX5_animal_5 : decode cX5_animal 5 = .ok (.iload_n 1, 1) := dk_27 (dk_at dksX5_animal_0 5 rfl rfl)
theorem dX5_animal_6 : decode cX5_animal 6 = .ok (.iconst (-1), 1) := dk_2 (dk_at dksX5_animal_0 6 rfl rfl)
theorem dX5_animal_7 : decode cX5_animal 7 = .ok (.if_icmp .ne 12, 3) := dk_160 0 12 (dk_at dksX5_animal_0 7 rfl rfl)
theorem dX5_animal_10 : decode cX5_animal 10 = .ok (.iload_n 2, 1) := dk_28 (dk_at dksX5_animal_0 10 rfl rfl)
theorem dX5_animal_11 : decode cX5_animal 11 = .ok (.iconst (-1), 1) := dk_2 (dk_at dksX5_animal_0 11 rfl rfl)
theorem dX5_animal_12 : decode cX5_animal 12 = .ok (.if_icmp .ne 7, 3) := dk_160 0 7 (dk_at dksX5_animal_0 12 rfl rfl)
theorem dX5_animal_15 : decode cX5_animal 15 = .ok (.iconst 1, 1) := dk_4 (dk_at dksX5_animal_0 15 rfl rfl)
theorem dX5_animal_16 : decode cX5_animal 16 = .ok (.goto 4, 3) := dk_167 0 4 (dk_at dksX5_animal_0 16 rfl rfl)
theorem dX5_animal_19 : decode cX5_animal 19 = .ok (.iconst 0, 1) := dk_3 (dk_at dksX5_animal_0 19 rfl rfl)
theorem dX5_animal_20 : decode cX5_animal 20 = .ok (.istore 4, 2) := dk_54 4 (dk_at dksX5_animal_0 20 rfl rfl)
theorem dX5_animal_22 : decode cX5_animal 22 = .ok (.aload_n 0, 1) := dk_42 (dk_at dksX5_animal_0 22 rfl rfl)
theorem dX5_animal_23 : decode cX5_animal 23 = .ok (.getfield 232, 3) := dk_180 0 232 (dk_at dksX5_animal_1 0 rfl rfl)
theorem dX5_animal_26 : decode cX5_animal 26 = .ok (.bipush 16, 2) := dk_16 16 (dk_at dksX5_animal_1 3 rfl rfl)
theorem dX5_animal_28 : decode cX5_animal 28 = .ok (.if_icmp .eq 39, 3) := dk_159 0 39 (dk_at dksX5_animal_1 5 rfl rfl)
theorem dX5_animal_31 : decode cX5_animal 31 = .ok (.iload_n 3, 1) := dk_29 (dk_at dksX5_animal_1 8 rfl rfl)
theorem dX5_animal_32 : decode cX5_animal 32 = .ok (.iconst 1, 1) := dk_4 (dk_at dksX5_animal_1 9 rfl rfl)
theorem dX5_animal_33 : decode cX5_animal 33 = .ok (.bipush 99, 2) := dk_16 99 (dk_at dksX5_animal_1 10 rfl rfl)
theorem dX5_animal_35 : decode cX5_animal 35 = .ok (.invokestatic 235, 3) := dk_184 0 235 (dk_at dksX5_animal_1 12 rfl rfl)
theorem dX5_animal_38 : decode cX5_animal 38 = .ok (.ifCond .eq 29, 3) := dk_153 0 29 (dk_at dksX5_animal_1 15 rfl rfl)
theorem dX5_animal_41 : decode cX5_animal 41 = .ok (.iload 4, 2) := dk_21 4 (dk_at dksX5_animal_1 18 rfl rfl)
theorem dX5_animal_43 : decode cX5_animal 43 = .ok (.ifCond .ne 26, 3) := dk_154 0 26 (dk_at dksX5_animal_1 20 rfl rfl)
theorem dX5_animal_46 : decode cX5_animal 46 = .ok (.aload_n 0, 1) := dk_42 (dk_at dksX5_animal_1 23 rfl rfl)
theorem dX5_animal_47 : decode cX5_animal 47 = .ok (.iload_n 1, 1) := dk_27 (dk_at dksX5_animal_2 0 rfl rfl)
theorem dX5_animal_48 : decode cX5_animal 48 = .ok (.invokevirtual 239, 3) := dk_182 0 239 (dk_at dksX5_animal_2 1 rfl rfl)
theorem dX5_animal_51 : decode cX5_animal 51 = .ok (.ifCond .eq 16, 3) := dk_153 0 16 (dk_at dksX5_animal_2 4 rfl rfl)
theorem dX5_animal_54 : decode cX5_animal 54 = .ok (.aload_n 0, 1) := dk_42 (dk_at dksX5_animal_2 7 rfl rfl)
theorem dX5_animal_55 : decode cX5_animal 55 = .ok (.iload_n 2, 1) := dk_28 (dk_at dksX5_animal_2 8 rfl rfl)
theorem dX5_animal_56 : decode cX5_animal 56 = .ok (.invokevirtual 239, 3) := dk_182 0 239 (dk_at dksX5_animal_2 9 rfl rfl)
theorem dX5_animal_59 : decode cX5_animal 59 = .ok (.ifCond .eq 8, 3) := dk_153 0 8 (dk_at dksX5_animal_2 12 rfl rfl)
theorem dX5_animal_62 : decode cX5_animal 62 = .ok (.iload_n 1, 1) := dk_27 (dk_at dksX5_animal_2 15 rfl rfl)
theorem dX5_animal_63 : decode cX5_animal 63 = .ok (.iload_n 2, 1) := dk_28 (dk_at dksX5_animal_2 16 rfl rfl)
theorem dX5_animal_64 : decode cX5_animal 64 = .ok (.if_icmp .ne 5, 3) := dk_160 0 5 (dk_at dksX5_animal_2 17 rfl rfl)
theorem dX5_animal_67 : decode cX5_animal 67 = .ok (.iconst (-1), 1) := dk_2 (dk_at dksX5_animal_2 20 rfl rfl)
theorem dX5_animal_68 : decode cX5_animal 68 = .ok (.ireturn, 1) := dk_172 (dk_at dksX5_animal_2 21 rfl rfl)
theorem dX5_animal_69 : decode cX5_animal 69 = .ok (.aload_n 0, 1) := dk_42 (dk_at dksX5_animal_2 22 rfl rfl)
theorem dX5_animal_70 : decode cX5_animal 70 = .ok (.getfield 37, 3) := dk_180 0 37 (dk_at dksX5_animal_3 0 rfl rfl)
theorem dX5_animal_73 : decode cX5_animal 73 = .ok (.aload_n 0, 1) := dk_42 (dk_at dksX5_animal_3 3 rfl rfl)
theorem dX5_animal_74 : decode cX5_animal 74 = .ok (.getfield 232, 3) := dk_180 0 232 (dk_at dksX5_animal_3 4 rfl rfl)
theorem dX5_animal_77 : decode cX5_animal 77 = .ok (.iload_n 1, 1) := dk_27 (dk_at dksX5_animal_3 7 rfl rfl)
theorem dX5_animal_78 : decode cX5_animal 78 = .ok (.iastore, 1) := dk_79 (dk_at dksX5_animal_3 8 rfl rfl)
theorem dX5_animal_79 : decode cX5_animal 79 = .ok (.aload_n 0, 1) := dk_42 (dk_at dksX5_animal_3 9 rfl rfl)
theorem dX5_animal_80 : decode cX5_animal 80 = .ok (.getfield 40, 3) := dk_180 0 40 (dk_at dksX5_animal_3 10 rfl rfl)
theorem dX5_animal_83 : decode cX5_animal 83 = .ok (.aload_n 0, 1) := dk_42 (dk_at dksX5_animal_3 13 rfl rfl)
theorem dX5_animal_84 : decode cX5_animal 84 = .ok (.getfield 232, 3) := dk_180 0 232 (dk_at dksX5_animal_3 14 rfl rfl)
theorem dX5_animal_87 : decode cX5_animal 87 = .ok (.iload_n 2, 1) := dk_28 (dk_at dksX5_animal_3 17 rfl rfl)
theorem dX5_animal_88 : decode cX5_animal 88 = .ok (.iastore, 1) := dk_79 (dk_at dksX5_animal_3 18 rfl rfl)
theorem dX5_animal_89 : decode cX5_animal 89 = .ok (.aload_n 0, 1) := dk_42 (dk_at dksX5_animal_3 19 rfl rfl)
theorem dX5_animal_90 : decode cX5_animal 90 = .ok (.getfield 43, 3) := dk_180 0 43 (dk_at dksX5_animal_3 20 rfl rfl)
theorem dX5_animal_93 : decode cX5_animal 93 = .ok (.aload_n 0, 1) := dk_42 (dk_at dksX5_animal_3 23 rfl rfl)
theorem dX5_animal_94 : decode cX5_animal 94 = .ok (.getfield 232, 3) := dk_180 0 232 (dk_at dksX5_animal_4 0 rfl rfl)
theorem dX5_animal_97 : decode cX5_animal 97 = .ok (.iload_n 3, 1) := dk_29 (dk_at dksX5_animal_4 3 rfl rfl)
theorem dX5_animal_98 : decode cX5_animal 98 = .ok (.iastore, 1) := dk_79 (dk_at dksX5_animal_4 4 rfl rfl)
theorem dX5_animal_99 : decode cX5_animal 99 = .ok (.aload_n 0, 1) := dk_42 (dk_at dksX5_animal_4 5 rfl rfl)
theorem dX5_animal_100 : decode cX5_animal 100 = .ok (.dup, 1) := dk_89 (dk_at dksX5_animal_4 6 rfl rfl)
theorem dX5_animal_101 : decode cX5_animal 101 = .ok (.getfield 232, 3) := dk_180 0 232 (dk_at dksX5_animal_4 7 rfl rfl)
theorem dX5_animal_104 : decode cX5_animal 104 = .ok (.iconst 1, 1) := dk_4 (dk_at dksX5_animal_4 10 rfl rfl)
theorem dX5_animal_105 : decode cX5_animal 105 = .ok (.iadd, 1) := dk_96 (dk_at dksX5_animal_4 11 rfl rfl)
theorem dX5_animal_106 : decode cX5_animal 106 = .ok (.putfield 232, 3) := dk_181 0 232 (dk_at dksX5_animal_4 12 rfl rfl)
theorem dX5_animal_109 : decode cX5_animal 109 = .ok (.aload_n 0, 1) := dk_42 (dk_at dksX5_animal_4 15 rfl rfl)
theorem dX5_animal_110 : decode cX5_animal 110 = .ok (.getfield 232, 3) := dk_180 0 232 (dk_at dksX5_animal_4 16 rfl rfl)
theorem dX5_animal_113 : decode cX5_animal 113 = .ok (.iconst 1, 1) := dk_4 (dk_at dksX5_animal_4 19 rfl rfl)
theorem dX5_animal_114 : decode cX5_animal 114 = .ok (.isub, 1) := dk_100 (dk_at dksX5_animal_4 20 rfl rfl)
theorem dX5_animal_115 : decode cX5_animal 115 = .ok (.ireturn, 1) := dk_172 (dk_at dksX5_animal_4 21 rfl rfl)
abbrev cX5_isIn : ByteArray := prog_16_method_3_code
def yX5_isIn : MethodName := ⟨RX5, "isIn", "(III)Z"⟩
def dkwX5_isIn_0 : List UInt8 := [26, 27, 161, 0, 12, 26, 28, 163, 0, 7, 4, 167, 0, 4, 3, 172]
abbrev dktX5_isIn_0 : List UInt8 := dkwX5_isIn_0 ++ []
theorem dksX5_isIn_0 : cX5_isIn.data.toList.drop 0 = dktX5_isIn_0 := by decide +kernel
theorem dX5_isIn_0 : decode cX5_isIn 0 = .ok (.iload_n 0, 1) := dk_26 (dk_at dksX5_isIn_0 0 rfl rfl)
theorem dX5_isIn_1 : decode cX5_isIn 1 = .ok (.iload_n 1, 1) := dk_27 (dk_at dksX5_isIn_0 1 rfl rfl)
theorem dX5_isIn_2 : decode cX5_isIn 2 = .ok (.if_icmp .lt 12, 3) := dk_161 0 12 (dk_at dksX5_isIn_0 2 rfl rfl)
theorem dX5_isIn_5 : decode cX5_isIn 5 = .ok (.iload_n 0, 1) := dk_26 (dk_at dksX5_isIn_0 5 rfl rfl)
theorem dX5_isIn_6 : decode cX5_isIn 6 = .ok (.iload_n 2, 1) := dk_28 (dk_at dksX5_isIn_0 6 rfl rfl)
theorem dX5_isIn_7 : decode cX5_isIn 7 = .ok (.if_icmp .gt 7, 3) := dk_163 0 7 (dk_at dksX5_isIn_0 7 rfl rfl)
theorem dX5_isIn_10 : decode cX5_isIn 10 = .ok (.iconst 1, 1) := dk_4 (dk_at dksX5_isIn_0 10 rfl rfl)
theorem dX5_isIn_11 : decode cX5_isIn 11 = .ok (.goto 4, 3) := dk_167 0 4 (dk_at dksX5_isIn_0 11 rfl rfl)
theorem dX5_isIn_14 : decode cX5_isIn 14 = .ok (.iconst 0, 1) := dk_3 (dk_at dksX5_isIn_0 14 rfl rfl)
theorem dX5_isIn_15 : decode cX5_isIn 15 = .ok (.ireturn, 1) := dk_172 (dk_at dksX5_isIn_0 15 rfl rfl)
abbrev cX5_isAnimal : ByteArray := prog_16_method_29_code
def yX5_isAnimal : MethodName := ⟨RX5, "isAnimal", "(I)Z"⟩
def dkwX5_isAnimal_0 : List UInt8 := [27, 155, 0, 15, 27, 42, 180, 0, 232, 162, 0, 7, 4, 167, 0, 4, 3, 172]
abbrev dktX5_isAnimal_0 : List UInt8 := dkwX5_isAnimal_0 ++ []
theorem dksX5_isAnimal_0 : cX5_isAnimal.data.toList.drop 0 = dktX5_isAnimal_0 := by decide +kernel
theorem dX5_isAnimal_0 : decode cX5_isAnimal 0 = .ok (.iload_n 1, 1) := dk_27 (dk_at dksX5_isAnimal_0 0 rfl rfl)
theorem dX5_isAnimal_1 : decode cX5_isAnimal 1 = .ok (.ifCond .lt 15, 3) := dk_155 0 15 (dk_at dksX5_isAnimal_0 1 rfl rfl)
theorem dX5_isAnimal_4 : decode cX5_isAnimal 4 = .ok (.iload_n 1, 1) := dk_27 (dk_at dksX5_isAnimal_0 4 rfl rfl)
theorem dX5_isAnimal_5 : decode cX5_isAnimal 5 = .ok (.aload_n 0, 1) := dk_42 (dk_at dksX5_isAnimal_0 5 rfl rfl)
theorem dX5_isAnimal_6 : decode cX5_isAnimal 6 = .ok (.getfield 232, 3) := dk_180 0 232 (dk_at dksX5_isAnimal_0 6 rfl rfl)
theorem dX5_isAnimal_9 : decode cX5_isAnimal 9 = .ok (.if_icmp .ge 7, 3) := dk_162 0 7 (dk_at dksX5_isAnimal_0 9 rfl rfl)
theorem dX5_isAnimal_12 : decode cX5_isAnimal 12 = .ok (.iconst 1, 1) := dk_4 (dk_at dksX5_isAnimal_0 12 rfl rfl)
theorem dX5_isAnimal_13 : decode cX5_isAnimal 13 = .ok (.goto 4, 3) := dk_167 0 4 (dk_at dksX5_isAnimal_0 13 rfl rfl)
theorem dX5_isAnimal_16 : decode cX5_isAnimal 16 = .ok (.iconst 0, 1) := dk_3 (dk_at dksX5_isAnimal_0 16 rfl rfl)
theorem dX5_isAnimal_17 : decode cX5_isAnimal 17 = .ok (.ireturn, 1) := dk_172 (dk_at dksX5_isAnimal_0 17 rfl rfl)
abbrev cX5_kin : ByteArray := prog_16_method_34_code
def yX5_kin : MethodName := ⟨RX5, "kin", "(II)J"⟩
def dkwX5_kin_1 : List UInt8 := [173, 42, 42, 180, 0, 232, 9, 182, 0, 252, 42, 27, 28, 182, 0, 246, 16, 28, 123, 173]
abbrev dktX5_kin_1 : List UInt8 := dkwX5_kin_1 ++ []
def dkwX5_kin_0 : List UInt8 := [42, 3, 181, 0, 111, 42, 27, 182, 0, 239, 153, 0, 11, 42, 28, 182, 0, 239, 154, 0, 7, 20, 0, 250]
abbrev dktX5_kin_0 : List UInt8 := dkwX5_kin_0 ++ dktX5_kin_1
theorem dksX5_kin_0 : cX5_kin.data.toList.drop 0 = dktX5_kin_0 := by decide +kernel
theorem dksX5_kin_1 : cX5_kin.data.toList.drop 24 = dktX5_kin_1 := dk_seg dksX5_kin_0 24 rfl rfl
theorem dX5_kin_0 : decode cX5_kin 0 = .ok (.aload_n 0, 1) := dk_42 (dk_at dksX5_kin_0 0 rfl rfl)
theorem dX5_kin_1 : decode cX5_kin 1 = .ok (.iconst 0, 1) := dk_3 (dk_at dksX5_kin_0 1 rfl rfl)
theorem dX5_kin_2 : decode cX5_kin 2 = .ok (.putfield 111, 3) := dk_181 0 111 (dk_at dksX5_kin_0 2 rfl rfl)
theorem dX5_kin_5 : decode cX5_kin 5 = .ok (.aload_n 0, 1) := dk_42 (dk_at dksX5_kin_0 5 rfl rfl)
theorem dX5_kin_6 : decode cX5_kin 6 = .ok (.iload_n 1, 1) := dk_27 (dk_at dksX5_kin_0 6 rfl rfl)
theorem dX5_kin_7 : decode cX5_kin 7 = .ok (.invokevirtual 239, 3) := dk_182 0 239 (dk_at dksX5_kin_0 7 rfl rfl)
theorem dX5_kin_10 : decode cX5_kin 10 = .ok (.ifCond .eq 11, 3) := dk_153 0 11 (dk_at dksX5_kin_0 10 rfl rfl)
theorem dX5_kin_13 : decode cX5_kin 13 = .ok (.aload_n 0, 1) := dk_42 (dk_at dksX5_kin_0 13 rfl rfl)
theorem dX5_kin_14 : decode cX5_kin 14 = .ok (.iload_n 2, 1) := dk_28 (dk_at dksX5_kin_0 14 rfl rfl)
theorem dX5_kin_15 : decode cX5_kin 15 = .ok (.invokevirtual 239, 3) := dk_182 0 239 (dk_at dksX5_kin_0 15 rfl rfl)
theorem dX5_kin_18 : decode cX5_kin 18 = .ok (.ifCond .ne 7, 3) := dk_154 0 7 (dk_at dksX5_kin_0 18 rfl rfl)
theorem dX5_kin_21 : decode cX5_kin 21 = .ok (.ldc2_w 250, 3) := dk_20 0 250 (dk_at dksX5_kin_0 21 rfl rfl)
theorem dX5_kin_24 : decode cX5_kin 24 = .ok (.lreturn, 1) := dk_173 (dk_at dksX5_kin_1 0 rfl rfl)
theorem dX5_kin_25 : decode cX5_kin 25 = .ok (.aload_n 0, 1) := dk_42 (dk_at dksX5_kin_1 1 rfl rfl)
theorem dX5_kin_26 : decode cX5_kin 26 = .ok (.aload_n 0, 1) := dk_42 (dk_at dksX5_kin_1 2 rfl rfl)
theorem dX5_kin_27 : decode cX5_kin 27 = .ok (.getfield 232, 3) := dk_180 0 232 (dk_at dksX5_kin_1 3 rfl rfl)
theorem dX5_kin_30 : decode cX5_kin 30 = .ok (.lconst 0, 1) := dk_9 (dk_at dksX5_kin_1 6 rfl rfl)
theorem dX5_kin_31 : decode cX5_kin 31 = .ok (.invokevirtual 252, 3) := dk_182 0 252 (dk_at dksX5_kin_1 7 rfl rfl)
theorem dX5_kin_34 : decode cX5_kin 34 = .ok (.aload_n 0, 1) := dk_42 (dk_at dksX5_kin_1 10 rfl rfl)
theorem dX5_kin_35 : decode cX5_kin 35 = .ok (.iload_n 1, 1) := dk_27 (dk_at dksX5_kin_1 11 rfl rfl)
theorem dX5_kin_36 : decode cX5_kin 36 = .ok (.iload_n 2, 1) := dk_28 (dk_at dksX5_kin_1 12 rfl rfl)
theorem dX5_kin_37 : decode cX5_kin 37 = .ok (.invokevirtual 246, 3) := dk_182 0 246 (dk_at dksX5_kin_1 13 rfl rfl)
theorem dX5_kin_40 : decode cX5_kin 40 = .ok (.bipush 28, 2) := dk_16 28 (dk_at dksX5_kin_1 16 rfl rfl)
theorem dX5_kin_42 : decode cX5_kin 42 = .ok (.lshr, 1) := dk_123 (dk_at dksX5_kin_1 18 rfl rfl)
theorem dX5_kin_43 : decode cX5_kin 43 = .ok (.lreturn, 1) := dk_173 (dk_at dksX5_kin_1 19 rfl rfl)
abbrev cX5_begin : ByteArray := prog_16_method_45_code
def yX5_begin : MethodName := ⟨RX5, "begin", "(IJ)V"⟩
def dkwX5_begin_8 : List UInt8 := [3, 181, 1, 47, 42, 42, 180, 1, 10, 182, 1, 50, 177]
abbrev dktX5_begin_8 : List UInt8 := dkwX5_begin_8 ++ []
def dkwX5_begin_7 : List UInt8 := [181, 1, 31, 42, 3, 181, 1, 34, 42, 32, 181, 1, 37, 42, 3, 181, 1, 41, 42, 3, 181, 1, 44, 42]
abbrev dktX5_begin_7 : List UInt8 := dkwX5_begin_7 ++ dktX5_begin_8
def dkwX5_begin_6 : List UInt8 := [180, 0, 60, 182, 1, 22, 153, 0, 10, 42, 180, 0, 60, 167, 0, 4, 2, 181, 1, 28, 42, 3]
abbrev dktX5_begin_6 : List UInt8 := dkwX5_begin_6 ++ dktX5_begin_7
def dkwX5_begin_5 : List UInt8 := [180, 0, 56, 182, 1, 22, 153, 0, 10, 42, 180, 0, 56, 167, 0, 4, 2, 181, 1, 25, 42, 42, 42]
abbrev dktX5_begin_5 : List UInt8 := dkwX5_begin_5 ++ dktX5_begin_6
def dkwX5_begin_4 : List UInt8 := [42, 42, 180, 0, 63, 3, 46, 181, 1, 16, 42, 42, 180, 0, 63, 4, 46, 181, 1, 19, 42, 42, 42]
abbrev dktX5_begin_4 : List UInt8 := dkwX5_begin_4 ++ dktX5_begin_5
def dkwX5_begin_3 : List UInt8 := [3, 79, 42, 180, 0, 75, 21, 4, 2, 79, 42, 180, 0, 78, 21, 4, 2, 79, 132, 4, 1, 167, 255, 178]
abbrev dktX5_begin_3 : List UInt8 := dkwX5_begin_3 ++ dktX5_begin_4
def dkwX5_begin_2 : List UInt8 := [21, 4, 46, 79, 42, 180, 0, 69, 21, 4, 42, 180, 0, 43, 21, 4, 46, 79, 42, 180, 0, 72, 21, 4]
abbrev dktX5_begin_2 : List UInt8 := dkwX5_begin_2 ++ dktX5_begin_3
def dkwX5_begin_1 : List UInt8 := [180, 0, 46, 21, 4, 42, 180, 0, 37, 21, 4, 46, 79, 42, 180, 0, 49, 21, 4, 42, 180, 0, 40]
abbrev dktX5_begin_1 : List UInt8 := dkwX5_begin_1 ++ dktX5_begin_2
def dkwX5_begin_0 : List UInt8 := [42, 27, 181, 1, 13, 42, 27, 181, 1, 10, 3, 54, 4, 21, 4, 42, 180, 1, 10, 162, 0, 75, 42]
abbrev dktX5_begin_0 : List UInt8 := dkwX5_begin_0 ++ dktX5_begin_1
theorem dksX5_begin_0 : cX5_begin.data.toList.drop 0 = dktX5_begin_0 := by decide +kernel
theorem dksX5_begin_1 : cX5_begin.data.toList.drop 23 = dktX5_begin_1 := dk_seg dksX5_begin_0 23 rfl rfl
theorem dksX5_begin_2 : cX5_begin.data.toList.drop 46 = dktX5_begin_2 := dk_seg dksX5_begin_1 23 rfl rfl
theorem dksX5_begin_3 : cX5_begin.data.toList.drop 70 = dktX5_begin_3 := dk_seg dksX5_begin_2 24 rfl rfl
theorem dksX5_begin_4 : cX5_begin.data.toList.drop 94 = dktX5_begin_4 := dk_seg dksX5_begin_3 24 rfl rfl
theorem dksX5_begin_5 : cX5_begin.data.toList.drop 117 = dktX5_begin_5 := dk_seg dksX5_begin_4 23 rfl rfl
theorem dksX5_begin_6 : cX5_begin.data.toList.drop 140 = dktX5_begin_6 := dk_seg dksX5_begin_5 23 rfl rfl
theorem dksX5_begin_7 : cX5_begin.data.toList.drop 162 = dktX5_begin_7 := dk_seg dksX5_begin_6 22 rfl rfl
theorem dksX5_begin_8 : cX5_begin.data.toList.drop 186 = dktX5_begin_8 := dk_seg dksX5_begin_7 24 rfl rfl
theorem dX5_begin_0 : decode cX5_begin 0 = .ok (.aload_n 0, 1) := dk_42 (dk_at dksX5_begin_0 0 rfl rfl)
theorem dX5_begin_1 : decode cX5_begin 1 = .ok (.iload_n 1, 1) := dk_27 (dk_at dksX5_begin_0 1 rfl rfl)
theorem dX5_begin_2 : decode cX5_begin 2 = .ok (.putfield 269, 3) := dk_181 1 13 (dk_at dksX5_begin_0 2 rfl rfl)
theorem dX5_begin_5 : decode cX5_begin 5 = .ok (.aload_n 0, 1) := dk_42 (dk_at dksX5_begin_0 5 rfl rfl)
theorem dX5_begin_6 : decode cX5_begin 6 = .ok (.iload_n 1, 1) := dk_27 (dk_at dksX5_begin_0 6 rfl rfl)
theorem dX5_begin_7 : decode cX5_begin 7 = .ok (.putfield 266, 3) := dk_181 1 10 (dk_at dksX5_begin_0 7 rfl rfl)
theorem dX5_begin_10 : decode cX5_begin 10 = .ok (.iconst 0, 1) := dk_3 (dk_at dksX5_begin_0 10 rfl rfl)
theorem dX5_begin_11 : decode cX5_begin 11 = .ok (.istore 4, 2) := dk_54 4 (dk_at dksX5_begin_0 11 rfl rfl)
theorem dX5_begin_13 : decode cX5_begin 13 = .ok (.iload 4, 2) := dk_21 4 (dk_at dksX5_begin_0 13 rfl rfl)
theorem dX5_begin_15 : decode cX5_begin 15 = .ok (.aload_n 0, 1) := dk_42 (dk_at dksX5_begin_0 15 rfl rfl)
theorem dX5_begin_16 : decode cX5_begin 16 = .ok (.getfield 266, 3) := dk_180 1 10 (dk_at dksX5_begin_0 16 rfl rfl)
theorem dX5_begin_19 : decode cX5_begin 19 = .ok (.if_icmp .ge 75, 3) := dk_162 0 75 (dk_at dksX5_begin_0 19 rfl rfl)
theorem dX5_begin_22 : decode cX5_begin 22 = .ok (.aload_n 0, 1) := dk_42 (dk_at dksX5_begin_0 22 rfl rfl)
theorem dX5_begin_23 : decode cX5_begin 23 = .ok (.getfield 46, 3) := dk_180 0 46 (dk_at dksX5_begin_1 0 rfl rfl)
theorem dX5_begin_26 : decode cX5_begin 26 = .ok (.iload 4, 2) := dk_21 4 (dk_at dksX5_begin_1 3 rfl rfl)
theorem dX5_begin_28 : decode cX5_begin 28 = .ok (.aload_n 0, 1) := dk_42 (dk_at dksX5_begin_1 5 rfl rfl)
theorem dX5_begin_29 : decode cX5_begin 29 = .ok (.getfield 37, 3) := dk_180 0 37 (dk_at dksX5_begin_1 6 rfl rfl)
theorem dX5_begin_32 : decode cX5_begin 32 = .ok (.iload 4, 2) := dk_21 4 (dk_at dksX5_begin_1 9 rfl rfl)
theorem dX5_begin_34 : decode cX5_begin 34 = .ok (.iaload, 1) := dk_46 (dk_at dksX5_begin_1 11 rfl rfl)
theorem dX5_begin_35 : decode cX5_begin 35 = .ok (.iastore, 1) := dk_79 (dk_at dksX5_begin_1 12 rfl rfl)
theorem dX5_begin_36 : decode cX5_begin 36 = .ok (.aload_n 0, 1) := dk_42 (dk_at dksX5_begin_1 13 rfl rfl)
theorem dX5_begin_37 : decode cX5_begin 37 = .ok (.getfield 49, 3) := dk_180 0 49 (dk_at dksX5_begin_1 14 rfl rfl)
theorem dX5_begin_40 : decode cX5_begin 40 = .ok (.iload 4, 2) := dk_21 4 (dk_at dksX5_begin_1 17 rfl rfl)
theorem dX5_begin_42 : decode cX5_begin 42 = .ok (.aload_n 0, 1) := dk_42 (dk_at dksX5_begin_1 19 rfl rfl)
theorem dX5_begin_43 : decode cX5_begin 43 = .ok (.getfield 40, 3) := dk_180 0 40 (dk_at dksX5_begin_1 20 rfl rfl)
theorem dX5_begin_46 : decode cX5_begin 46 = .ok (.iload 4, 2) := dk_21 4 (dk_at dksX5_begin_2 0 rfl rfl)
theorem dX5_begin_48 : decode cX5_begin 48 = .ok (.iaload, 1) := dk_46 (dk_at dksX5_begin_2 2 rfl rfl)
theorem dX5_begin_49 : decode cX5_begin 49 = .ok (.iastore, 1) := dk_79 (dk_at dksX5_begin_2 3 rfl rfl)
theorem dX5_begin_50 : decode cX5_begin 50 = .ok (.aload_n 0, 1) := dk_42 (dk_at dksX5_begin_2 4 rfl rfl)
theorem dX5_begin_51 : decode cX5_begin 51 = .ok (.getfield 69, 3) := dk_180 0 69 (dk_at dksX5_begin_2 5 rfl rfl)
theorem dX5_begin_54 : decode cX5_begin 54 = .ok (.iload 4, 2) := dk_21 4 (dk_at dksX5_begin_2 8 rfl rfl)
theorem dX5_begin_56 : decode cX5_begin 56 = .ok (.aload_n 0, 1) := dk_42 (dk_at dksX5_begin_2 10 rfl rfl)
theorem dX5_begin_57 : decode cX5_begin 57 = .ok (.getfield 43, 3) := dk_180 0 43 (dk_at dksX5_begin_2 11 rfl rfl)
theorem dX5_begin_60 : decode cX5_begin 60 = .ok (.iload 4, 2) := dk_21 4 (dk_at dksX5_begin_2 14 rfl rfl)
theorem dX5_begin_62 : decode cX5_begin 62 = .ok (.iaload, 1) := dk_46 (dk_at dksX5_begin_2 16 rfl rfl)
theorem dX5_begin_63 : decode cX5_begin 63 = .ok (.iastore, 1) := dk_79 (dk_at dksX5_begin_2 17 rfl rfl)
theorem dX5_begin_64 : decode cX5_begin 64 = .ok (.aload_n 0, 1) := dk_42 (dk_at dksX5_begin_2 18 rfl rfl)
theorem dX5_begin_65 : decode cX5_begin 65 = .ok (.getfield 72, 3) := dk_180 0 72 (dk_at dksX5_begin_2 19 rfl rfl)
theorem dX5_begin_68 : decode cX5_begin 68 = .ok (.iload 4, 2) := dk_21 4 (dk_at dksX5_begin_2 22 rfl rfl)
theorem dX5_begin_70 : decode cX5_begin 70 = .ok (.iconst 0, 1) := dk_3 (dk_at dksX5_begin_3 0 rfl rfl)
theorem dX5_begin_71 : decode cX5_begin 71 = .ok (.iastore, 1) := dk_79 (dk_at dksX5_begin_3 1 rfl rfl)
theorem dX5_begin_72 : decode cX5_begin 72 = .ok (.aload_n 0, 1) := dk_42 (dk_at dksX5_begin_3 2 rfl rfl)
theorem dX5_begin_73 : decode cX5_begin 73 = .ok (.getfield 75, 3) := dk_180 0 75 (dk_at dksX5_begin_3 3 rfl rfl)
theorem dX5_begin_76 : decode cX5_begin 76 = .ok (.iload 4, 2) := dk_21 4 (dk_at dksX5_begin_3 6 rfl rfl)
theorem dX5_begin_78 : decode cX5_begin 78 = .ok (.iconst (-1), 1) := dk_2 (dk_at dksX5_begin_3 8 rfl rfl)
theorem dX5_begin_79 : decode cX5_begin 79 = .ok (.iastore, 1) := dk_79 (dk_at dksX5_begin_3 9 rfl rfl)
theorem dX5_begin_80 : decode cX5_begin 80 = .ok (.aload_n 0, 1) := dk_42 (dk_at dksX5_begin_3 10 rfl rfl)
theorem dX5_begin_81 : decode cX5_begin 81 = .ok (.getfield 78, 3) := dk_180 0 78 (dk_at dksX5_begin_3 11 rfl rfl)
theorem dX5_begin_84 : decode cX5_begin 84 = .ok (.iload 4, 2) := dk_21 4 (dk_at dksX5_begin_3 14 rfl rfl)
theorem dX5_begin_86 : decode cX5_begin 86 = .ok (.iconst (-1), 1) := dk_2 (dk_at dksX5_begin_3 16 rfl rfl)
theorem dX5_begin_87 : decode cX5_begin 87 = .ok (.iastore, 1) := dk_79 (dk_at dksX5_begin_3 17 rfl rfl)
theorem dX5_begin_88 : decode cX5_begin 88 = .ok (.iinc 4 1, 3) := dk_132 4 1 (dk_at dksX5_begin_3 18 rfl rfl)
theorem dX5_begin_91 : decode cX5_begin 91 = .ok (.goto (-78), 3) := dk_167 255 178 (dk_at dksX5_begin_3 21 rfl rfl)
theorem dX5_begin_94 : decode cX5_begin 94 = .ok (.aload_n 0, 1) := dk_42 (dk_at dksX5_begin_4 0 rfl rfl)
theorem dX5_begin_95 : decode cX5_begin 95 = .ok (.aload_n 0, 1) := dk_42 (dk_at dksX5_begin_4 1 rfl rfl)
theorem dX5_begin_96 : decode cX5_begin 96 = .ok (.getfield 63, 3) := dk_180 0 63 (dk_at dksX5_begin_4 2 rfl rfl)
theorem dX5_begin_99 : decode cX5_begin 99 = .ok (.iconst 0, 1) := dk_3 (dk_at dksX5_begin_4 5 rfl rfl)
theorem dX5_begin_100 : decode cX5_begin 100 = .ok (.iaload, 1) := dk_46 (dk_at dksX5_begin_4 6 rfl rfl)
theorem dX5_begin_101 : decode cX5_begin 101 = .ok (.putfield 272, 3) := dk_181 1 16 (dk_at dksX5_begin_4 7 rfl rfl)
theorem dX5_begin_104 : decode cX5_begin 104 = .ok (.aload_n 0, 1) := dk_42 (dk_at dksX5_begin_4 10 rfl rfl)
theorem dX5_begin_105 : decode cX5_begin 105 = .ok (.aload_n 0, 1) := dk_42 (dk_at dksX5_begin_4 11 rfl rfl)
theorem dX5_begin_106 : decode cX5_begin 106 = .ok (.getfield 63, 3) := dk_180 0 63 (dk_at dksX5_begin_4 12 rfl rfl)
theorem dX5_begin_109 : decode cX5_begin 109 = .ok (.iconst 1, 1) := dk_4 (dk_at dksX5_begin_4 15 rfl rfl)
theorem dX5_begin_110 : decode cX5_begin 110 = .ok (.iaload, 1) := dk_46 (dk_at dksX5_begin_4 16 rfl rfl)
theorem dX5_begin_111 : decode cX5_begin 111 = .ok (.putfield 275, 3) := dk_181 1 19 (dk_at dksX5_begin_4 17 rfl rfl)
theorem dX5_begin_114 : decode cX5_begin 114 = .ok (.aload_n 0, 1) := dk_42 (dk_at dksX5_begin_4 20 rfl rfl)
theorem dX5_begin_115 : decode cX5_begin 115 = .ok (.aload_n 0, 1) := dk_42 (dk_at dksX5_begin_4 21 rfl rfl)
theorem dX5_begin_116 : decode cX5_begin 116 = .ok (.aload_n 0, 1) := dk_42 (dk_at dksX5_begin_4 22 rfl rfl)
theorem dX5_begin_117 : decode cX5_begin 117 = .ok (.getfield 56, 3) := dk_180 0 56 (dk_at dksX5_begin_5 0 rfl rfl)
theorem dX5_begin_120 : decode cX5_begin 120 = .ok (.invokevirtual 278, 3) := dk_182 1 22 (dk_at dksX5_begin_5 3 rfl rfl)
theorem dX5_begin_123 : decode cX5_begin 123 = .ok (.ifCond .eq 10, 3) := dk_153 0 10 (dk_at dksX5_begin_5 6 rfl rfl)
theorem dX5_begin_126 : decode cX5_begin 126 = .ok (.aload_n 0, 1) := dk_42 (dk_at dksX5_begin_5 9 rfl rfl)
theorem dX5_begin_127 : decode cX5_begin 127 = .ok (.getfield 56, 3) := dk_180 0 56 (dk_at dksX5_begin_5 10 rfl rfl)
theorem dX5_begin_130 : decode cX5_begin 130 = .ok (.goto 4, 3) := dk_167 0 4 (dk_at dksX5_begin_5 13 rfl rfl)
theorem dX5_begin_133 : decode cX5_begin 133 = .ok (.iconst (-1), 1) := dk_2 (dk_at dksX5_begin_5 16 rfl rfl)
theorem dX5_begin_134 : decode cX5_begin 134 = .ok (.putfield 281, 3) := dk_181 1 25 (dk_at dksX5_begin_5 17 rfl rfl)
theorem dX5_begin_137 : decode cX5_begin 137 = .ok (.aload_n 0, 1) := dk_42 (dk_at dksX5_begin_5 20 rfl rfl)
theorem dX5_begin_138 : decode cX5_begin 138 = .ok (.aload_n 0, 1) := dk_42 (dk_at dksX5_begin_5 21 rfl rfl)
theorem dX5_begin_139 : decode cX5_begin 139 = .ok (.aload_n 0, 1) := dk_42 (dk_at dksX5_begin_5 22 rfl rfl)
theorem dX5_begin_140 : decode cX5_begin 140 = .ok (.getfield 60, 3) := dk_180 0 60 (dk_at dksX5_begin_6 0 rfl rfl)
theorem dX5_begin_143 : decode cX5_begin 143 = .ok (.invokevirtual 278, 3) := dk_182 1 22 (dk_at dksX5_begin_6 3 rfl rfl)
theorem dX5_begin_146 : decode cX5_begin 146 = .ok (.ifCond .eq 10, 3) := dk_153 0 10 (dk_at dksX5_begin_6 6 rfl rfl)
theorem dX5_begin_149 : decode cX5_begin 149 = .ok (.aload_n 0, 1) := dk_42 (dk_at dksX5_begin_6 9 rfl rfl)
theorem dX5_begin_150 : decode cX5_begin 150 = .ok (.getfield 60, 3) := dk_180 0 60 (dk_at dksX5_begin_6 10 rfl rfl)
theorem dX5_begin_153 : decode cX5_begin 153 = .ok (.goto 4, 3) := dk_167 0 4 (dk_at dksX5_begin_6 13 rfl rfl)
theorem dX5_begin_156 : decode cX5_begin 156 = .ok (.iconst (-1), 1) := dk_2 (dk_at dksX5_begin_6 16 rfl rfl)
theorem dX5_begin_157 : decode cX5_begin 157 = .ok (.putfield 284, 3) := dk_181 1 28 (dk_at dksX5_begin_6 17 rfl rfl)
theorem dX5_begin_160 : decode cX5_begin 160 = .ok (.aload_n 0, 1) := dk_42 (dk_at dksX5_begin_6 20 rfl rfl)
theorem dX5_begin_161 : decode cX5_begin 161 = .ok (.iconst 0, 1) := dk_3 (dk_at dksX5_begin_6 21 rfl rfl)
theorem dX5_begin_162 : decode cX5_begin 162 = .ok (.putfield 287, 3) := dk_181 1 31 (dk_at dksX5_begin_7 0 rfl rfl)
theorem dX5_begin_165 : decode cX5_begin 165 = .ok (.aload_n 0, 1) := dk_42 (dk_at dksX5_begin_7 3 rfl rfl)
theorem dX5_begin_166 : decode cX5_begin 166 = .ok (.iconst 0, 1) := dk_3 (dk_at dksX5_begin_7 4 rfl rfl)
theorem dX5_begin_167 : decode cX5_begin 167 = .ok (.putfield 290, 3) := dk_181 1 34 (dk_at dksX5_begin_7 5 rfl rfl)
theorem dX5_begin_170 : decode cX5_begin 170 = .ok (.aload_n 0, 1) := dk_42 (dk_at dksX5_begin_7 8 rfl rfl)
theorem dX5_begin_171 : decode cX5_begin 171 = .ok (.lload_n 2, 1) := dk_32 (dk_at dksX5_begin_7 9 rfl rfl)
theorem dX5_begin_172 : decode cX5_begin 172 = .ok (.putfield 293, 3) := dk_181 1 37 (dk_at dksX5_begin_7 10 rfl rfl)
theorem dX5_begin_175 : decode cX5_begin 175 = .ok (.aload_n 0, 1) := dk_42 (dk_at dksX5_begin_7 13 rfl rfl)
theorem dX5_begin_176 : decode cX5_begin 176 = .ok (.iconst 0, 1) := dk_3 (dk_at dksX5_begin_7 14 rfl rfl)
theorem dX5_begin_177 : decode cX5_begin 177 = .ok (.putfield 297, 3) := dk_181 1 41 (dk_at dksX5_begin_7 15 rfl rfl)
theorem dX5_begin_180 : decode cX5_begin 180 = .ok (.aload_n 0, 1) := dk_42 (dk_at dksX5_begin_7 18 rfl rfl)
theorem dX5_begin_181 : decode cX5_begin 181 = .ok (.iconst 0, 1) := dk_3 (dk_at dksX5_begin_7 19 rfl rfl)
theorem dX5_begin_182 : decode cX5_begin 182 = .ok (.putfield 300, 3) := dk_181 1 44 (dk_at dksX5_begin_7 20 rfl rfl)
theorem dX5_begin_185 : decode cX5_begin 185 = .ok (.aload_n 0, 1) := dk_42 (dk_at dksX5_begin_7 23 rfl rfl)
theorem dX5_begin_186 : decode cX5_begin 186 = .ok (.iconst 0, 1) := dk_3 (dk_at dksX5_begin_8 0 rfl rfl)
theorem dX5_begin_187 : decode cX5_begin 187 = .ok (.putfield 303, 3) := dk_181 1 47 (dk_at dksX5_begin_8 1 rfl rfl)
theorem dX5_begin_190 : decode cX5_begin 190 = .ok (.aload_n 0, 1) := dk_42 (dk_at dksX5_begin_8 4 rfl rfl)
theorem dX5_begin_191 : decode cX5_begin 191 = .ok (.aload_n 0, 1) := dk_42 (dk_at dksX5_begin_8 5 rfl rfl)
theorem dX5_begin_192 : decode cX5_begin 192 = .ok (.getfield 266, 3) := dk_180 1 10 (dk_at dksX5_begin_8 6 rfl rfl)
theorem dX5_begin_195 : decode cX5_begin 195 = .ok (.invokevirtual 306, 3) := dk_182 1 50 (dk_at dksX5_begin_8 9 rfl rfl)
theorem dX5_begin_198 : decode cX5_begin 198 = .ok (.return_, 1) := dk_177 (dk_at dksX5_begin_8 12 rfl rfl)
abbrev cX5_isThere : ByteArray := prog_16_method_43_code
def yX5_isThere : MethodName := ⟨RX5, "isThere", "(I)Z"⟩
def dkwX5_isThere_1 : List UInt8 := [167, 0, 4, 3, 172]
abbrev dktX5_isThere_1 : List UInt8 := dkwX5_isThere_1 ++ []
def dkwX5_isThere_0 : List UInt8 := [27, 2, 159, 0, 24, 27, 42, 180, 1, 10, 162, 0, 16, 42, 180, 0, 72, 27, 46, 154, 0, 7, 4]
abbrev dktX5_isThere_0 : List UInt8 := dkwX5_isThere_0 ++ dktX5_isThere_1
theorem dksX5_isThere_0 : cX5_isThere.data.toList.drop 0 = dktX5_isThere_0 := by decide +kernel
theorem dksX5_isThere_1 : cX5_isThere.data.toList.drop 23 = dktX5_isThere_1 := dk_seg dksX5_isThere_0 23 rfl rfl
theorem dX5_isThere_0 : decode cX5_isThere 0 = .ok (.iload_n 1, 1) := dk_27 (dk_at dksX5_isThere_0 0 rfl rfl)
theorem dX5_isThere_1 : decode cX5_isThere 1 = .ok (.iconst (-1), 1) := dk_2 (dk_at dksX5_isThere_0 1 rfl rfl)
theorem dX5_isThere_2 : decode cX5_isThere 2 = .ok (.if_icmp .eq 24, 3) := dk_159 0 24 (dk_at dksX5_isThere_0 2 rfl rfl)
theorem dX5_isThere_5 : decode cX5_isThere 5 = .ok (.iload_n 1, 1) := dk_27 (dk_at dksX5_isThere_0 5 rfl rfl)
theorem dX5_isThere_6 : decode cX5_isThere 6 = .ok (.aload_n 0, 1) := dk_42 (dk_at dksX5_isThere_0 6 rfl rfl)
theorem dX5_isThere_7 : decode cX5_isThere 7 = .ok (.getfield 266, 3) := dk_180 1 10 (dk_at dksX5_isThere_0 7 rfl rfl)
theorem dX5_isThere_10 : decode cX5_isThere 10 = .ok (.if_icmp .ge 16, 3) := dk_162 0 16 (dk_at dksX5_isThere_0 10 rfl rfl)
theorem dX5_isThere_13 : decode cX5_isThere 13 = .ok (.aload_n 0, 1) := dk_42 (dk_at dksX5_isThere_0 13 rfl rfl)
theorem dX5_isThere_14 : decode cX5_isThere 14 = .ok (.getfield 72, 3) := dk_180 0 72 (dk_at dksX5_isThere_0 14 rfl rfl)
theorem dX5_isThere_17 : decode cX5_isThere 17 = .ok (.iload_n 1, 1) := dk_27 (dk_at dksX5_isThere_0 17 rfl rfl)
theorem dX5_isThere_18 : decode cX5_isThere 18 = .ok (.iaload, 1) := dk_46 (dk_at dksX5_isThere_0 18 rfl rfl)
theorem dX5_isThere_19 : decode cX5_isThere 19 = .ok (.ifCond .ne 7, 3) := dk_154 0 7 (dk_at dksX5_isThere_0 19 rfl rfl)
theorem dX5_isThere_22 : decode cX5_isThere 22 = .ok (.iconst 1, 1) := dk_4 (dk_at dksX5_isThere_0 22 rfl rfl)
theorem dX5_isThere_23 : decode cX5_isThere 23 = .ok (.goto 4, 3) := dk_167 0 4 (dk_at dksX5_isThere_1 0 rfl rfl)
theorem dX5_isThere_26 : decode cX5_isThere 26 = .ok (.iconst 0, 1) := dk_3 (dk_at dksX5_isThere_1 3 rfl rfl)
theorem dX5_isThere_27 : decode cX5_isThere 27 = .ok (.ireturn, 1) := dk_172 (dk_at dksX5_isThere_1 4 rfl rfl)
abbrev cX5_layKins : ByteArray := prog_16_method_31_code
def yX5_layKins : MethodName := ⟨RX5, "layKins", "(I)V"⟩
def dkwX5_layKins_7 : List UInt8 := [97, 80, 132, 2, 1, 167, 255, 88, 177]
abbrev dktX5_layKins_7 : List UInt8 := dkwX5_layKins_7 ++ []
def dkwX5_layKins_6 : List UInt8 := [180, 0, 52, 16, 24, 42, 180, 0, 46, 28, 46, 104, 42, 180, 0, 49, 28, 46, 96, 47, 20, 0, 242, 109]
abbrev dktX5_layKins_6 : List UInt8 := dkwX5_layKins_6 ++ dktX5_layKins_7
def dkwX5_layKins_5 : List UInt8 := [42, 180, 0, 52, 16, 24, 28, 104, 28, 96, 20, 0, 244, 29, 153, 0, 7, 9, 167, 0, 28, 42]
abbrev dktX5_layKins_5 : List UInt8 := dkwX5_layKins_5 ++ dktX5_layKins_6
def dkwX5_layKins_4 : List UInt8 := [96, 22, 5, 80, 42, 180, 0, 52, 16, 24, 28, 104, 21, 4, 96, 22, 5, 80, 132, 4, 1, 167, 255, 166]
abbrev dktX5_layKins_4 : List UInt8 := dkwX5_layKins_4 ++ dktX5_layKins_5
def dkwX5_layKins_3 : List UInt8 := [180, 0, 49, 28, 46, 96, 47, 20, 0, 242, 109, 97, 55, 5, 42, 180, 0, 52, 16, 24, 21, 4, 104, 28]
abbrev dktX5_layKins_3 : List UInt8 := dkwX5_layKins_3 ++ dktX5_layKins_4
def dkwX5_layKins_2 : List UInt8 := [104, 42, 180, 0, 46, 28, 46, 96, 47, 20, 0, 242, 109, 42, 180, 0, 52, 16, 24, 21, 4, 104, 42]
abbrev dktX5_layKins_2 : List UInt8 := dkwX5_layKins_2 ++ dktX5_layKins_3
def dkwX5_layKins_1 : List UInt8 := [54, 4, 21, 4, 28, 162, 0, 90, 29, 153, 0, 7, 9, 167, 0, 46, 42, 180, 0, 52, 16, 24, 21, 4]
abbrev dktX5_layKins_1 : List UInt8 := dkwX5_layKins_1 ++ dktX5_layKins_2
def dkwX5_layKins_0 : List UInt8 := [3, 61, 28, 27, 162, 0, 169, 42, 180, 0, 46, 28, 46, 2, 160, 0, 7, 4, 167, 0, 4, 3, 62, 3]
abbrev dktX5_layKins_0 : List UInt8 := dkwX5_layKins_0 ++ dktX5_layKins_1
theorem dksX5_layKins_0 : cX5_layKins.data.toList.drop 0 = dktX5_layKins_0 := by decide +kernel
theorem dksX5_layKins_1 : cX5_layKins.data.toList.drop 24 = dktX5_layKins_1 := dk_seg dksX5_layKins_0 24 rfl rfl
theorem dksX5_layKins_2 : cX5_layKins.data.toList.drop 48 = dktX5_layKins_2 := dk_seg dksX5_layKins_1 24 rfl rfl
theorem dksX5_layKins_3 : cX5_layKins.data.toList.drop 71 = dktX5_layKins_3 := dk_seg dksX5_layKins_2 23 rfl rfl
theorem dksX5_layKins_4 : cX5_layKins.data.toList.drop 95 = dktX5_layKins_4 := dk_seg dksX5_layKins_3 24 rfl rfl
theorem dksX5_layKins_5 : cX5_layKins.data.toList.drop 119 = dktX5_layKins_5 := dk_seg dksX5_layKins_4 24 rfl rfl
theorem dksX5_layKins_6 : cX5_layKins.data.toList.drop 141 = dktX5_layKins_6 := dk_seg dksX5_layKins_5 22 rfl rfl
theorem dksX5_layKins_7 : cX5_layKins.data.toList.drop 165 = dktX5_layKins_7 := dk_seg dksX5_layKins_6 24 rfl rfl
theorem dX5_layKins_0 : decode cX5_layKins 0 = .ok (.iconst 0, 1) := dk_3 (dk_at dksX5_layKins_0 0 rfl rfl)
theorem dX5_layKins_1 : decode cX5_layKins 1 = .ok (.istore_n 2, 1) := dk_61 (dk_at dksX5_layKins_0 1 rfl rfl)
theorem dX5_layKins_2 : decode cX5_layKins 2 = .ok (.iload_n 2, 1) := dk_28 (dk_at dksX5_layKins_0 2 rfl rfl)
theorem dX5_layKins_3 : decode cX5_layKins 3 = .ok (.iload_n 1, 1) := dk_27 (dk_at dksX5_layKins_0 3 rfl rfl)
theorem dX5_layKins_4 : decode cX5_layKins 4 = .ok (.if_icmp .ge 169, 3) := dk_162 0 169 (dk_at dksX5_layKins_0 4 rfl rfl)
theorem dX5_layKins_7 : decode cX5_layKins 7 = .ok (.aload_n 0, 1) := dk_42 (dk_at dksX5_layKins_0 7 rfl rfl)
theorem dX5_layKins_8 : decode cX5_layKins 8 = .ok (.getfield 46, 3) := dk_180 0 46 (dk_at dksX5_layKins_0 8 rfl rfl)
theorem dX5_layKins_11 : decode cX5_layKins 11 = .ok (.iload_n 2, 1) := dk_28 (dk_at dksX5_layKins_0 11 rfl rfl)
theorem dX5_layKins_12 : decode cX5_layKins 12 = .ok (.iaload, 1) := dk_46 (dk_at dksX5_layKins_0 12 rfl rfl)
theorem dX5_layKins_13 : decode cX5_layKins 13 = .ok (.iconst (-1), 1) := dk_2 (dk_at dksX5_layKins_0 13 rfl rfl)
theorem dX5_layKins_14 : decode cX5_layKins 14 = .ok (.if_icmp .ne 7, 3) := dk_160 0 7 (dk_at dksX5_layKins_0 14 rfl rfl)
theorem dX5_layKins_17 : decode cX5_layKins 17 = .ok (.iconst 1, 1) := dk_4 (dk_at dksX5_layKins_0 17 rfl rfl)
theorem dX5_layKins_18 : decode cX5_layKins 18 = .ok (.goto 4, 3) := dk_167 0 4 (dk_at dksX5_layKins_0 18 rfl rfl)
theorem dX5_layKins_21 : decode cX5_layKins 21 = .ok (.iconst 0, 1) := dk_3 (dk_at dksX5_layKins_0 21 rfl rfl)
theorem dX5_layKins_22 : decode cX5_layKins 22 = .ok (.istore_n 3, 1) := dk_62 (dk_at dksX5_layKins_0 22 rfl rfl)
theorem dX5_layKins_23 : decode cX5_layKins 23 = .ok (.iconst 0, 1) := dk_3 (dk_at dksX5_layKins_0 23 rfl rfl)
theorem dX5_layKins_24 : decode cX5_layKins 24 = .ok (.istore 4, 2) := dk_54 4 (dk_at dksX5_layKins_1 0 rfl rfl)
theorem dX5_layKins_26 : decode cX5_layKins 26 = .ok (.iload 4, 2) := dk_21 4 (dk_at dksX5_layKins_1 2 rfl rfl)
theorem dX5_layKins_28 : decode cX5_layKins 28 = .ok (.iload_n 2, 1) := dk_28 (dk_at dksX5_layKins_1 4 rfl rfl)
theorem dX5_layKins_29 : decode cX5_layKins 29 = .ok (.if_icmp .ge 90, 3) := dk_162 0 90 (dk_at dksX5_layKins_1 5 rfl rfl)
theorem dX5_layKins_32 : decode cX5_layKins 32 = .ok (.iload_n 3, 1) := dk_29 (dk_at dksX5_layKins_1 8 rfl rfl)
theorem dX5_layKins_33 : decode cX5_layKins 33 = .ok (.ifCond .eq 7, 3) := dk_153 0 7 (dk_at dksX5_layKins_1 9 rfl rfl)
theorem dX5_layKins_36 : decode cX5_layKins 36 = .ok (.lconst 0, 1) := dk_9 (dk_at dksX5_layKins_1 12 rfl rfl)
theorem dX5_layKins_37 : decode cX5_layKins 37 = .ok (.goto 46, 3) := dk_167 0 46 (dk_at dksX5_layKins_1 13 rfl rfl)
theorem dX5_layKins_40 : decode cX5_layKins 40 = .ok (.aload_n 0, 1) := dk_42 (dk_at dksX5_layKins_1 16 rfl rfl)
theorem dX5_layKins_41 : decode cX5_layKins 41 = .ok (.getfield 52, 3) := dk_180 0 52 (dk_at dksX5_layKins_1 17 rfl rfl)
theorem dX5_layKins_44 : decode cX5_layKins 44 = .ok (.bipush 24, 2) := dk_16 24 (dk_at dksX5_layKins_1 20 rfl rfl)
theorem dX5_layKins_46 : decode cX5_layKins 46 = .ok (.iload 4, 2) := dk_21 4 (dk_at dksX5_layKins_1 22 rfl rfl)
theorem dX5_layKins_48 : decode cX5_layKins 48 = .ok (.imul, 1) := dk_104 (dk_at dksX5_layKins_2 0 rfl rfl)
theorem dX5_layKins_49 : decode cX5_layKins 49 = .ok (.aload_n 0, 1) := dk_42 (dk_at dksX5_layKins_2 1 rfl rfl)
theorem dX5_layKins_50 : decode cX5_layKins 50 = .ok (.getfield 46, 3) := dk_180 0 46 (dk_at dksX5_layKins_2 2 rfl rfl)
theorem dX5_layKins_53 : decode cX5_layKins 53 = .ok (.iload_n 2, 1) := dk_28 (dk_at dksX5_layKins_2 5 rfl rfl)
theorem dX5_layKins_54 : decode cX5_layKins 54 = .ok (.iaload, 1) := dk_46 (dk_at dksX5_layKins_2 6 rfl rfl)
theorem dX5_layKins_55 : decode cX5_layKins 55 = .ok (.iadd, 1) := dk_96 (dk_at dksX5_layKins_2 7 rfl rfl)
theorem dX5_layKins_56 : decode cX5_layKins 56 = .ok (.laload, 1) := dk_47 (dk_at dksX5_layKins_2 8 rfl rfl)
theorem dX5_layKins_57 : decode cX5_layKins 57 = .ok (.ldc2_w 242, 3) := dk_20 0 242 (dk_at dksX5_layKins_2 9 rfl rfl)
theorem dX5_layKins_60 : decode cX5_layKins 60 = .ok (.ldiv, 1) := dk_109 (dk_at dksX5_layKins_2 12 rfl rfl)
theorem dX5_layKins_61 : decode cX5_layKins 61 = .ok (.aload_n 0, 1) := dk_42 (dk_at dksX5_layKins_2 13 rfl rfl)
theorem dX5_layKins_62 : decode cX5_layKins 62 = .ok (.getfield 52, 3) := dk_180 0 52 (dk_at dksX5_layKins_2 14 rfl rfl)
theorem dX5_layKins_65 : decode cX5_layKins 65 = .ok (.bipush 24, 2) := dk_16 24 (dk_at dksX5_layKins_2 17 rfl rfl)
theorem dX5_layKins_67 : decode cX5_layKins 67 = .ok (.iload 4, 2) := dk_21 4 (dk_at dksX5_layKins_2 19 rfl rfl)
theorem dX5_layKins_69 : decode cX5_layKins 69 = .ok (.imul, 1) := dk_104 (dk_at dksX5_layKins_2 21 rfl rfl)
theorem dX5_layKins_70 : decode cX5_layKins 70 = .ok (.aload_n 0, 1) := dk_42 (dk_at dksX5_layKins_2 22 rfl rfl)
theorem dX5_layKins_71 : decode cX5_layKins 71 = .ok (.getfield 49, 3) := dk_180 0 49 (dk_at dksX5_layKins_3 0 rfl rfl)
theorem dX5_layKins_74 : decode cX5_layKins 74 = .ok (.iload_n 2, 1) := dk_28 (dk_at dksX5_layKins_3 3 rfl rfl)
theorem dX5_layKins_75 : decode cX5_layKins 75 = .ok (.iaload, 1) := dk_46 (dk_at dksX5_layKins_3 4 rfl rfl)
theorem dX5_layKins_76 : decode cX5_layKins 76 = .ok (.iadd, 1) := dk_96 (dk_at dksX5_layKins_3 5 rfl rfl)
theorem dX5_layKins_77 : decode cX5_layKins 77 = .ok (.laload, 1) := dk_47 (dk_at dksX5_layKins_3 6 rfl rfl)
theorem dX5_layKins_78 : decode cX5_layKins 78 = .ok (.ldc2_w 242, 3) := dk_20 0 242 (dk_at dksX5_layKins_3 7 rfl rfl)
theorem dX5_layKins_81 : decode cX5_layKins 81 = .ok (.ldiv, 1) := dk_109 (dk_at dksX5_layKins_3 10 rfl rfl)
theorem dX5_layKins_82 : decode cX5_layKins 82 = .ok (.ladd, 1) := dk_97 (dk_at dksX5_layKins_3 11 rfl rfl)
theorem dX5_layKins_83 : decode cX5_layKins 83 = .ok (.lstore 5, 2) := dk_55 5 (dk_at dksX5_layKins_3 12 rfl rfl)
theorem dX5_layKins_85 : decode cX5_layKins 85 = .ok (.aload_n 0, 1) := dk_42 (dk_at dksX5_layKins_3 14 rfl rfl)
theorem dX5_layKins_86 : decode cX5_layKins 86 = .ok (.getfield 52, 3) := dk_180 0 52 (dk_at dksX5_layKins_3 15 rfl rfl)
theorem dX5_layKins_89 : decode cX5_layKins 89 = .ok (.bipush 24, 2) := dk_16 24 (dk_at dksX5_layKins_3 18 rfl rfl)
theorem dX5_layKins_91 : decode cX5_layKins 91 = .ok (.iload 4, 2) := dk_21 4 (dk_at dksX5_layKins_3 20 rfl rfl)
theorem dX5_layKins_93 : decode cX5_layKins 93 = .ok (.imul, 1) := dk_104 (dk_at dksX5_layKins_3 22 rfl rfl)
theorem dX5_layKins_94 : decode cX5_layKins 94 = .ok (.iload_n 2, 1) := dk_28 (dk_at dksX5_layKins_3 23 rfl rfl)
theorem dX5_layKins_95 : decode cX5_layKins 95 = .ok (.iadd, 1) := dk_96 (dk_at dksX5_layKins_4 0 rfl rfl)
theorem dX5_layKins_96 : decode cX5_layKins 96 = .ok (.lload 5, 2) := dk_22 5 (dk_at dksX5_layKins_4 1 rfl rfl)
theorem dX5_layKins_98 : decode cX5_layKins 98 = .ok (.lastore, 1) := dk_80 (dk_at dksX5_layKins_4 3 rfl rfl)
theorem dX5_layKins_99 : decode cX5_layKins 99 = .ok (.aload_n 0, 1) := dk_42 (dk_at dksX5_layKins_4 4 rfl rfl)
theorem dX5_layKins_100 : decode cX5_layKins 100 = .ok (.getfield 52, 3) := dk_180 0 52 (dk_at dksX5_layKins_4 5 rfl rfl)
theorem dX5_layKins_103 : decode cX5_layKins 103 = .ok (.bipush 24, 2) := dk_16 24 (dk_at dksX5_layKins_4 8 rfl rfl)
theorem dX5_layKins_105 : decode cX5_layKins 105 = .ok (.iload_n 2, 1) := dk_28 (dk_at dksX5_layKins_4 10 rfl rfl)
theorem dX5_layKins_106 : decode cX5_layKins 106 = .ok (.imul, 1) := dk_104 (dk_at dksX5_layKins_4 11 rfl rfl)
theorem dX5_layKins_107 : decode cX5_layKins 107 = .ok (.iload 4, 2) := dk_21 4 (dk_at dksX5_layKins_4 12 rfl rfl)
theorem dX5_layKins_109 : decode cX5_layKins 109 = .ok (.iadd, 1) := dk_96 (dk_at dksX5_layKins_4 14 rfl rfl)
theorem dX5_layKins_110 : decode cX5_layKins 110 = .ok (.lload 5, 2) := dk_22 5 (dk_at dksX5_layKins_4 15 rfl rfl)
theorem dX5_layKins_112 : decode cX5_layKins 112 = .ok (.lastore, 1) := dk_80 (dk_at dksX5_layKins_4 17 rfl rfl)
theorem dX5_layKins_113 : decode cX5_layKins 113 = .ok (.iinc 4 1, 3) := dk_132 4 1 (dk_at dksX5_layKins_4 18 rfl rfl)
theorem dX5_layKins_116 : decode cX5_layKins 116 = .ok (.goto (-90), 3) := dk_167 255 166 (dk_at dksX5_layKins_4 21 rfl rfl)
theorem dX5_layKins_119 : decode cX5_layKins 119 = .ok (.aload_n 0, 1) := dk_42 (dk_at dksX5_layKins_5 0 rfl rfl)
theorem dX5_layKins_120 : decode cX5_layKins 120 = .ok (.getfield 52, 3) := dk_180 0 52 (dk_at dksX5_layKins_5 1 rfl rfl)
theorem dX5_layKins_123 : decode cX5_layKins 123 = .ok (.bipush 24, 2) := dk_16 24 (dk_at dksX5_layKins_5 4 rfl rfl)
theorem dX5_layKins_125 : decode cX5_layKins 125 = .ok (.iload_n 2, 1) := dk_28 (dk_at dksX5_layKins_5 6 rfl rfl)
theorem dX5_layKins_126 : decode cX5_layKins 126 = .ok (.imul, 1) := dk_104 (dk_at dksX5_layKins_5 7 rfl rfl)
theorem dX5_layKins_127 : decode cX5_layKins 127 = .ok (.iload_n 2, 1) := dk_28 (dk_at dksX5_layKins_5 8 rfl rfl)
theorem dX5_layKins_128 : decode cX5_layKins 128 = .ok (.iadd, 1) := dk_96 (dk_at dksX5_layKins_5 9 rfl rfl)
theorem dX5_layKins_129 : decode cX5_layKins 129 = .ok (.ldc2_w 244, 3) := dk_20 0 244 (dk_at dksX5_layKins_5 10 rfl rfl)
theorem dX5_layKins_132 : decode cX5_layKins 132 = .ok (.iload_n 3, 1) := dk_29 (dk_at dksX5_layKins_5 13 rfl rfl)
theorem dX5_layKins_133 : decode cX5_layKins 133 = .ok (.ifCond .eq 7, 3) := dk_153 0 7 (dk_at dksX5_layKins_5 14 rfl rfl)
theorem dX5_layKins_136 : decode cX5_layKins 136 = .ok (.lconst 0, 1) := dk_9 (dk_at dksX5_layKins_5 17 rfl rfl)
theorem dX5_layKins_137 : decode cX5_layKins 137 = .ok (.goto 28, 3) := dk_167 0 28 (dk_at dksX5_layKins_5 18 rfl rfl)
theorem dX5_layKins_140 : decode cX5_layKins 140 = .ok (.aload_n 0, 1) := dk_42 (dk_at dksX5_layKins_5 21 rfl rfl)
theorem dX5_layKins_141 : decode cX5_layKins 141 = .ok (.getfield 52, 3) := dk_180 0 52 (dk_at dksX5_layKins_6 0 rfl rfl)
theorem dX5_layKins_144 : decode cX5_layKins 144 = .ok (.bipush 24, 2) := dk_16 24 (dk_at dksX5_layKins_6 3 rfl rfl)
theorem dX5_layKins_146 : decode cX5_layKins 146 = .ok (.aload_n 0, 1) := dk_42 (dk_at dksX5_layKins_6 5 rfl rfl)
theorem dX5_layKins_147 : decode cX5_layKins 147 = .ok (.getfield 46, 3) := dk_180 0 46 (dk_at dksX5_layKins_6 6 rfl rfl)
theorem dX5_layKins_150 : decode cX5_layKins 150 = .ok (.iload_n 2, 1) := dk_28 (dk_at dksX5_layKins_6 9 rfl rfl)
theorem dX5_layKins_151 : decode cX5_layKins 151 = .ok (.iaload, 1) := dk_46 (dk_at dksX5_layKins_6 10 rfl rfl)
theorem dX5_layKins_152 : decode cX5_layKins 152 = .ok (.imul, 1) := dk_104 (dk_at dksX5_layKins_6 11 rfl rfl)
theorem dX5_layKins_153 : decode cX5_layKins 153 = .ok (.aload_n 0, 1) := dk_42 (dk_at dksX5_layKins_6 12 rfl rfl)
theorem dX5_layKins_154 : decode cX5_layKins 154 = .ok (.getfield 49, 3) := dk_180 0 49 (dk_at dksX5_layKins_6 13 rfl rfl)
theorem dX5_layKins_157 : decode cX5_layKins 157 = .ok (.iload_n 2, 1) := dk_28 (dk_at dksX5_layKins_6 16 rfl rfl)
theorem dX5_layKins_158 : decode cX5_layKins 158 = .ok (.iaload, 1) := dk_46 (dk_at dksX5_layKins_6 17 rfl rfl)
theorem dX5_layKins_159 : decode cX5_layKins 159 = .ok (.iadd, 1) := dk_96 (dk_at dksX5_layKins_6 18 rfl rfl)
theorem dX5_layKins_160 : decode cX5_layKins 160 = .ok (.laload, 1) := dk_47 (dk_at dksX5_layKins_6 19 rfl rfl)
theorem dX5_layKins_161 : decode cX5_layKins 161 = .ok (.ldc2_w 242, 3) := dk_20 0 242 (dk_at dksX5_layKins_6 20 rfl rfl)
theorem dX5_layKins_164 : decode cX5_layKins 164 = .ok (.ldiv, 1) := dk_109 (dk_at dksX5_layKins_6 23 rfl rfl)
theorem dX5_layKins_165 : decode cX5_layKins 165 = .ok (.ladd, 1) := dk_97 (dk_at dksX5_layKins_7 0 rfl rfl)
theorem dX5_layKins_166 : decode cX5_layKins 166 = .ok (.lastore, 1) := dk_80 (dk_at dksX5_layKins_7 1 rfl rfl)
theorem dX5_layKins_167 : decode cX5_layKins 167 = .ok (.iinc 2 1, 3) := dk_132 2 1 (dk_at dksX5_layKins_7 2 rfl rfl)
theorem dX5_layKins_170 : decode cX5_layKins 170 = .ok (.goto (-168), 3) := dk_167 255 88 (dk_at dksX5_layKins_7 5 rfl rfl)
theorem dX5_layKins_173 : decode cX5_layKins 173 = .ok (.return_, 1) := dk_177 (dk_at dksX5_layKins_7 8 rfl rfl)
abbrev cX5_kinOf : ByteArray := prog_16_method_32_code
def yX5_kinOf : MethodName := ⟨RX5, "kinOf", "(II)J"⟩
def dkwX5_kinOf_0 : List UInt8 := [42, 180, 0, 52, 16, 24, 27, 104, 28, 96, 47, 173]
abbrev dktX5_kinOf_0 : List UInt8 := dkwX5_kinOf_0 ++ []
theorem dksX5_kinOf_0 : cX5_kinOf.data.toList.drop 0 = dktX5_kinOf_0 := by decide +kernel
theorem dX5_kinOf_0 : decode cX5_kinOf 0 = .ok (.aload_n 0, 1) := dk_42 (dk_at dksX5_kinOf_0 0 rfl rfl)
theorem dX5_kinOf_1 : decode cX5_kinOf 1 = .ok (.getfield 52, 3) := dk_180 0 52 (dk_at dksX5_kinOf_0 1 rfl rfl)
theorem dX5_kinOf_4 : decode cX5_kinOf 4 = .ok (.bipush 24, 2) := dk_16 24 (dk_at dksX5_kinOf_0 4 rfl rfl)
theorem dX5_kinOf_6 : decode cX5_kinOf 6 = .ok (.iload_n 1, 1) := dk_27 (dk_at dksX5_kinOf_0 6 rfl rfl)
theorem dX5_kinOf_7 : decode cX5_kinOf 7 = .ok (.imul, 1) := dk_104 (dk_at dksX5_kinOf_0 7 rfl rfl)
theorem dX5_kinOf_8 : decode cX5_kinOf 8 = .ok (.iload_n 2, 1) := dk_28 (dk_at dksX5_kinOf_0 8 rfl rfl)
theorem dX5_kinOf_9 : decode cX5_kinOf 9 = .ok (.iadd, 1) := dk_96 (dk_at dksX5_kinOf_0 9 rfl rfl)
theorem dX5_kinOf_10 : decode cX5_kinOf 10 = .ok (.laload, 1) := dk_47 (dk_at dksX5_kinOf_0 10 rfl rfl)
theorem dX5_kinOf_11 : decode cX5_kinOf 11 = .ok (.lreturn, 1) := dk_173 (dk_at dksX5_kinOf_0 11 rfl rfl)
abbrev cX5_young : ByteArray := prog_16_method_35_code
def yX5_young : MethodName := ⟨RX5, "young", "(III)J"⟩
def dkwX5_young_2 : List UInt8 := [182, 1, 0, 16, 28, 123, 173]
abbrev dktX5_young_2 : List UInt8 := dkwX5_young_2 ++ []
def dkwX5_young_1 : List UInt8 := [182, 0, 239, 154, 0, 7, 20, 0, 250, 173, 42, 42, 180, 0, 232, 9, 182, 0, 252, 42, 27, 28, 29]
abbrev dktX5_young_1 : List UInt8 := dkwX5_young_1 ++ dktX5_young_2
def dkwX5_young_0 : List UInt8 := [42, 3, 181, 0, 111, 42, 27, 182, 0, 239, 153, 0, 19, 42, 28, 182, 0, 239, 153, 0, 11, 42, 29]
abbrev dktX5_young_0 : List UInt8 := dkwX5_young_0 ++ dktX5_young_1
theorem dksX5_young_0 : cX5_young.data.toList.drop 0 = dktX5_young_0 := by decide +kernel
theorem dksX5_young_1 : cX5_young.data.toList.drop 23 = dktX5_young_1 := dk_seg dksX5_young_0 23 rfl rfl
theorem dksX5_young_2 : cX5_young.data.toList.drop 46 = dktX5_young_2 := dk_seg dksX5_young_1 23 rfl rfl
theorem dX5_young_0 : decode cX5_young 0 = .ok (.aload_n 0, 1) := dk_42 (dk_at dksX5_young_0 0 rfl rfl)
theorem dX5_young_1 : decode cX5_young 1 = .ok (.iconst 0, 1) := dk_3 (dk_at dksX5_young_0 1 rfl rfl)
theorem dX5_young_2 : decode cX5_young 2 = .ok (.putfield 111, 3) := dk_181 0 111 (dk_at dksX5_young_0 2 rfl rfl)
theorem dX5_young_5 : decode cX5_young 5 = .ok (.aload_n 0, 1) := dk_42 (dk_at dksX5_young_0 5 rfl rfl)
theorem dX5_young_6 : decode cX5_young 6 = .ok (.iload_n 1, 1) := dk_27 (dk_at dksX5_young_0 6 rfl rfl)
theorem dX5_young_7 : decode cX5_young 7 = .ok (.invokevirtual 239, 3) := dk_182 0 239 (dk_at dksX5_young_0 7 rfl rfl)
theorem dX5_young_10 : decode cX5_young 10 = .ok (.ifCond .eq 19, 3) := dk_153 0 19 (dk_at dksX5_young_0 10 rfl rfl)
theorem dX5_young_13 : decode cX5_young 13 = .ok (.aload_n 0, 1) := dk_42 (dk_at dksX5_young_0 13 rfl rfl)
theorem dX5_young_14 : decode cX5_young 14 = .ok (.iload_n 2, 1) := dk_28 (dk_at dksX5_young_0 14 rfl rfl)
theorem dX5_young_15 : decode cX5_young 15 = .ok (.invokevirtual 239, 3) := dk_182 0 239 (dk_at dksX5_young_0 15 rfl rfl)
theorem dX5_young_18 : decode cX5_young 18 = .ok (.ifCond .eq 11, 3) := dk_153 0 11 (dk_at dksX5_young_0 18 rfl rfl)
theorem dX5_young_21 : decode cX5_young 21 = .ok (.aload_n 0, 1) := dk_42 (dk_at dksX5_young_0 21 rfl rfl)
theorem dX5_young_22 : decode cX5_young 22 = .ok (.iload_n 3, 1) := dk_29 (dk_at dksX5_young_0 22 rfl rfl)
theorem dX5_young_23 : decode cX5_young 23 = .ok (.invokevirtual 239, 3) := dk_182 0 239 (dk_at dksX5_young_1 0 rfl rfl)
theorem dX5_young_26 : decode cX5_young 26 = .ok (.ifCond .ne 7, 3) := dk_154 0 7 (dk_at dksX5_young_1 3 rfl rfl)
theorem dX5_young_29 : decode cX5_young 29 = .ok (.ldc2_w 250, 3) := dk_20 0 250 (dk_at dksX5_young_1 6 rfl rfl)
theorem dX5_young_32 : decode cX5_young 32 = .ok (.lreturn, 1) := dk_173 (dk_at dksX5_young_1 9 rfl rfl)
theorem dX5_young_33 : decode cX5_young 33 = .ok (.aload_n 0, 1) := dk_42 (dk_at dksX5_young_1 10 rfl rfl)
theorem dX5_young_34 : decode cX5_young 34 = .ok (.aload_n 0, 1) := dk_42 (dk_at dksX5_young_1 11 rfl rfl)
theorem dX5_young_35 : decode cX5_young 35 = .ok (.getfield 232, 3) := dk_180 0 232 (dk_at dksX5_young_1 12 rfl rfl)
theorem dX5_young_38 : decode cX5_young 38 = .ok (.lconst 0, 1) := dk_9 (dk_at dksX5_young_1 15 rfl rfl)
theorem dX5_young_39 : decode cX5_young 39 = .ok (.invokevirtual 252, 3) := dk_182 0 252 (dk_at dksX5_young_1 16 rfl rfl)
theorem dX5_young_42 : decode cX5_young 42 = .ok (.aload_n 0, 1) := dk_42 (dk_at dksX5_young_1 19 rfl rfl)
theorem dX5_young_43 : decode cX5_young 43 = .ok (.iload_n 1, 1) := dk_27 (dk_at dksX5_young_1 20 rfl rfl)
theorem dX5_young_44 : decode cX5_young 44 = .ok (.iload_n 2, 1) := dk_28 (dk_at dksX5_young_1 21 rfl rfl)
theorem dX5_young_45 : decode cX5_young 45 = .ok (.iload_n 3, 1) := dk_29 (dk_at dksX5_young_1 22 rfl rfl)
theorem dX5_young_46 : decode cX5_young 46 = .ok (.invokevirtual 256, 3) := dk_182 1 0 (dk_at dksX5_young_2 0 rfl rfl)
theorem dX5_young_49 : decode cX5_young 49 = .ok (.bipush 28, 2) := dk_16 28 (dk_at dksX5_young_2 3 rfl rfl)
theorem dX5_young_51 : decode cX5_young 51 = .ok (.lshr, 1) := dk_123 (dk_at dksX5_young_2 5 rfl rfl)
theorem dX5_young_52 : decode cX5_young 52 = .ok (.lreturn, 1) := dk_173 (dk_at dksX5_young_2 6 rfl rfl)
abbrev cX5_kinWithYoung : ByteArray := prog_16_method_33_code
def yX5_kinWithYoung : MethodName := ⟨RX5, "kinWithYoung", "(III)J"⟩
def dkwX5_kinWithYoung_0 : List UInt8 := [42, 27, 28, 182, 0, 246, 20, 0, 242, 109, 42, 27, 29, 182, 0, 246, 20, 0, 242, 109, 97, 173]
abbrev dktX5_kinWithYoung_0 : List UInt8 := dkwX5_kinWithYoung_0 ++ []
theorem dksX5_kinWithYoung_0 : cX5_kinWithYoung.data.toList.drop 0 = dktX5_kinWithYoung_0 := by decide +kernel
theorem dX5_kinWithYoung_0 : decode cX5_kinWithYoung 0 = .ok (.aload_n 0, 1) := dk_42 (dk_at dksX5_kinWithYoung_0 0 rfl rfl)
theorem dX5_kinWithYoung_1 : decode cX5_kinWithYoung 1 = .ok (.iload_n 1, 1) := dk_27 (dk_at dksX5_kinWithYoung_0 1 rfl rfl)
theorem dX5_kinWithYoung_2 : decode cX5_kinWithYoung 2 = .ok (.iload_n 2, 1) := dk_28 (dk_at dksX5_kinWithYoung_0 2 rfl rfl)
theorem dX5_kinWithYoung_3 : decode cX5_kinWithYoung 3 = .ok (.invokevirtual 246, 3) := dk_182 0 246 (dk_at dksX5_kinWithYoung_0 3 rfl rfl)
theorem dX5_kinWithYoung_6 : decode cX5_kinWithYoung 6 = .ok (.ldc2_w 242, 3) := dk_20 0 242 (dk_at dksX5_kinWithYoung_0 6 rfl rfl)
theorem dX5_kinWithYoung_9 : decode cX5_kinWithYoung 9 = .ok (.ldiv, 1) := dk_109 (dk_at dksX5_kinWithYoung_0 9 rfl rfl)
theorem dX5_kinWithYoung_10 : decode cX5_kinWithYoung 10 = .ok (.aload_n 0, 1) := dk_42 (dk_at dksX5_kinWithYoung_0 10 rfl rfl)
theorem dX5_kinWithYoung_11 : decode cX5_kinWithYoung 11 = .ok (.iload_n 1, 1) := dk_27 (dk_at dksX5_kinWithYoung_0 11 rfl rfl)
theorem dX5_kinWithYoung_12 : decode cX5_kinWithYoung 12 = .ok (.iload_n 3, 1) := dk_29 (dk_at dksX5_kinWithYoung_0 12 rfl rfl)
theorem dX5_kinWithYoung_13 : decode cX5_kinWithYoung 13 = .ok (.invokevirtual 246, 3) := dk_182 0 246 (dk_at dksX5_kinWithYoung_0 13 rfl rfl)
theorem dX5_kinWithYoung_16 : decode cX5_kinWithYoung 16 = .ok (.ldc2_w 242, 3) := dk_20 0 242 (dk_at dksX5_kinWithYoung_0 16 rfl rfl)
theorem dX5_kinWithYoung_19 : decode cX5_kinWithYoung 19 = .ok (.ldiv, 1) := dk_109 (dk_at dksX5_kinWithYoung_0 19 rfl rfl)
theorem dX5_kinWithYoung_20 : decode cX5_kinWithYoung 20 = .ok (.ladd, 1) := dk_97 (dk_at dksX5_kinWithYoung_0 20 rfl rfl)
theorem dX5_kinWithYoung_21 : decode cX5_kinWithYoung 21 = .ok (.lreturn, 1) := dk_173 (dk_at dksX5_kinWithYoung_0 21 rfl rfl)
abbrev cX5_worthIt : ByteArray := prog_16_method_36_code
def yX5_worthIt : MethodName := ⟨RX5, "worthIt", "(IIIII)I"⟩
def dkwX5_worthIt_5 : List UInt8 := [133, 22, 8, 105, 148, 158, 0, 6, 21, 10, 172, 132, 10, 1, 167, 255, 226, 2, 172]
abbrev dktX5_worthIt_5 : List UInt8 := dkwX5_worthIt_5 ++ []
def dkwX5_worthIt_4 : List UInt8 := [16, 28, 123, 55, 8, 4, 54, 10, 21, 10, 17, 3, 232, 163, 0, 28, 21, 10, 133, 22, 6, 105, 21, 5]
abbrev dktX5_worthIt_4 : List UInt8 := dkwX5_worthIt_4 ++ dktX5_worthIt_5
def dkwX5_worthIt_3 : List UInt8 := [182, 0, 252, 42, 27, 28, 29, 182, 1, 0, 16, 28, 123, 55, 6, 42, 27, 27, 21, 4, 182, 1, 0]
abbrev dktX5_worthIt_3 : List UInt8 := dkwX5_worthIt_3 ++ dktX5_worthIt_4
def dkwX5_worthIt_2 : List UInt8 := [159, 0, 14, 21, 5, 3, 16, 99, 184, 0, 235, 154, 0, 5, 2, 172, 42, 42, 180, 0, 232, 9]
abbrev dktX5_worthIt_2 : List UInt8 := dkwX5_worthIt_2 ++ dktX5_worthIt_3
def dkwX5_worthIt_1 : List UInt8 := [182, 0, 239, 153, 0, 34, 28, 29, 159, 0, 29, 42, 21, 4, 182, 0, 239, 153, 0, 20, 21, 4, 27]
abbrev dktX5_worthIt_1 : List UInt8 := dkwX5_worthIt_1 ++ dktX5_worthIt_2
def dkwX5_worthIt_0 : List UInt8 := [42, 3, 181, 0, 111, 42, 27, 182, 0, 239, 153, 0, 50, 42, 28, 182, 0, 239, 153, 0, 42, 42, 29]
abbrev dktX5_worthIt_0 : List UInt8 := dkwX5_worthIt_0 ++ dktX5_worthIt_1
theorem dksX5_worthIt_0 : cX5_worthIt.data.toList.drop 0 = dktX5_worthIt_0 := by decide +kernel
theorem dksX5_worthIt_1 : cX5_worthIt.data.toList.drop 23 = dktX5_worthIt_1 := dk_seg dksX5_worthIt_0 23 rfl rfl
theorem dksX5_worthIt_2 : cX5_worthIt.data.toList.drop 46 = dktX5_worthIt_2 := dk_seg dksX5_worthIt_1 23 rfl rfl
theorem dksX5_worthIt_3 : cX5_worthIt.data.toList.drop 68 = dktX5_worthIt_3 := dk_seg dksX5_worthIt_2 22 rfl rfl
theorem dksX5_worthIt_4 : cX5_worthIt.data.toList.drop 91 = dktX5_worthIt_4 := dk_seg dksX5_worthIt_3 23 rfl rfl
theorem dksX5_worthIt_5 : cX5_worthIt.data.toList.drop 115 = dktX5_worthIt_5 := dk_seg dksX5_worthIt_4 24 rfl rfl
theorem dX5_worthIt_0 : decode cX5_worthIt 0 = .ok (.aload_n 0, 1) := dk_42 (dk_at dksX5_worthIt_0 0 rfl rfl)
theorem dX5_worthIt_1 : decode cX5_worthIt 1 = .ok (.iconst 0, 1) := dk_3 (dk_at dksX5_worthIt_0 1 rfl rfl)
theorem dX5_worthIt_2 : decode cX5_worthIt 2 = .ok (.putfield 111, 3) := dk_181 0 111 (dk_at dksX5_worthIt_0 2 rfl rfl)
theorem dX5_worthIt_5 : decode cX5_worthIt 5 = .ok (.aload_n 0, 1) := dk_42 (dk_at dksX5_worthIt_0 5 rfl rfl)
theorem dX5_worthIt_6 : decode cX5_worthIt 6 = .ok (.iload_n 1, 1) := dk_27 (dk_at dksX5_worthIt_0 6 rfl rfl)
theorem dX5_worthIt_7 : decode cX5_worthIt 7 = .ok (.invokevirtual 239, 3) := dk_182 0 239 (dk_at dksX5_worthIt_0 7 rfl rfl)
theorem dX5_worthIt_10 : decode cX5_worthIt 10 = .ok (.ifCond .eq 50, 3) := dk_153 0 50 (dk_at dksX5_worthIt_0 10 rfl rfl)
theorem dX5_worthIt_13 : decode cX5_worthIt 13 = .ok (.aload_n 0, 1) := dk_42 (dk_at dksX5_worthIt_0 13 rfl rfl)
theorem dX5_worthIt_14 : decode cX5_worthIt 14 = .ok (.iload_n 2, 1) := dk_28 (dk_at dksX5_worthIt_0 14 rfl rfl)
theorem dX5_worthIt_15 : decode cX5_worthIt 15 = .ok (.invokevirtual 239, 3) := dk_182 0 239 (dk_at dksX5_worthIt_0 15 rfl rfl)
theorem dX5_worthIt_18 : decode cX5_worthIt 18 = .ok (.ifCond .eq 42, 3) := dk_153 0 42 (dk_at dksX5_worthIt_0 18 rfl rfl)
theorem dX5_worthIt_21 : decode cX5_worthIt 21 = .ok (.aload_n 0, 1) := dk_42 (dk_at dksX5_worthIt_0 21 rfl rfl)
theorem dX5_worthIt_22 : decode cX5_worthIt 22 = .ok (.iload_n 3, 1) := dk_29 (dk_at dksX5_worthIt_0 22 rfl rfl)
theorem dX5_worthIt_23 : decode cX5_worthIt 23 = .ok (.invokevirtual 239, 3) := dk_182 0 239 (dk_at dksX5_worthIt_1 0 rfl rfl)
theorem dX5_worthIt_26 : decode cX5_worthIt 26 = .ok (.ifCond .eq 34, 3) := dk_153 0 34 (dk_at dksX5_worthIt_1 3 rfl rfl)
theorem dX5_worthIt_29 : decode cX5_worthIt 29 = .ok (.iload_n 2, 1) := dk_28 (dk_at dksX5_worthIt_1 6 rfl rfl)
theorem dX5_worthIt_30 : decode cX5_worthIt 30 = .ok (.iload_n 3, 1) := dk_29 (dk_at dksX5_worthIt_1 7 rfl rfl)
theorem dX5_worthIt_31 : decode cX5_worthIt 31 = .ok (.if_icmp .eq 29, 3) := dk_159 0 29 (dk_at dksX5_worthIt_1 8 rfl rfl)
theorem dX5_worthIt_34 : decode cX5_worthIt 34 = .ok (.aload_n 0, 1) := dk_42 (dk_at dksX5_worthIt_1 11 rfl rfl)
theorem dX5_worthIt_35 : decode cX5_worthIt 35 = .ok (.iload 4, 2) := dk_21 4 (dk_at dksX5_worthIt_1 12 rfl rfl)
theorem dX5_worthIt_37 : decode cX5_worthIt 37 = .ok (.invokevirtual 239, 3) := dk_182 0 239 (dk_at dksX5_worthIt_1 14 rfl rfl)
theorem dX5_worthIt_40 : decode cX5_worthIt 40 = .ok (.ifCond .eq 20, 3) := dk_153 0 20 (dk_at dksX5_worthIt_1 17 rfl rfl)
theorem dX5_worthIt_43 : decode cX5_worthIt 43 = .ok (.iload 4, 2) := dk_21 4 (dk_at dksX5_worthIt_1 20 rfl rfl)
theorem dX5_worthIt_45 : decode cX5_worthIt 45 = .ok (.iload_n 1, 1) := dk_27 (dk_at dksX5_worthIt_1 22 rfl rfl)
theorem dX5_worthIt_46 : decode cX5_worthIt 46 = .ok (.if_icmp .eq 14, 3) := dk_159 0 14 (dk_at dksX5_worthIt_2 0 rfl rfl)
theorem dX5_worthIt_49 : decode cX5_worthIt 49 = .ok (.iload 5, 2) := dk_21 5 (dk_at dksX5_worthIt_2 3 rfl rfl)
theorem dX5_worthIt_51 : decode cX5_worthIt 51 = .ok (.iconst 0, 1) := dk_3 (dk_at dksX5_worthIt_2 5 rfl rfl)
theorem dX5_worthIt_52 : decode cX5_worthIt 52 = .ok (.bipush 99, 2) := dk_16 99 (dk_at dksX5_worthIt_2 6 rfl rfl)
theorem dX5_worthIt_54 : decode cX5_worthIt 54 = .ok (.invokestatic 235, 3) := dk_184 0 235 (dk_at dksX5_worthIt_2 8 rfl rfl)
theorem dX5_worthIt_57 : decode cX5_worthIt 57 = .ok (.ifCond .ne 5, 3) := dk_154 0 5 (dk_at dksX5_worthIt_2 11 rfl rfl)
theorem dX5_worthIt_60 : decode cX5_worthIt 60 = .ok (.iconst (-1), 1) := dk_2 (dk_at dksX5_worthIt_2 14 rfl rfl)
theorem dX5_worthIt_61 : decode cX5_worthIt 61 = .ok (.ireturn, 1) := dk_172 (dk_at dksX5_worthIt_2 15 rfl rfl)
theorem dX5_worthIt_62 : decode cX5_worthIt 62 = .ok (.aload_n 0, 1) := dk_42 (dk_at dksX5_worthIt_2 16 rfl rfl)
theorem dX5_worthIt_63 : decode cX5_worthIt 63 = .ok (.aload_n 0, 1) := dk_42 (dk_at dksX5_worthIt_2 17 rfl rfl)
theorem dX5_worthIt_64 : decode cX5_worthIt 64 = .ok (.getfield 232, 3) := dk_180 0 232 (dk_at dksX5_worthIt_2 18 rfl rfl)
theorem dX5_worthIt_67 : decode cX5_worthIt 67 = .ok (.lconst 0, 1) := dk_9 (dk_at dksX5_worthIt_2 21 rfl rfl)
theorem dX5_worthIt_68 : decode cX5_worthIt 68 = .ok (.invokevirtual 252, 3) := dk_182 0 252 (dk_at dksX5_worthIt_3 0 rfl rfl)
theorem dX5_worthIt_71 : decode cX5_worthIt 71 = .ok (.aload_n 0, 1) := dk_42 (dk_at dksX5_worthIt_3 3 rfl rfl)
theorem dX5_worthIt_72 : decode cX5_worthIt 72 = .ok (.iload_n 1, 1) := dk_27 (dk_at dksX5_worthIt_3 4 rfl rfl)
theorem dX5_worthIt_73 : decode cX5_worthIt 73 = .ok (.iload_n 2, 1) := dk_28 (dk_at dksX5_worthIt_3 5 rfl rfl)
theorem dX5_worthIt_74 : decode cX5_worthIt 74 = .ok (.iload_n 3, 1) := dk_29 (dk_at dksX5_worthIt_3 6 rfl rfl)
theorem dX5_worthIt_75 : decode cX5_worthIt 75 = .ok (.invokevirtual 256, 3) := dk_182 1 0 (dk_at dksX5_worthIt_3 7 rfl rfl)
theorem dX5_worthIt_78 : decode cX5_worthIt 78 = .ok (.bipush 28, 2) := dk_16 28 (dk_at dksX5_worthIt_3 10 rfl rfl)
theorem dX5_worthIt_80 : decode cX5_worthIt 80 = .ok (.lshr, 1) := dk_123 (dk_at dksX5_worthIt_3 12 rfl rfl)
theorem dX5_worthIt_81 : decode cX5_worthIt 81 = .ok (.lstore 6, 2) := dk_55 6 (dk_at dksX5_worthIt_3 13 rfl rfl)
theorem dX5_worthIt_83 : decode cX5_worthIt 83 = .ok (.aload_n 0, 1) := dk_42 (dk_at dksX5_worthIt_3 15 rfl rfl)
theorem dX5_worthIt_84 : decode cX5_worthIt 84 = .ok (.iload_n 1, 1) := dk_27 (dk_at dksX5_worthIt_3 16 rfl rfl)
theorem dX5_worthIt_85 : decode cX5_worthIt 85 = .ok (.iload_n 1, 1) := dk_27 (dk_at dksX5_worthIt_3 17 rfl rfl)
theorem dX5_worthIt_86 : decode cX5_worthIt 86 = .ok (.iload 4, 2) := dk_21 4 (dk_at dksX5_worthIt_3 18 rfl rfl)
theorem dX5_worthIt_88 : decode cX5_worthIt 88 = .ok (.invokevirtual 256, 3) := dk_182 1 0 (dk_at dksX5_worthIt_3 20 rfl rfl)
theorem dX5_worthIt_91 : decode cX5_worthIt 91 = .ok (.bipush 28, 2) := dk_16 28 (dk_at dksX5_worthIt_4 0 rfl rfl)
theorem dX5_worthIt_93 : decode cX5_worthIt 93 = .ok (.lshr, 1) := dk_123 (dk_at dksX5_worthIt_4 2 rfl rfl)
theorem dX5_worthIt_94 : decode cX5_worthIt 94 = .ok (.lstore 8, 2) := dk_55 8 (dk_at dksX5_worthIt_4 3 rfl rfl)
theorem dX5_worthIt_96 : decode cX5_worthIt 96 = .ok (.iconst 1, 1) := dk_4 (dk_at dksX5_worthIt_4 5 rfl rfl)
theorem dX5_worthIt_97 : decode cX5_worthIt 97 = .ok (.istore 10, 2) := dk_54 10 (dk_at dksX5_worthIt_4 6 rfl rfl)
theorem dX5_worthIt_99 : decode cX5_worthIt 99 = .ok (.iload 10, 2) := dk_21 10 (dk_at dksX5_worthIt_4 8 rfl rfl)
theorem dX5_worthIt_101 : decode cX5_worthIt 101 = .ok (.sipush 1000, 3) := dk_17 3 232 (dk_at dksX5_worthIt_4 10 rfl rfl)
theorem dX5_worthIt_104 : decode cX5_worthIt 104 = .ok (.if_icmp .gt 28, 3) := dk_163 0 28 (dk_at dksX5_worthIt_4 13 rfl rfl)
theorem dX5_worthIt_107 : decode cX5_worthIt 107 = .ok (.iload 10, 2) := dk_21 10 (dk_at dksX5_worthIt_4 16 rfl rfl)
theorem dX5_worthIt_109 : decode cX5_worthIt 109 = .ok (.i2l, 1) := dk_133 (dk_at dksX5_worthIt_4 18 rfl rfl)
theorem dX5_worthIt_110 : decode cX5_worthIt 110 = .ok (.lload 6, 2) := dk_22 6 (dk_at dksX5_worthIt_4 19 rfl rfl)
theorem dX5_worthIt_112 : decode cX5_worthIt 112 = .ok (.lmul, 1) := dk_105 (dk_at dksX5_worthIt_4 21 rfl rfl)
theorem dX5_worthIt_113 : decode cX5_worthIt 113 = .ok (.iload 5, 2) := dk_21 5 (dk_at dksX5_worthIt_4 22 rfl rfl)
theorem dX5_worthIt_115 : decode cX5_worthIt 115 = .ok (.i2l, 1) := dk_133 (dk_at dksX5_worthIt_5 0 rfl rfl)
theorem dX5_worthIt_116 : decode cX5_worthIt 116 = .ok (.lload 8, 2) := dk_22 8 (dk_at dksX5_worthIt_5 1 rfl rfl)
theorem dX5_worthIt_118 : decode cX5_worthIt 118 = .ok (.lmul, 1) := dk_105 (dk_at dksX5_worthIt_5 3 rfl rfl)
theorem dX5_worthIt_119 : decode cX5_worthIt 119 = .ok (.lcmp, 1) := dk_148 (dk_at dksX5_worthIt_5 4 rfl rfl)
theorem dX5_worthIt_120 : decode cX5_worthIt 120 = .ok (.ifCond .le 6, 3) := dk_158 0 6 (dk_at dksX5_worthIt_5 5 rfl rfl)
theorem dX5_worthIt_123 : decode cX5_worthIt 123 = .ok (.iload 10, 2) := dk_21 10 (dk_at dksX5_worthIt_5 8 rfl rfl)
theorem dX5_worthIt_125 : decode cX5_worthIt 125 = .ok (.ireturn, 1) := dk_172 (dk_at dksX5_worthIt_5 10 rfl rfl)
theorem dX5_worthIt_126 : decode cX5_worthIt 126 = .ok (.iinc 10 1, 3) := dk_132 10 1 (dk_at dksX5_worthIt_5 11 rfl rfl)
theorem dX5_worthIt_129 : decode cX5_worthIt 129 = .ok (.goto (-30), 3) := dk_167 255 226 (dk_at dksX5_worthIt_5 14 rfl rfl)
theorem dX5_worthIt_132 : decode cX5_worthIt 132 = .ok (.iconst (-1), 1) := dk_2 (dk_at dksX5_worthIt_5 17 rfl rfl)
theorem dX5_worthIt_133 : decode cX5_worthIt 133 = .ok (.ireturn, 1) := dk_172 (dk_at dksX5_worthIt_5 18 rfl rfl)
abbrev cX5_reign : ByteArray := prog_16_method_37_code
def yX5_reign : MethodName := ⟨RX5, "reign", "(II)Z"⟩
def dkwX5_reign_1 : List UInt8 := [160, 0, 5, 3, 172, 42, 27, 181, 0, 56, 42, 28, 181, 0, 60, 4, 172]
abbrev dktX5_reign_1 : List UInt8 := dkwX5_reign_1 ++ []
def dkwX5_reign_0 : List UInt8 := [42, 3, 181, 0, 111, 42, 27, 182, 0, 239, 153, 0, 16, 42, 28, 182, 0, 239, 153, 0, 8, 27, 28]
abbrev dktX5_reign_0 : List UInt8 := dkwX5_reign_0 ++ dktX5_reign_1
theorem dksX5_reign_0 : cX5_reign.data.toList.drop 0 = dktX5_reign_0 := by decide +kernel
theorem dksX5_reign_1 : cX5_reign.data.toList.drop 23 = dktX5_reign_1 := dk_seg dksX5_reign_0 23 rfl rfl
theorem dX5_reign_0 : decode cX5_reign 0 = .ok (.aload_n 0, 1) := dk_42 (dk_at dksX5_reign_0 0 rfl rfl)
theorem dX5_reign_1 : decode cX5_reign 1 = .ok (.iconst 0, 1) := dk_3 (dk_at dksX5_reign_0 1 rfl rfl)
theorem dX5_reign_2 : decode cX5_reign 2 = .ok (.putfield 111, 3) := dk_181 0 111 (dk_at dksX5_reign_0 2 rfl rfl)
theorem dX5_reign_5 : decode cX5_reign 5 = .ok (.aload_n 0, 1) := dk_42 (dk_at dksX5_reign_0 5 rfl rfl)
theorem dX5_reign_6 : decode cX5_reign 6 = .ok (.iload_n 1, 1) := dk_27 (dk_at dksX5_reign_0 6 rfl rfl)
theorem dX5_reign_7 : decode cX5_reign 7 = .ok (.invokevirtual 239, 3) := dk_182 0 239 (dk_at dksX5_reign_0 7 rfl rfl)
theorem dX5_reign_10 : decode cX5_reign 10 = .ok (.ifCond .eq 16, 3) := dk_153 0 16 (dk_at dksX5_reign_0 10 rfl rfl)
theorem dX5_reign_13 : decode cX5_reign 13 = .ok (.aload_n 0, 1) := dk_42 (dk_at dksX5_reign_0 13 rfl rfl)
theorem dX5_reign_14 : decode cX5_reign 14 = .ok (.iload_n 2, 1) := dk_28 (dk_at dksX5_reign_0 14 rfl rfl)
theorem dX5_reign_15 : decode cX5_reign 15 = .ok (.invokevirtual 239, 3) := dk_182 0 239 (dk_at dksX5_reign_0 15 rfl rfl)
theorem dX5_reign_18 : decode cX5_reign 18 = .ok (.ifCond .eq 8, 3) := dk_153 0 8 (dk_at dksX5_reign_0 18 rfl rfl)
theorem dX5_reign_21 : decode cX5_reign 21 = .ok (.iload_n 1, 1) := dk_27 (dk_at dksX5_reign_0 21 rfl rfl)
theorem dX5_reign_22 : decode cX5_reign 22 = .ok (.iload_n 2, 1) := dk_28 (dk_at dksX5_reign_0 22 rfl rfl)
theorem dX5_reign_23 : decode cX5_reign 23 = .ok (.if_icmp .ne 5, 3) := dk_160 0 5 (dk_at dksX5_reign_1 0 rfl rfl)
theorem dX5_reign_26 : decode cX5_reign 26 = .ok (.iconst 0, 1) := dk_3 (dk_at dksX5_reign_1 3 rfl rfl)
theorem dX5_reign_27 : decode cX5_reign 27 = .ok (.ireturn, 1) := dk_172 (dk_at dksX5_reign_1 4 rfl rfl)
theorem dX5_reign_28 : decode cX5_reign 28 = .ok (.aload_n 0, 1) := dk_42 (dk_at dksX5_reign_1 5 rfl rfl)
theorem dX5_reign_29 : decode cX5_reign 29 = .ok (.iload_n 1, 1) := dk_27 (dk_at dksX5_reign_1 6 rfl rfl)
theorem dX5_reign_30 : decode cX5_reign 30 = .ok (.putfield 56, 3) := dk_181 0 56 (dk_at dksX5_reign_1 7 rfl rfl)
theorem dX5_reign_33 : decode cX5_reign 33 = .ok (.aload_n 0, 1) := dk_42 (dk_at dksX5_reign_1 10 rfl rfl)
theorem dX5_reign_34 : decode cX5_reign 34 = .ok (.iload_n 2, 1) := dk_28 (dk_at dksX5_reign_1 11 rfl rfl)
theorem dX5_reign_35 : decode cX5_reign 35 = .ok (.putfield 60, 3) := dk_181 0 60 (dk_at dksX5_reign_1 12 rfl rfl)
theorem dX5_reign_38 : decode cX5_reign 38 = .ok (.iconst 1, 1) := dk_4 (dk_at dksX5_reign_1 15 rfl rfl)
theorem dX5_reign_39 : decode cX5_reign 39 = .ok (.ireturn, 1) := dk_172 (dk_at dksX5_reign_1 16 rfl rfl)
abbrev cX5_set : ByteArray := prog_16_method_40_code
def yX5_set : MethodName := ⟨RX5, "set", "(II)Z"⟩
def dkwX5_set_1 : List UInt8 := [184, 0, 235, 154, 0, 5, 3, 172, 42, 180, 0, 63, 27, 28, 79, 4, 172]
abbrev dktX5_set_1 : List UInt8 := dkwX5_set_1 ++ []
def dkwX5_set_0 : List UInt8 := [42, 3, 181, 0, 111, 27, 3, 16, 8, 184, 0, 235, 153, 0, 18, 28, 27, 184, 1, 4, 27, 184, 1, 7]
abbrev dktX5_set_0 : List UInt8 := dkwX5_set_0 ++ dktX5_set_1
theorem dksX5_set_0 : cX5_set.data.toList.drop 0 = dktX5_set_0 := by decide +kernel
theorem dksX5_set_1 : cX5_set.data.toList.drop 24 = dktX5_set_1 := dk_seg dksX5_set_0 24 rfl rfl
theorem dX5_set_0 : decode cX5_set 0 = .ok (.aload_n 0, 1) := dk_42 (dk_at dksX5_set_0 0 rfl rfl)
theorem dX5_set_1 : decode cX5_set 1 = .ok (.iconst 0, 1) := dk_3 (dk_at dksX5_set_0 1 rfl rfl)
theorem dX5_set_2 : decode cX5_set 2 = .ok (.putfield 111, 3) := dk_181 0 111 (dk_at dksX5_set_0 2 rfl rfl)
theorem dX5_set_5 : decode cX5_set 5 = .ok (.iload_n 1, 1) := dk_27 (dk_at dksX5_set_0 5 rfl rfl)
theorem dX5_set_6 : decode cX5_set 6 = .ok (.iconst 0, 1) := dk_3 (dk_at dksX5_set_0 6 rfl rfl)
theorem dX5_set_7 : decode cX5_set 7 = .ok (.bipush 8, 2) := dk_16 8 (dk_at dksX5_set_0 7 rfl rfl)
theorem dX5_set_9 : decode cX5_set 9 = .ok (.invokestatic 235, 3) := dk_184 0 235 (dk_at dksX5_set_0 9 rfl rfl)
theorem dX5_set_12 : decode cX5_set 12 = .ok (.ifCond .eq 18, 3) := dk_153 0 18 (dk_at dksX5_set_0 12 rfl rfl)
theorem dX5_set_15 : decode cX5_set 15 = .ok (.iload_n 2, 1) := dk_28 (dk_at dksX5_set_0 15 rfl rfl)
theorem dX5_set_16 : decode cX5_set 16 = .ok (.iload_n 1, 1) := dk_27 (dk_at dksX5_set_0 16 rfl rfl)
theorem dX5_set_17 : decode cX5_set 17 = .ok (.invokestatic 260, 3) := dk_184 1 4 (dk_at dksX5_set_0 17 rfl rfl)
theorem dX5_set_20 : decode cX5_set 20 = .ok (.iload_n 1, 1) := dk_27 (dk_at dksX5_set_0 20 rfl rfl)
theorem dX5_set_21 : decode cX5_set 21 = .ok (.invokestatic 263, 3) := dk_184 1 7 (dk_at dksX5_set_0 21 rfl rfl)
theorem dX5_set_24 : decode cX5_set 24 = .ok (.invokestatic 235, 3) := dk_184 0 235 (dk_at dksX5_set_1 0 rfl rfl)
theorem dX5_set_27 : decode cX5_set 27 = .ok (.ifCond .ne 5, 3) := dk_154 0 5 (dk_at dksX5_set_1 3 rfl rfl)
theorem dX5_set_30 : decode cX5_set 30 = .ok (.iconst 0, 1) := dk_3 (dk_at dksX5_set_1 6 rfl rfl)
theorem dX5_set_31 : decode cX5_set 31 = .ok (.ireturn, 1) := dk_172 (dk_at dksX5_set_1 7 rfl rfl)
theorem dX5_set_32 : decode cX5_set 32 = .ok (.aload_n 0, 1) := dk_42 (dk_at dksX5_set_1 8 rfl rfl)
theorem dX5_set_33 : decode cX5_set 33 = .ok (.getfield 63, 3) := dk_180 0 63 (dk_at dksX5_set_1 9 rfl rfl)
theorem dX5_set_36 : decode cX5_set 36 = .ok (.iload_n 1, 1) := dk_27 (dk_at dksX5_set_1 12 rfl rfl)
theorem dX5_set_37 : decode cX5_set 37 = .ok (.iload_n 2, 1) := dk_28 (dk_at dksX5_set_1 13 rfl rfl)
theorem dX5_set_38 : decode cX5_set 38 = .ok (.iastore, 1) := dk_79 (dk_at dksX5_set_1 14 rfl rfl)
theorem dX5_set_39 : decode cX5_set 39 = .ok (.iconst 1, 1) := dk_4 (dk_at dksX5_set_1 15 rfl rfl)
theorem dX5_set_40 : decode cX5_set 40 = .ok (.ireturn, 1) := dk_172 (dk_at dksX5_set_1 16 rfl rfl)
abbrev cX5_leastOf : ByteArray := prog_16_method_38_code
def yX5_leastOf : MethodName := ⟨RX5, "leastOf", "(I)I"⟩
def dkwX5_leastOf_0 : List UInt8 := [26, 7, 160, 0, 7, 4, 167, 0, 14, 26, 16, 8, 160, 0, 7, 2, 167, 0, 4, 3, 172]
abbrev dktX5_leastOf_0 : List UInt8 := dkwX5_leastOf_0 ++ []
theorem dksX5_leastOf_0 : cX5_leastOf.data.toList.drop 0 = dktX5_leastOf_0 := by decide +kernel
theorem dX5_leastOf_0 : decode cX5_leastOf 0 = .ok (.iload_n 0, 1) := dk_26 (dk_at dksX5_leastOf_0 0 rfl rfl)
theorem dX5_leastOf_1 : decode cX5_leastOf 1 = .ok (.iconst 4, 1) := dk_7 (dk_at dksX5_leastOf_0 1 rfl rfl)
theorem dX5_leastOf_2 : decode cX5_leastOf 2 = .ok (.if_icmp .ne 7, 3) := dk_160 0 7 (dk_at dksX5_leastOf_0 2 rfl rfl)
theorem dX5_leastOf_5 : decode cX5_leastOf 5 = .ok (.iconst 1, 1) := dk_4 (dk_at dksX5_leastOf_0 5 rfl rfl)
theorem dX5_leastOf_6 : decode cX5_leastOf 6 = .ok (.goto 14, 3) := dk_167 0 14 (dk_at dksX5_leastOf_0 6 rfl rfl)
theorem dX5_leastOf_9 : decode cX5_leastOf 9 = .ok (.iload_n 0, 1) := dk_26 (dk_at dksX5_leastOf_0 9 rfl rfl)
theorem dX5_leastOf_10 : decode cX5_leastOf 10 = .ok (.bipush 8, 2) := dk_16 8 (dk_at dksX5_leastOf_0 10 rfl rfl)
theorem dX5_leastOf_12 : decode cX5_leastOf 12 = .ok (.if_icmp .ne 7, 3) := dk_160 0 7 (dk_at dksX5_leastOf_0 12 rfl rfl)
theorem dX5_leastOf_15 : decode cX5_leastOf 15 = .ok (.iconst (-1), 1) := dk_2 (dk_at dksX5_leastOf_0 15 rfl rfl)
theorem dX5_leastOf_16 : decode cX5_leastOf 16 = .ok (.goto 4, 3) := dk_167 0 4 (dk_at dksX5_leastOf_0 16 rfl rfl)
theorem dX5_leastOf_19 : decode cX5_leastOf 19 = .ok (.iconst 0, 1) := dk_3 (dk_at dksX5_leastOf_0 19 rfl rfl)
theorem dX5_leastOf_20 : decode cX5_leastOf 20 = .ok (.ireturn, 1) := dk_172 (dk_at dksX5_leastOf_0 20 rfl rfl)
abbrev cX5_mostOf : ByteArray := prog_16_method_39_code
def yX5_mostOf : MethodName := ⟨RX5, "mostOf", "(I)I"⟩
def dkwX5_mostOf_2 : List UInt8 := [17, 39, 15, 172, 17, 3, 231, 172, 16, 12, 172, 16, 9, 172, 16, 99, 172, 16, 23, 172, 16, 100, 172]
abbrev dktX5_mostOf_2 : List UInt8 := dkwX5_mostOf_2 ++ []
def dkwX5_mostOf_1 : List UInt8 := [170, 0, 0, 0, 0, 0, 71, 0, 0, 0, 0, 0, 0, 0, 8, 0, 0, 0, 51, 0, 0, 0, 71, 0, 0, 0, 55, 0, 0, 0, 71, 0, 0, 0, 59, 0, 0, 0, 62, 0, 0, 0, 65, 0, 0, 0, 71, 0, 0, 0, 68]
abbrev dktX5_mostOf_1 : List UInt8 := dkwX5_mostOf_1 ++ dktX5_mostOf_2
def dkwX5_mostOf_0 : List UInt8 := [26]
abbrev dktX5_mostOf_0 : List UInt8 := dkwX5_mostOf_0 ++ dktX5_mostOf_1
theorem dksX5_mostOf_0 : cX5_mostOf.data.toList.drop 0 = dktX5_mostOf_0 := by decide +kernel
theorem dksX5_mostOf_1 : cX5_mostOf.data.toList.drop 1 = dktX5_mostOf_1 := dk_seg dksX5_mostOf_0 1 rfl rfl
theorem dksX5_mostOf_2 : cX5_mostOf.data.toList.drop 52 = dktX5_mostOf_2 := dk_seg dksX5_mostOf_1 51 rfl rfl
theorem dX5_mostOf_0 : decode cX5_mostOf 0 = .ok (.iload_n 0, 1) := dk_26 (dk_at dksX5_mostOf_0 0 rfl rfl)
theorem dX5_mostOf_1 : decode cX5_mostOf 1 = .ok (.tableswitch 71 0 8 #[51, 71, 55, 71, 59, 62, 65, 71, 68], 51) := by decide +kernel
theorem dX5_mostOf_52 : decode cX5_mostOf 52 = .ok (.sipush 9999, 3) := dk_17 39 15 (dk_at dksX5_mostOf_2 0 rfl rfl)
theorem dX5_mostOf_55 : decode cX5_mostOf 55 = .ok (.ireturn, 1) := dk_172 (dk_at dksX5_mostOf_2 3 rfl rfl)
theorem dX5_mostOf_56 : decode cX5_mostOf 56 = .ok (.sipush 999, 3) := dk_17 3 231 (dk_at dksX5_mostOf_2 4 rfl rfl)
theorem dX5_mostOf_59 : decode cX5_mostOf 59 = .ok (.ireturn, 1) := dk_172 (dk_at dksX5_mostOf_2 7 rfl rfl)
theorem dX5_mostOf_60 : decode cX5_mostOf 60 = .ok (.bipush 12, 2) := dk_16 12 (dk_at dksX5_mostOf_2 8 rfl rfl)
theorem dX5_mostOf_62 : decode cX5_mostOf 62 = .ok (.ireturn, 1) := dk_172 (dk_at dksX5_mostOf_2 10 rfl rfl)
theorem dX5_mostOf_63 : decode cX5_mostOf 63 = .ok (.bipush 9, 2) := dk_16 9 (dk_at dksX5_mostOf_2 11 rfl rfl)
theorem dX5_mostOf_65 : decode cX5_mostOf 65 = .ok (.ireturn, 1) := dk_172 (dk_at dksX5_mostOf_2 13 rfl rfl)
theorem dX5_mostOf_66 : decode cX5_mostOf 66 = .ok (.bipush 99, 2) := dk_16 99 (dk_at dksX5_mostOf_2 14 rfl rfl)
theorem dX5_mostOf_68 : decode cX5_mostOf 68 = .ok (.ireturn, 1) := dk_172 (dk_at dksX5_mostOf_2 16 rfl rfl)
theorem dX5_mostOf_69 : decode cX5_mostOf 69 = .ok (.bipush 23, 2) := dk_16 23 (dk_at dksX5_mostOf_2 17 rfl rfl)
theorem dX5_mostOf_71 : decode cX5_mostOf 71 = .ok (.ireturn, 1) := dk_172 (dk_at dksX5_mostOf_2 19 rfl rfl)
theorem dX5_mostOf_72 : decode cX5_mostOf 72 = .ok (.bipush 100, 2) := dk_16 100 (dk_at dksX5_mostOf_2 20 rfl rfl)
theorem dX5_mostOf_74 : decode cX5_mostOf 74 = .ok (.ireturn, 1) := dk_172 (dk_at dksX5_mostOf_2 22 rfl rfl)
abbrev cX5_told : ByteArray := prog_16_method_41_code
def yX5_told : MethodName := ⟨RX5, "told", "(I)I"⟩
def dkwX5_told_1 : List UInt8 := [17, 252, 24, 172]
abbrev dktX5_told_1 : List UInt8 := dkwX5_told_1 ++ []
def dkwX5_told_0 : List UInt8 := [42, 3, 181, 0, 111, 27, 3, 16, 8, 184, 0, 235, 153, 0, 12, 42, 180, 0, 63, 27, 46, 167, 0, 6]
abbrev dktX5_told_0 : List UInt8 := dkwX5_told_0 ++ dktX5_told_1
theorem dksX5_told_0 : cX5_told.data.toList.drop 0 = dktX5_told_0 := by decide +kernel
theorem dksX5_told_1 : cX5_told.data.toList.drop 24 = dktX5_told_1 := dk_seg dksX5_told_0 24 rfl rfl
theorem dX5_told_0 : decode cX5_told 0 = .ok (.aload_n 0, 1) := dk_42 (dk_at dksX5_told_0 0 rfl rfl)
theorem dX5_told_1 : decode cX5_told 1 = .ok (.iconst 0, 1) := dk_3 (dk_at dksX5_told_0 1 rfl rfl)
theorem dX5_told_2 : decode cX5_told 2 = .ok (.putfield 111, 3) := dk_181 0 111 (dk_at dksX5_told_0 2 rfl rfl)
theorem dX5_told_5 : decode cX5_told 5 = .ok (.iload_n 1, 1) := dk_27 (dk_at dksX5_told_0 5 rfl rfl)
theorem dX5_told_6 : decode cX5_told 6 = .ok (.iconst 0, 1) := dk_3 (dk_at dksX5_told_0 6 rfl rfl)
theorem dX5_told_7 : decode cX5_told 7 = .ok (.bipush 8, 2) := dk_16 8 (dk_at dksX5_told_0 7 rfl rfl)
theorem dX5_told_9 : decode cX5_told 9 = .ok (.invokestatic 235, 3) := dk_184 0 235 (dk_at dksX5_told_0 9 rfl rfl)
theorem dX5_told_12 : decode cX5_told 12 = .ok (.ifCond .eq 12, 3) := dk_153 0 12 (dk_at dksX5_told_0 12 rfl rfl)
theorem dX5_told_15 : decode cX5_told 15 = .ok (.aload_n 0, 1) := dk_42 (dk_at dksX5_told_0 15 rfl rfl)
theorem dX5_told_16 : decode cX5_told 16 = .ok (.getfield 63, 3) := dk_180 0 63 (dk_at dksX5_told_0 16 rfl rfl)
theorem dX5_told_19 : decode cX5_told 19 = .ok (.iload_n 1, 1) := dk_27 (dk_at dksX5_told_0 19 rfl rfl)
theorem dX5_told_20 : decode cX5_told 20 = .ok (.iaload, 1) := dk_46 (dk_at dksX5_told_0 20 rfl rfl)
theorem dX5_told_21 : decode cX5_told 21 = .ok (.goto 6, 3) := dk_167 0 6 (dk_at dksX5_told_0 21 rfl rfl)
theorem dX5_told_24 : decode cX5_told 24 = .ok (.sipush (-1000), 3) := dk_17 252 24 (dk_at dksX5_told_1 0 rfl rfl)
theorem dX5_told_27 : decode cX5_told 27 = .ok (.ireturn, 1) := dk_172 (dk_at dksX5_told_1 3 rfl rfl)
abbrev cX5_rain : ByteArray := prog_16_method_42_code
def yX5_rain : MethodName := ⟨RX5, "rain", "(III)Z"⟩
def dkwX5_rain_2 : List UInt8 := [42, 180, 0, 66, 21, 4, 29, 79, 132, 4, 1, 167, 255, 239, 4, 172]
abbrev dktX5_rain_2 : List UInt8 := dkwX5_rain_2 ++ []
def dkwX5_rain_1 : List UInt8 := [153, 0, 13, 29, 3, 16, 99, 184, 0, 235, 154, 0, 5, 3, 172, 27, 54, 4, 21, 4, 28, 163, 0, 17]
abbrev dktX5_rain_1 : List UInt8 := dkwX5_rain_1 ++ dktX5_rain_2
def dkwX5_rain_0 : List UInt8 := [42, 3, 181, 0, 111, 27, 3, 16, 23, 184, 0, 235, 153, 0, 23, 28, 27, 16, 23, 184, 0, 235]
abbrev dktX5_rain_0 : List UInt8 := dkwX5_rain_0 ++ dktX5_rain_1
theorem dksX5_rain_0 : cX5_rain.data.toList.drop 0 = dktX5_rain_0 := by decide +kernel
theorem dksX5_rain_1 : cX5_rain.data.toList.drop 22 = dktX5_rain_1 := dk_seg dksX5_rain_0 22 rfl rfl
theorem dksX5_rain_2 : cX5_rain.data.toList.drop 46 = dktX5_rain_2 := dk_seg dksX5_rain_1 24 rfl rfl
theorem dX5_rain_0 : decode cX5_rain 0 = .ok (.aload_n 0, 1) := dk_42 (dk_at dksX5_rain_0 0 rfl rfl)
theorem dX5_rain_1 : decode cX5_rain 1 = .ok (.iconst 0, 1) := dk_3 (dk_at dksX5_rain_0 1 rfl rfl)
theorem dX5_rain_2 : decode cX5_rain 2 = .ok (.putfield 111, 3) := dk_181 0 111 (dk_at dksX5_rain_0 2 rfl rfl)
theorem dX5_rain_5 : decode cX5_rain 5 = .ok (.iload_n 1, 1) := dk_27 (dk_at dksX5_rain_0 5 rfl rfl)
theorem dX5_rain_6 : decode cX5_rain 6 = .ok (.iconst 0, 1) := dk_3 (dk_at dksX5_rain_0 6 rfl rfl)
theorem dX5_rain_7 : decode cX5_rain 7 = .ok (.bipush 23, 2) := dk_16 23 (dk_at dksX5_rain_0 7 rfl rfl)
theorem dX5_rain_9 : decode cX5_rain 9 = .ok (.invokestatic 235, 3) := dk_184 0 235 (dk_at dksX5_rain_0 9 rfl rfl)
theorem dX5_rain_12 : decode cX5_rain 12 = .ok (.ifCond .eq 23, 3) := dk_153 0 23 (dk_at dksX5_rain_0 12 rfl rfl)
theorem dX5_rain_15 : decode cX5_rain 15 = .ok (.iload_n 2, 1) := dk_28 (dk_at dksX5_rain_0 15 rfl rfl)
theorem dX5_rain_16 : decode cX5_rain 16 = .ok (.iload_n 1, 1) := dk_27 (dk_at dksX5_rain_0 16 rfl rfl)
theorem dX5_rain_17 : decode cX5_rain 17 = .ok (.bipush 23, 2) := dk_16 23 (dk_at dksX5_rain_0 17 rfl rfl)
theorem dX5_rain_19 : decode cX5_rain 19 = .ok (.invokestatic 235, 3) := dk_184 0 235 (dk_at dksX5_rain_0 19 rfl rfl)
theorem dX5_rain_22 : decode cX5_rain 22 = .ok (.ifCond .eq 13, 3) := dk_153 0 13 (dk_at dksX5_rain_1 0 rfl rfl)
theorem dX5_rain_25 : decode cX5_rain 25 = .ok (.iload_n 3, 1) := dk_29 (dk_at dksX5_rain_1 3 rfl rfl)
theorem dX5_rain_26 : decode cX5_rain 26 = .ok (.iconst 0, 1) := dk_3 (dk_at dksX5_rain_1 4 rfl rfl)
theorem dX5_rain_27 : decode cX5_rain 27 = .ok (.bipush 99, 2) := dk_16 99 (dk_at dksX5_rain_1 5 rfl rfl)
theorem dX5_rain_29 : decode cX5_rain 29 = .ok (.invokestatic 235, 3) := dk_184 0 235 (dk_at dksX5_rain_1 7 rfl rfl)
theorem dX5_rain_32 : decode cX5_rain 32 = .ok (.ifCond .ne 5, 3) := dk_154 0 5 (dk_at dksX5_rain_1 10 rfl rfl)
theorem dX5_rain_35 : decode cX5_rain 35 = .ok (.iconst 0, 1) := dk_3 (dk_at dksX5_rain_1 13 rfl rfl)
theorem dX5_rain_36 : decode cX5_rain 36 = .ok (.ireturn, 1) := dk_172 (dk_at dksX5_rain_1 14 rfl rfl)
theorem dX5_rain_37 : decode cX5_rain 37 = .ok (.iload_n 1, 1) := dk_27 (dk_at dksX5_rain_1 15 rfl rfl)
theorem dX5_rain_38 : decode cX5_rain 38 = .ok (.istore 4, 2) := dk_54 4 (dk_at dksX5_rain_1 16 rfl rfl)
theorem dX5_rain_40 : decode cX5_rain 40 = .ok (.iload 4, 2) := dk_21 4 (dk_at dksX5_rain_1 18 rfl rfl)
theorem dX5_rain_42 : decode cX5_rain 42 = .ok (.iload_n 2, 1) := dk_28 (dk_at dksX5_rain_1 20 rfl rfl)
theorem dX5_rain_43 : decode cX5_rain 43 = .ok (.if_icmp .gt 17, 3) := dk_163 0 17 (dk_at dksX5_rain_1 21 rfl rfl)
theorem dX5_rain_46 : decode cX5_rain 46 = .ok (.aload_n 0, 1) := dk_42 (dk_at dksX5_rain_2 0 rfl rfl)
theorem dX5_rain_47 : decode cX5_rain 47 = .ok (.getfield 66, 3) := dk_180 0 66 (dk_at dksX5_rain_2 1 rfl rfl)
theorem dX5_rain_50 : decode cX5_rain 50 = .ok (.iload 4, 2) := dk_21 4 (dk_at dksX5_rain_2 4 rfl rfl)
theorem dX5_rain_52 : decode cX5_rain 52 = .ok (.iload_n 3, 1) := dk_29 (dk_at dksX5_rain_2 6 rfl rfl)
theorem dX5_rain_53 : decode cX5_rain 53 = .ok (.iastore, 1) := dk_79 (dk_at dksX5_rain_2 7 rfl rfl)
theorem dX5_rain_54 : decode cX5_rain 54 = .ok (.iinc 4 1, 3) := dk_132 4 1 (dk_at dksX5_rain_2 8 rfl rfl)
theorem dX5_rain_57 : decode cX5_rain 57 = .ok (.goto (-17), 3) := dk_167 255 239 (dk_at dksX5_rain_2 11 rfl rfl)
theorem dX5_rain_60 : decode cX5_rain 60 = .ok (.iconst 1, 1) := dk_4 (dk_at dksX5_rain_2 14 rfl rfl)
theorem dX5_rain_61 : decode cX5_rain 61 = .ok (.ireturn, 1) := dk_172 (dk_at dksX5_rain_2 15 rfl rfl)
abbrev cX5_worth : ByteArray := prog_16_method_59_code
def yX5_worth : MethodName := ⟨RX5, "worth", "(III)I"⟩
def dkwX5_worth_3 : List UInt8 := [182, 1, 72, 172]
abbrev dktX5_worth_3 : List UInt8 := dkwX5_worth_3 ++ []
def dkwX5_worth_2 : List UInt8 := [180, 0, 232, 9, 182, 0, 252, 42, 182, 1, 86, 42, 29, 182, 1, 69, 42, 27, 18, 26, 28, 182, 0, 120]
abbrev dktX5_worth_2 : List UInt8 := dkwX5_worth_2 ++ dktX5_worth_3
def dkwX5_worth_1 : List UInt8 := [153, 0, 7, 3, 167, 0, 4, 4, 181, 0, 111, 42, 180, 0, 111, 158, 0, 5, 3, 172, 42, 42]
abbrev dktX5_worth_1 : List UInt8 := dkwX5_worth_1 ++ dktX5_worth_2
def dkwX5_worth_0 : List UInt8 := [42, 42, 27, 182, 1, 107, 153, 0, 24, 28, 3, 6, 184, 0, 235, 153, 0, 15, 42, 29, 182, 0, 239]
abbrev dktX5_worth_0 : List UInt8 := dkwX5_worth_0 ++ dktX5_worth_1
theorem dksX5_worth_0 : cX5_worth.data.toList.drop 0 = dktX5_worth_0 := by decide +kernel
theorem dksX5_worth_1 : cX5_worth.data.toList.drop 23 = dktX5_worth_1 := dk_seg dksX5_worth_0 23 rfl rfl
theorem dksX5_worth_2 : cX5_worth.data.toList.drop 45 = dktX5_worth_2 := dk_seg dksX5_worth_1 22 rfl rfl
theorem dksX5_worth_3 : cX5_worth.data.toList.drop 69 = dktX5_worth_3 := dk_seg dksX5_worth_2 24 rfl rfl
theorem dX5_worth_0 : decode cX5_worth 0 = .ok (.aload_n 0, 1) := dk_42 (dk_at dksX5_worth_0 0 rfl rfl)
theorem dX5_worth_1 : decode cX5_worth 1 = .ok (.aload_n 0, 1) := dk_42 (dk_at dksX5_worth_0 1 rfl rfl)
theorem dX5_worth_2 : decode cX5_worth 2 = .ok (.iload_n 1, 1) := dk_27 (dk_at dksX5_worth_0 2 rfl rfl)
theorem dX5_worth_3 : decode cX5_worth 3 = .ok (.invokevirtual 363, 3) := dk_182 1 107 (dk_at dksX5_worth_0 3 rfl rfl)
theorem dX5_worth_6 : decode cX5_worth 6 = .ok (.ifCond .eq 24, 3) := dk_153 0 24 (dk_at dksX5_worth_0 6 rfl rfl)
theorem dX5_worth_9 : decode cX5_worth 9 = .ok (.iload_n 2, 1) := dk_28 (dk_at dksX5_worth_0 9 rfl rfl)
theorem dX5_worth_10 : decode cX5_worth 10 = .ok (.iconst 0, 1) := dk_3 (dk_at dksX5_worth_0 10 rfl rfl)
theorem dX5_worth_11 : decode cX5_worth 11 = .ok (.iconst 3, 1) := dk_6 (dk_at dksX5_worth_0 11 rfl rfl)
theorem dX5_worth_12 : decode cX5_worth 12 = .ok (.invokestatic 235, 3) := dk_184 0 235 (dk_at dksX5_worth_0 12 rfl rfl)
theorem dX5_worth_15 : decode cX5_worth 15 = .ok (.ifCond .eq 15, 3) := dk_153 0 15 (dk_at dksX5_worth_0 15 rfl rfl)
theorem dX5_worth_18 : decode cX5_worth 18 = .ok (.aload_n 0, 1) := dk_42 (dk_at dksX5_worth_0 18 rfl rfl)
theorem dX5_worth_19 : decode cX5_worth 19 = .ok (.iload_n 3, 1) := dk_29 (dk_at dksX5_worth_0 19 rfl rfl)
theorem dX5_worth_20 : decode cX5_worth 20 = .ok (.invokevirtual 239, 3) := dk_182 0 239 (dk_at dksX5_worth_0 20 rfl rfl)
theorem dX5_worth_23 : decode cX5_worth 23 = .ok (.ifCond .eq 7, 3) := dk_153 0 7 (dk_at dksX5_worth_1 0 rfl rfl)
theorem dX5_worth_26 : decode cX5_worth 26 = .ok (.iconst 0, 1) := dk_3 (dk_at dksX5_worth_1 3 rfl rfl)
theorem dX5_worth_27 : decode cX5_worth 27 = .ok (.goto 4, 3) := dk_167 0 4 (dk_at dksX5_worth_1 4 rfl rfl)
theorem dX5_worth_30 : decode cX5_worth 30 = .ok (.iconst 1, 1) := dk_4 (dk_at dksX5_worth_1 7 rfl rfl)
theorem dX5_worth_31 : decode cX5_worth 31 = .ok (.putfield 111, 3) := dk_181 0 111 (dk_at dksX5_worth_1 8 rfl rfl)
theorem dX5_worth_34 : decode cX5_worth 34 = .ok (.aload_n 0, 1) := dk_42 (dk_at dksX5_worth_1 11 rfl rfl)
theorem dX5_worth_35 : decode cX5_worth 35 = .ok (.getfield 111, 3) := dk_180 0 111 (dk_at dksX5_worth_1 12 rfl rfl)
theorem dX5_worth_38 : decode cX5_worth 38 = .ok (.ifCond .le 5, 3) := dk_158 0 5 (dk_at dksX5_worth_1 15 rfl rfl)
theorem dX5_worth_41 : decode cX5_worth 41 = .ok (.iconst 0, 1) := dk_3 (dk_at dksX5_worth_1 18 rfl rfl)
theorem dX5_worth_42 : decode cX5_worth 42 = .ok (.ireturn, 1) := dk_172 (dk_at dksX5_worth_1 19 rfl rfl)
theorem dX5_worth_43 : decode cX5_worth 43 = .ok (.aload_n 0, 1) := dk_42 (dk_at dksX5_worth_1 20 rfl rfl)
theorem dX5_worth_44 : decode cX5_worth 44 = .ok (.aload_n 0, 1) := dk_42 (dk_at dksX5_worth_1 21 rfl rfl)
theorem dX5_worth_45 : decode cX5_worth 45 = .ok (.getfield 232, 3) := dk_180 0 232 (dk_at dksX5_worth_2 0 rfl rfl)
theorem dX5_worth_48 : decode cX5_worth 48 = .ok (.lconst 0, 1) := dk_9 (dk_at dksX5_worth_2 3 rfl rfl)
theorem dX5_worth_49 : decode cX5_worth 49 = .ok (.invokevirtual 252, 3) := dk_182 0 252 (dk_at dksX5_worth_2 4 rfl rfl)
theorem dX5_worth_52 : decode cX5_worth 52 = .ok (.aload_n 0, 1) := dk_42 (dk_at dksX5_worth_2 7 rfl rfl)
theorem dX5_worth_53 : decode cX5_worth 53 = .ok (.invokevirtual 342, 3) := dk_182 1 86 (dk_at dksX5_worth_2 8 rfl rfl)
theorem dX5_worth_56 : decode cX5_worth 56 = .ok (.aload_n 0, 1) := dk_42 (dk_at dksX5_worth_2 11 rfl rfl)
theorem dX5_worth_57 : decode cX5_worth 57 = .ok (.iload_n 3, 1) := dk_29 (dk_at dksX5_worth_2 12 rfl rfl)
theorem dX5_worth_58 : decode cX5_worth 58 = .ok (.invokevirtual 325, 3) := dk_182 1 69 (dk_at dksX5_worth_2 13 rfl rfl)
theorem dX5_worth_61 : decode cX5_worth 61 = .ok (.aload_n 0, 1) := dk_42 (dk_at dksX5_worth_2 16 rfl rfl)
theorem dX5_worth_62 : decode cX5_worth 62 = .ok (.iload_n 1, 1) := dk_27 (dk_at dksX5_worth_2 17 rfl rfl)
theorem dX5_worth_63 : decode cX5_worth 63 = .ok (.ldc 26, 2) := dk_18 26 (dk_at dksX5_worth_2 18 rfl rfl)
theorem dX5_worth_65 : decode cX5_worth 65 = .ok (.iload_n 2, 1) := dk_28 (dk_at dksX5_worth_2 20 rfl rfl)
theorem dX5_worth_66 : decode cX5_worth 66 = .ok (.invokevirtual 120, 3) := dk_182 0 120 (dk_at dksX5_worth_2 21 rfl rfl)
theorem dX5_worth_69 : decode cX5_worth 69 = .ok (.invokevirtual 328, 3) := dk_182 1 72 (dk_at dksX5_worth_3 0 rfl rfl)
theorem dX5_worth_72 : decode cX5_worth 72 = .ok (.ireturn, 1) := dk_172 (dk_at dksX5_worth_3 3 rfl rfl)
abbrev cX5_isLaw : ByteArray := prog_16_method_27_code
def yX5_isLaw : MethodName := ⟨RX5, "isLaw", "(I)Z"⟩
def dkwX5_isLaw_0 : List UInt8 := [27, 155, 0, 15, 27, 42, 180, 0, 229, 162, 0, 7, 4, 167, 0, 4, 3, 172]
abbrev dktX5_isLaw_0 : List UInt8 := dkwX5_isLaw_0 ++ []
theorem dksX5_isLaw_0 : cX5_isLaw.data.toList.drop 0 = dktX5_isLaw_0 := by decide +kernel
theorem dX5_isLaw_0 : decode cX5_isLaw 0 = .ok (.iload_n 1, 1) := dk_27 (dk_at dksX5_isLaw_0 0 rfl rfl)
theorem dX5_isLaw_1 : decode cX5_isLaw 1 = .ok (.ifCond .lt 15, 3) := dk_155 0 15 (dk_at dksX5_isLaw_0 1 rfl rfl)
theorem dX5_isLaw_4 : decode cX5_isLaw 4 = .ok (.iload_n 1, 1) := dk_27 (dk_at dksX5_isLaw_0 4 rfl rfl)
theorem dX5_isLaw_5 : decode cX5_isLaw 5 = .ok (.aload_n 0, 1) := dk_42 (dk_at dksX5_isLaw_0 5 rfl rfl)
theorem dX5_isLaw_6 : decode cX5_isLaw 6 = .ok (.getfield 229, 3) := dk_180 0 229 (dk_at dksX5_isLaw_0 6 rfl rfl)
theorem dX5_isLaw_9 : decode cX5_isLaw 9 = .ok (.if_icmp .ge 7, 3) := dk_162 0 7 (dk_at dksX5_isLaw_0 9 rfl rfl)
theorem dX5_isLaw_12 : decode cX5_isLaw 12 = .ok (.iconst 1, 1) := dk_4 (dk_at dksX5_isLaw_0 12 rfl rfl)
theorem dX5_isLaw_13 : decode cX5_isLaw 13 = .ok (.goto 4, 3) := dk_167 0 4 (dk_at dksX5_isLaw_0 13 rfl rfl)
theorem dX5_isLaw_16 : decode cX5_isLaw 16 = .ok (.iconst 0, 1) := dk_3 (dk_at dksX5_isLaw_0 16 rfl rfl)
theorem dX5_isLaw_17 : decode cX5_isLaw 17 = .ok (.ireturn, 1) := dk_172 (dk_at dksX5_isLaw_0 17 rfl rfl)
abbrev cX5_dies : ByteArray := prog_16_method_48_code
def yX5_dies : MethodName := ⟨RX5, "dies", "()V"⟩
def dkwX5_dies_2 : List UInt8 := [180, 1, 25, 4, 182, 1, 59, 177]
abbrev dktX5_dies_2 : List UInt8 := dkwX5_dies_2 ++ []
def dkwX5_dies_1 : List UInt8 := [180, 1, 25, 42, 180, 0, 56, 160, 0, 23, 42, 180, 0, 56, 42, 180, 1, 13, 162, 0, 12, 42, 42]
abbrev dktX5_dies_1 : List UInt8 := dkwX5_dies_1 ++ dktX5_dies_2
def dkwX5_dies_0 : List UInt8 := [42, 180, 0, 63, 16, 8, 46, 42, 180, 1, 34, 160, 0, 42, 42, 180, 1, 25, 2, 159, 0, 34, 42]
abbrev dktX5_dies_0 : List UInt8 := dkwX5_dies_0 ++ dktX5_dies_1
theorem dksX5_dies_0 : cX5_dies.data.toList.drop 0 = dktX5_dies_0 := by decide +kernel
theorem dksX5_dies_1 : cX5_dies.data.toList.drop 23 = dktX5_dies_1 := dk_seg dksX5_dies_0 23 rfl rfl
theorem dksX5_dies_2 : cX5_dies.data.toList.drop 46 = dktX5_dies_2 := dk_seg dksX5_dies_1 23 rfl rfl
theorem dX5_dies_0 : decode cX5_dies 0 = .ok (.aload_n 0, 1) := dk_42 (dk_at dksX5_dies_0 0 rfl rfl)
theorem dX5_dies_1 : decode cX5_dies 1 = .ok (.getfield 63, 3) := dk_180 0 63 (dk_at dksX5_dies_0 1 rfl rfl)
theorem dX5_dies_4 : decode cX5_dies 4 = .ok (.bipush 8, 2) := dk_16 8 (dk_at dksX5_dies_0 4 rfl rfl)
theorem dX5_dies_6 : decode cX5_dies 6 = .ok (.iaload, 1) := dk_46 (dk_at dksX5_dies_0 6 rfl rfl)
theorem dX5_dies_7 : decode cX5_dies 7 = .ok (.aload_n 0, 1) := dk_42 (dk_at dksX5_dies_0 7 rfl rfl)
theorem dX5_dies_8 : decode cX5_dies 8 = .ok (.getfield 290, 3) := dk_180 1 34 (dk_at dksX5_dies_0 8 rfl rfl)
theorem dX5_dies_11 : decode cX5_dies 11 = .ok (.if_icmp .ne 42, 3) := dk_160 0 42 (dk_at dksX5_dies_0 11 rfl rfl)
theorem dX5_dies_14 : decode cX5_dies 14 = .ok (.aload_n 0, 1) := dk_42 (dk_at dksX5_dies_0 14 rfl rfl)
theorem dX5_dies_15 : decode cX5_dies 15 = .ok (.getfield 281, 3) := dk_180 1 25 (dk_at dksX5_dies_0 15 rfl rfl)
theorem dX5_dies_18 : decode cX5_dies 18 = .ok (.iconst (-1), 1) := dk_2 (dk_at dksX5_dies_0 18 rfl rfl)
theorem dX5_dies_19 : decode cX5_dies 19 = .ok (.if_icmp .eq 34, 3) := dk_159 0 34 (dk_at dksX5_dies_0 19 rfl rfl)
theorem dX5_dies_22 : decode cX5_dies 22 = .ok (.aload_n 0, 1) := dk_42 (dk_at dksX5_dies_0 22 rfl rfl)
theorem dX5_dies_23 : decode cX5_dies 23 = .ok (.getfield 281, 3) := dk_180 1 25 (dk_at dksX5_dies_1 0 rfl rfl)
theorem dX5_dies_26 : decode cX5_dies 26 = .ok (.aload_n 0, 1) := dk_42 (dk_at dksX5_dies_1 3 rfl rfl)
theorem dX5_dies_27 : decode cX5_dies 27 = .ok (.getfield 56, 3) := dk_180 0 56 (dk_at dksX5_dies_1 4 rfl rfl)
theorem dX5_dies_30 : decode cX5_dies 30 = .ok (.if_icmp .ne 23, 3) := dk_160 0 23 (dk_at dksX5_dies_1 7 rfl rfl)
theorem dX5_dies_33 : decode cX5_dies 33 = .ok (.aload_n 0, 1) := dk_42 (dk_at dksX5_dies_1 10 rfl rfl)
theorem dX5_dies_34 : decode cX5_dies 34 = .ok (.getfield 56, 3) := dk_180 0 56 (dk_at dksX5_dies_1 11 rfl rfl)
theorem dX5_dies_37 : decode cX5_dies 37 = .ok (.aload_n 0, 1) := dk_42 (dk_at dksX5_dies_1 14 rfl rfl)
theorem dX5_dies_38 : decode cX5_dies 38 = .ok (.getfield 269, 3) := dk_180 1 13 (dk_at dksX5_dies_1 15 rfl rfl)
theorem dX5_dies_41 : decode cX5_dies 41 = .ok (.if_icmp .ge 12, 3) := dk_162 0 12 (dk_at dksX5_dies_1 18 rfl rfl)
theorem dX5_dies_44 : decode cX5_dies 44 = .ok (.aload_n 0, 1) := dk_42 (dk_at dksX5_dies_1 21 rfl rfl)
theorem dX5_dies_45 : decode cX5_dies 45 = .ok (.aload_n 0, 1) := dk_42 (dk_at dksX5_dies_1 22 rfl rfl)
theorem dX5_dies_46 : decode cX5_dies 46 = .ok (.getfield 281, 3) := dk_180 1 25 (dk_at dksX5_dies_2 0 rfl rfl)
theorem dX5_dies_49 : decode cX5_dies 49 = .ok (.iconst 1, 1) := dk_4 (dk_at dksX5_dies_2 3 rfl rfl)
theorem dX5_dies_50 : decode cX5_dies 50 = .ok (.invokevirtual 315, 3) := dk_182 1 59 (dk_at dksX5_dies_2 4 rfl rfl)
theorem dX5_dies_53 : decode cX5_dies 53 = .ok (.return_, 1) := dk_177 (dk_at dksX5_dies_2 7 rfl rfl)
abbrev cX5_over : ByteArray := prog_16_method_47_code
def yX5_over : MethodName := ⟨RX5, "over", "(II)V"⟩
def dkwX5_over_1 : List UInt8 := [160, 0, 8, 42, 2, 181, 1, 25, 177]
abbrev dktX5_over_1 : List UInt8 := dkwX5_over_1 ++ []
def dkwX5_over_0 : List UInt8 := [42, 180, 0, 72, 27, 28, 79, 42, 180, 0, 75, 27, 42, 180, 1, 34, 79, 27, 42, 180, 1, 25]
abbrev dktX5_over_0 : List UInt8 := dkwX5_over_0 ++ dktX5_over_1
theorem dksX5_over_0 : cX5_over.data.toList.drop 0 = dktX5_over_0 := by decide +kernel
theorem dksX5_over_1 : cX5_over.data.toList.drop 22 = dktX5_over_1 := dk_seg dksX5_over_0 22 rfl rfl
theorem dX5_over_0 : decode cX5_over 0 = .ok (.aload_n 0, 1) := dk_42 (dk_at dksX5_over_0 0 rfl rfl)
theorem dX5_over_1 : decode cX5_over 1 = .ok (.getfield 72, 3) := dk_180 0 72 (dk_at dksX5_over_0 1 rfl rfl)
theorem dX5_over_4 : decode cX5_over 4 = .ok (.iload_n 1, 1) := dk_27 (dk_at dksX5_over_0 4 rfl rfl)
theorem dX5_over_5 : decode cX5_over 5 = .ok (.iload_n 2, 1) := dk_28 (dk_at dksX5_over_0 5 rfl rfl)
theorem dX5_over_6 : decode cX5_over 6 = .ok (.iastore, 1) := dk_79 (dk_at dksX5_over_0 6 rfl rfl)
theorem dX5_over_7 : decode cX5_over 7 = .ok (.aload_n 0, 1) := dk_42 (dk_at dksX5_over_0 7 rfl rfl)
theorem dX5_over_8 : decode cX5_over 8 = .ok (.getfield 75, 3) := dk_180 0 75 (dk_at dksX5_over_0 8 rfl rfl)
theorem dX5_over_11 : decode cX5_over 11 = .ok (.iload_n 1, 1) := dk_27 (dk_at dksX5_over_0 11 rfl rfl)
theorem dX5_over_12 : decode cX5_over 12 = .ok (.aload_n 0, 1) := dk_42 (dk_at dksX5_over_0 12 rfl rfl)
theorem dX5_over_13 : decode cX5_over 13 = .ok (.getfield 290, 3) := dk_180 1 34 (dk_at dksX5_over_0 13 rfl rfl)
theorem dX5_over_16 : decode cX5_over 16 = .ok (.iastore, 1) := dk_79 (dk_at dksX5_over_0 16 rfl rfl)
theorem dX5_over_17 : decode cX5_over 17 = .ok (.iload_n 1, 1) := dk_27 (dk_at dksX5_over_0 17 rfl rfl)
theorem dX5_over_18 : decode cX5_over 18 = .ok (.aload_n 0, 1) := dk_42 (dk_at dksX5_over_0 18 rfl rfl)
theorem dX5_over_19 : decode cX5_over 19 = .ok (.getfield 281, 3) := dk_180 1 25 (dk_at dksX5_over_0 19 rfl rfl)
theorem dX5_over_22 : decode cX5_over 22 = .ok (.if_icmp .ne 8, 3) := dk_160 0 8 (dk_at dksX5_over_1 0 rfl rfl)
theorem dX5_over_25 : decode cX5_over 25 = .ok (.aload_n 0, 1) := dk_42 (dk_at dksX5_over_1 3 rfl rfl)
theorem dX5_over_26 : decode cX5_over 26 = .ok (.iconst (-1), 1) := dk_2 (dk_at dksX5_over_1 4 rfl rfl)
theorem dX5_over_27 : decode cX5_over 27 = .ok (.putfield 281, 3) := dk_181 1 25 (dk_at dksX5_over_1 5 rfl rfl)
theorem dX5_over_30 : decode cX5_over 30 = .ok (.return_, 1) := dk_177 (dk_at dksX5_over_1 8 rfl rfl)
abbrev cX5_layLetters : ByteArray := prog_16_method_50_code
def yX5_layLetters : MethodName := ⟨RX5, "layLetters", "(I)V"⟩
def dkwX5_layLetters_8 : List UInt8 := [180, 1, 16, 79, 177]
abbrev dktX5_layLetters_8 : List UInt8 := dkwX5_layLetters_8 ++ []
def dkwX5_layLetters_7 : List UInt8 := [42, 180, 1, 25, 42, 180, 1, 28, 182, 1, 0, 16, 54, 123, 136, 79, 42, 180, 0, 20, 16, 102, 42]
abbrev dktX5_layLetters_7 : List UInt8 := dkwX5_layLetters_7 ++ dktX5_layLetters_8
def dkwX5_layLetters_6 : List UInt8 := [180, 1, 25, 2, 159, 0, 14, 42, 42, 180, 1, 28, 182, 1, 22, 154, 0, 7, 3, 167, 0, 20, 42, 27]
abbrev dktX5_layLetters_6 : List UInt8 := dkwX5_layLetters_6 ++ dktX5_layLetters_7
def dkwX5_layLetters_5 : List UInt8 := [153, 0, 7, 3, 167, 0, 10, 42, 180, 0, 63, 16, 6, 46, 79, 42, 180, 0, 20, 16, 107, 42]
abbrev dktX5_layLetters_5 : List UInt8 := dkwX5_layLetters_5 ++ dktX5_layLetters_6
def dkwX5_layLetters_4 : List UInt8 := [16, 112, 42, 180, 1, 25, 2, 159, 0, 18, 42, 180, 1, 25, 27, 159, 0, 10, 42, 180, 1, 44]
abbrev dktX5_layLetters_4 : List UInt8 := dkwX5_layLetters_4 ++ dktX5_layLetters_5
def dkwX5_layLetters_3 : List UInt8 := [180, 0, 20, 16, 113, 42, 180, 1, 25, 2, 160, 0, 7, 3, 167, 0, 4, 4, 79, 42, 180, 0, 20]
abbrev dktX5_layLetters_3 : List UInt8 := dkwX5_layLetters_3 ++ dktX5_layLetters_4
def dkwX5_layLetters_2 : List UInt8 := [42, 180, 0, 20, 16, 110, 42, 182, 1, 63, 79, 42, 180, 0, 20, 16, 114, 42, 182, 1, 66, 79, 42]
abbrev dktX5_layLetters_2 : List UInt8 := dkwX5_layLetters_2 ++ dktX5_layLetters_3
def dkwX5_layLetters_1 : List UInt8 := [180, 1, 34, 42, 180, 0, 78, 27, 46, 100, 79, 42, 180, 0, 20, 16, 119, 42, 180, 0, 69, 27, 46, 79]
abbrev dktX5_layLetters_1 : List UInt8 := dkwX5_layLetters_1 ++ dktX5_layLetters_2
def dkwX5_layLetters_0 : List UInt8 := [42, 180, 0, 20, 16, 97, 42, 180, 0, 78, 27, 46, 2, 160, 0, 10, 42, 180, 1, 34, 167, 0, 14, 42]
abbrev dktX5_layLetters_0 : List UInt8 := dkwX5_layLetters_0 ++ dktX5_layLetters_1
theorem dksX5_layLetters_0 : cX5_layLetters.data.toList.drop 0 = dktX5_layLetters_0 := by decide +kernel
theorem dksX5_layLetters_1 : cX5_layLetters.data.toList.drop 24 = dktX5_layLetters_1 := dk_seg dksX5_layLetters_0 24 rfl rfl
theorem dksX5_layLetters_2 : cX5_layLetters.data.toList.drop 48 = dktX5_layLetters_2 := dk_seg dksX5_layLetters_1 24 rfl rfl
theorem dksX5_layLetters_3 : cX5_layLetters.data.toList.drop 71 = dktX5_layLetters_3 := dk_seg dksX5_layLetters_2 23 rfl rfl
theorem dksX5_layLetters_4 : cX5_layLetters.data.toList.drop 94 = dktX5_layLetters_4 := dk_seg dksX5_layLetters_3 23 rfl rfl
theorem dksX5_layLetters_5 : cX5_layLetters.data.toList.drop 116 = dktX5_layLetters_5 := dk_seg dksX5_layLetters_4 22 rfl rfl
theorem dksX5_layLetters_6 : cX5_layLetters.data.toList.drop 138 = dktX5_layLetters_6 := dk_seg dksX5_layLetters_5 22 rfl rfl
theorem dksX5_layLetters_7 : cX5_layLetters.data.toList.drop 162 = dktX5_layLetters_7 := dk_seg dksX5_layLetters_6 24 rfl rfl
theorem dksX5_layLetters_8 : cX5_layLetters.data.toList.drop 185 = dktX5_layLetters_8 := dk_seg dksX5_layLetters_7 23 rfl rfl
theorem dX5_layLetters_0 : decode cX5_layLetters 0 = .ok (.aload_n 0, 1) := dk_42 (dk_at dksX5_layLetters_0 0 rfl rfl)
theorem dX5_layLetters_1 : decode cX5_layLetters 1 = .ok (.getfield 20, 3) := dk_180 0 20 (dk_at dksX5_layLetters_0 1 rfl rfl)
theorem dX5_layLetters_4 : decode cX5_layLetters 4 = .ok (.bipush 97, 2) := dk_16 97 (dk_at dksX5_layLetters_0 4 rfl rfl)
theorem dX5_layLetters_6 : decode cX5_layLetters 6 = .ok (.aload_n 0, 1) := dk_42 (dk_at dksX5_layLetters_0 6 rfl rfl)
theorem dX5_layLetters_7 : decode cX5_layLetters 7 = .ok (.getfield 78, 3) := dk_180 0 78 (dk_at dksX5_layLetters_0 7 rfl rfl)
theorem dX5_layLetters_10 : decode cX5_layLetters 10 = .ok (.iload_n 1, 1) := dk_27 (dk_at dksX5_layLetters_0 10 rfl rfl)
theorem dX5_layLetters_11 : decode cX5_layLetters 11 = .ok (.iaload, 1) := dk_46 (dk_at dksX5_layLetters_0 11 rfl rfl)
theorem dX5_layLetters_12 : decode cX5_layLetters 12 = .ok (.iconst (-1), 1) := dk_2 (dk_at dksX5_layLetters_0 12 rfl rfl)
theorem dX5_layLetters_13 : decode cX5_layLetters 13 = .ok (.if_icmp .ne 10, 3) := dk_160 0 10 (dk_at dksX5_layLetters_0 13 rfl rfl)
theorem dX5_layLetters_16 : decode cX5_layLetters 16 = .ok (.aload_n 0, 1) := dk_42 (dk_at dksX5_layLetters_0 16 rfl rfl)
theorem dX5_layLetters_17 : decode cX5_layLetters 17 = .ok (.getfield 290, 3) := dk_180 1 34 (dk_at dksX5_layLetters_0 17 rfl rfl)
theorem dX5_layLetters_20 : decode cX5_layLetters 20 = .ok (.goto 14, 3) := dk_167 0 14 (dk_at dksX5_layLetters_0 20 rfl rfl)
theorem dX5_layLetters_23 : decode cX5_layLetters 23 = .ok (.aload_n 0, 1) := dk_42 (dk_at dksX5_layLetters_0 23 rfl rfl)
theorem dX5_layLetters_24 : decode cX5_layLetters 24 = .ok (.getfield 290, 3) := dk_180 1 34 (dk_at dksX5_layLetters_1 0 rfl rfl)
theorem dX5_layLetters_27 : decode cX5_layLetters 27 = .ok (.aload_n 0, 1) := dk_42 (dk_at dksX5_layLetters_1 3 rfl rfl)
theorem dX5_layLetters_28 : decode cX5_layLetters 28 = .ok (.getfield 78, 3) := dk_180 0 78 (dk_at dksX5_layLetters_1 4 rfl rfl)
theorem dX5_layLetters_31 : decode cX5_layLetters 31 = .ok (.iload_n 1, 1) := dk_27 (dk_at dksX5_layLetters_1 7 rfl rfl)
theorem dX5_layLetters_32 : decode cX5_layLetters 32 = .ok (.iaload, 1) := dk_46 (dk_at dksX5_layLetters_1 8 rfl rfl)
theorem dX5_layLetters_33 : decode cX5_layLetters 33 = .ok (.isub, 1) := dk_100 (dk_at dksX5_layLetters_1 9 rfl rfl)
theorem dX5_layLetters_34 : decode cX5_layLetters 34 = .ok (.iastore, 1) := dk_79 (dk_at dksX5_layLetters_1 10 rfl rfl)
theorem dX5_layLetters_35 : decode cX5_layLetters 35 = .ok (.aload_n 0, 1) := dk_42 (dk_at dksX5_layLetters_1 11 rfl rfl)
theorem dX5_layLetters_36 : decode cX5_layLetters 36 = .ok (.getfield 20, 3) := dk_180 0 20 (dk_at dksX5_layLetters_1 12 rfl rfl)
theorem dX5_layLetters_39 : decode cX5_layLetters 39 = .ok (.bipush 119, 2) := dk_16 119 (dk_at dksX5_layLetters_1 15 rfl rfl)
theorem dX5_layLetters_41 : decode cX5_layLetters 41 = .ok (.aload_n 0, 1) := dk_42 (dk_at dksX5_layLetters_1 17 rfl rfl)
theorem dX5_layLetters_42 : decode cX5_layLetters 42 = .ok (.getfield 69, 3) := dk_180 0 69 (dk_at dksX5_layLetters_1 18 rfl rfl)
theorem dX5_layLetters_45 : decode cX5_layLetters 45 = .ok (.iload_n 1, 1) := dk_27 (dk_at dksX5_layLetters_1 21 rfl rfl)
theorem dX5_layLetters_46 : decode cX5_layLetters 46 = .ok (.iaload, 1) := dk_46 (dk_at dksX5_layLetters_1 22 rfl rfl)
theorem dX5_layLetters_47 : decode cX5_layLetters 47 = .ok (.iastore, 1) := dk_79 (dk_at dksX5_layLetters_1 23 rfl rfl)
theorem dX5_layLetters_48 : decode cX5_layLetters 48 = .ok (.aload_n 0, 1) := dk_42 (dk_at dksX5_layLetters_2 0 rfl rfl)
theorem dX5_layLetters_49 : decode cX5_layLetters 49 = .ok (.getfield 20, 3) := dk_180 0 20 (dk_at dksX5_layLetters_2 1 rfl rfl)
theorem dX5_layLetters_52 : decode cX5_layLetters 52 = .ok (.bipush 110, 2) := dk_16 110 (dk_at dksX5_layLetters_2 4 rfl rfl)
theorem dX5_layLetters_54 : decode cX5_layLetters 54 = .ok (.aload_n 0, 1) := dk_42 (dk_at dksX5_layLetters_2 6 rfl rfl)
theorem dX5_layLetters_55 : decode cX5_layLetters 55 = .ok (.invokevirtual 319, 3) := dk_182 1 63 (dk_at dksX5_layLetters_2 7 rfl rfl)
theorem dX5_layLetters_58 : decode cX5_layLetters 58 = .ok (.iastore, 1) := dk_79 (dk_at dksX5_layLetters_2 10 rfl rfl)
theorem dX5_layLetters_59 : decode cX5_layLetters 59 = .ok (.aload_n 0, 1) := dk_42 (dk_at dksX5_layLetters_2 11 rfl rfl)
theorem dX5_layLetters_60 : decode cX5_layLetters 60 = .ok (.getfield 20, 3) := dk_180 0 20 (dk_at dksX5_layLetters_2 12 rfl rfl)
theorem dX5_layLetters_63 : decode cX5_layLetters 63 = .ok (.bipush 114, 2) := dk_16 114 (dk_at dksX5_layLetters_2 15 rfl rfl)
theorem dX5_layLetters_65 : decode cX5_layLetters 65 = .ok (.aload_n 0, 1) := dk_42 (dk_at dksX5_layLetters_2 17 rfl rfl)
theorem dX5_layLetters_66 : decode cX5_layLetters 66 = .ok (.invokevirtual 322, 3) := dk_182 1 66 (dk_at dksX5_layLetters_2 18 rfl rfl)
theorem dX5_layLetters_69 : decode cX5_layLetters 69 = .ok (.iastore, 1) := dk_79 (dk_at dksX5_layLetters_2 21 rfl rfl)
theorem dX5_layLetters_70 : decode cX5_layLetters 70 = .ok (.aload_n 0, 1) := dk_42 (dk_at dksX5_layLetters_2 22 rfl rfl)
theorem dX5_layLetters_71 : decode cX5_layLetters 71 = .ok (.getfield 20, 3) := dk_180 0 20 (dk_at dksX5_layLetters_3 0 rfl rfl)
theorem dX5_layLetters_74 : decode cX5_layLetters 74 = .ok (.bipush 113, 2) := dk_16 113 (dk_at dksX5_layLetters_3 3 rfl rfl)
theorem dX5_layLetters_76 : decode cX5_layLetters 76 = .ok (.aload_n 0, 1) := dk_42 (dk_at dksX5_layLetters_3 5 rfl rfl)
theorem dX5_layLetters_77 : decode cX5_layLetters 77 = .ok (.getfield 281, 3) := dk_180 1 25 (dk_at dksX5_layLetters_3 6 rfl rfl)
theorem dX5_layLetters_80 : decode cX5_layLetters 80 = .ok (.iconst (-1), 1) := dk_2 (dk_at dksX5_layLetters_3 9 rfl rfl)
theorem dX5_layLetters_81 : decode cX5_layLetters 81 = .ok (.if_icmp .ne 7, 3) := dk_160 0 7 (dk_at dksX5_layLetters_3 10 rfl rfl)
theorem dX5_layLetters_84 : decode cX5_layLetters 84 = .ok (.iconst 0, 1) := dk_3 (dk_at dksX5_layLetters_3 13 rfl rfl)
theorem dX5_layLetters_85 : decode cX5_layLetters 85 = .ok (.goto 4, 3) := dk_167 0 4 (dk_at dksX5_layLetters_3 14 rfl rfl)
theorem dX5_layLetters_88 : decode cX5_layLetters 88 = .ok (.iconst 1, 1) := dk_4 (dk_at dksX5_layLetters_3 17 rfl rfl)
theorem dX5_layLetters_89 : decode cX5_layLetters 89 = .ok (.iastore, 1) := dk_79 (dk_at dksX5_layLetters_3 18 rfl rfl)
theorem dX5_layLetters_90 : decode cX5_layLetters 90 = .ok (.aload_n 0, 1) := dk_42 (dk_at dksX5_layLetters_3 19 rfl rfl)
theorem dX5_layLetters_91 : decode cX5_layLetters 91 = .ok (.getfield 20, 3) := dk_180 0 20 (dk_at dksX5_layLetters_3 20 rfl rfl)
theorem dX5_layLetters_94 : decode cX5_layLetters 94 = .ok (.bipush 112, 2) := dk_16 112 (dk_at dksX5_layLetters_4 0 rfl rfl)
theorem dX5_layLetters_96 : decode cX5_layLetters 96 = .ok (.aload_n 0, 1) := dk_42 (dk_at dksX5_layLetters_4 2 rfl rfl)
theorem dX5_layLetters_97 : decode cX5_layLetters 97 = .ok (.getfield 281, 3) := dk_180 1 25 (dk_at dksX5_layLetters_4 3 rfl rfl)
theorem dX5_layLetters_100 : decode cX5_layLetters 100 = .ok (.iconst (-1), 1) := dk_2 (dk_at dksX5_layLetters_4 6 rfl rfl)
theorem dX5_layLetters_101 : decode cX5_layLetters 101 = .ok (.if_icmp .eq 18, 3) := dk_159 0 18 (dk_at dksX5_layLetters_4 7 rfl rfl)
theorem dX5_layLetters_104 : decode cX5_layLetters 104 = .ok (.aload_n 0, 1) := dk_42 (dk_at dksX5_layLetters_4 10 rfl rfl)
theorem dX5_layLetters_105 : decode cX5_layLetters 105 = .ok (.getfield 281, 3) := dk_180 1 25 (dk_at dksX5_layLetters_4 11 rfl rfl)
theorem dX5_layLetters_108 : decode cX5_layLetters 108 = .ok (.iload_n 1, 1) := dk_27 (dk_at dksX5_layLetters_4 14 rfl rfl)
theorem dX5_layLetters_109 : decode cX5_layLetters 109 = .ok (.if_icmp .eq 10, 3) := dk_159 0 10 (dk_at dksX5_layLetters_4 15 rfl rfl)
theorem dX5_layLetters_112 : decode cX5_layLetters 112 = .ok (.aload_n 0, 1) := dk_42 (dk_at dksX5_layLetters_4 18 rfl rfl)
theorem dX5_layLetters_113 : decode cX5_layLetters 113 = .ok (.getfield 300, 3) := dk_180 1 44 (dk_at dksX5_layLetters_4 19 rfl rfl)
theorem dX5_layLetters_116 : decode cX5_layLetters 116 = .ok (.ifCond .eq 7, 3) := dk_153 0 7 (dk_at dksX5_layLetters_5 0 rfl rfl)
theorem dX5_layLetters_119 : decode cX5_layLetters 119 = .ok (.iconst 0, 1) := dk_3 (dk_at dksX5_layLetters_5 3 rfl rfl)
theorem dX5_layLetters_120 : decode cX5_layLetters 120 = .ok (.goto 10, 3) := dk_167 0 10 (dk_at dksX5_layLetters_5 4 rfl rfl)
theorem dX5_layLetters_123 : decode cX5_layLetters 123 = .ok (.aload_n 0, 1) := dk_42 (dk_at dksX5_layLetters_5 7 rfl rfl)
theorem dX5_layLetters_124 : decode cX5_layLetters 124 = .ok (.getfield 63, 3) := dk_180 0 63 (dk_at dksX5_layLetters_5 8 rfl rfl)
theorem dX5_layLetters_127 : decode cX5_layLetters 127 = .ok (.bipush 6, 2) := dk_16 6 (dk_at dksX5_layLetters_5 11 rfl rfl)
theorem dX5_layLetters_129 : decode cX5_layLetters 129 = .ok (.iaload, 1) := dk_46 (dk_at dksX5_layLetters_5 13 rfl rfl)
theorem dX5_layLetters_130 : decode cX5_layLetters 130 = .ok (.iastore, 1) := dk_79 (dk_at dksX5_layLetters_5 14 rfl rfl)
theorem dX5_layLetters_131 : decode cX5_layLetters 131 = .ok (.aload_n 0, 1) := dk_42 (dk_at dksX5_layLetters_5 15 rfl rfl)
theorem dX5_layLetters_132 : decode cX5_layLetters 132 = .ok (.getfield 20, 3) := dk_180 0 20 (dk_at dksX5_layLetters_5 16 rfl rfl)
theorem dX5_layLetters_135 : decode cX5_layLetters 135 = .ok (.bipush 107, 2) := dk_16 107 (dk_at dksX5_layLetters_5 19 rfl rfl)
theorem dX5_layLetters_137 : decode cX5_layLetters 137 = .ok (.aload_n 0, 1) := dk_42 (dk_at dksX5_layLetters_5 21 rfl rfl)
theorem dX5_layLetters_138 : decode cX5_layLetters 138 = .ok (.getfield 281, 3) := dk_180 1 25 (dk_at dksX5_layLetters_6 0 rfl rfl)
theorem dX5_layLetters_141 : decode cX5_layLetters 141 = .ok (.iconst (-1), 1) := dk_2 (dk_at dksX5_layLetters_6 3 rfl rfl)
theorem dX5_layLetters_142 : decode cX5_layLetters 142 = .ok (.if_icmp .eq 14, 3) := dk_159 0 14 (dk_at dksX5_layLetters_6 4 rfl rfl)
theorem dX5_layLetters_145 : decode cX5_layLetters 145 = .ok (.aload_n 0, 1) := dk_42 (dk_at dksX5_layLetters_6 7 rfl rfl)
theorem dX5_layLetters_146 : decode cX5_layLetters 146 = .ok (.aload_n 0, 1) := dk_42 (dk_at dksX5_layLetters_6 8 rfl rfl)
theorem dX5_layLetters_147 : decode cX5_layLetters 147 = .ok (.getfield 284, 3) := dk_180 1 28 (dk_at dksX5_layLetters_6 9 rfl rfl)
theorem dX5_layLetters_150 : decode cX5_layLetters 150 = .ok (.invokevirtual 278, 3) := dk_182 1 22 (dk_at dksX5_layLetters_6 12 rfl rfl)
theorem dX5_layLetters_153 : decode cX5_layLetters 153 = .ok (.ifCond .ne 7, 3) := dk_154 0 7 (dk_at dksX5_layLetters_6 15 rfl rfl)
theorem dX5_layLetters_156 : decode cX5_layLetters 156 = .ok (.iconst 0, 1) := dk_3 (dk_at dksX5_layLetters_6 18 rfl rfl)
theorem dX5_layLetters_157 : decode cX5_layLetters 157 = .ok (.goto 20, 3) := dk_167 0 20 (dk_at dksX5_layLetters_6 19 rfl rfl)
theorem dX5_layLetters_160 : decode cX5_layLetters 160 = .ok (.aload_n 0, 1) := dk_42 (dk_at dksX5_layLetters_6 22 rfl rfl)
theorem dX5_layLetters_161 : decode cX5_layLetters 161 = .ok (.iload_n 1, 1) := dk_27 (dk_at dksX5_layLetters_6 23 rfl rfl)
theorem dX5_layLetters_162 : decode cX5_layLetters 162 = .ok (.aload_n 0, 1) := dk_42 (dk_at dksX5_layLetters_7 0 rfl rfl)
theorem dX5_layLetters_163 : decode cX5_layLetters 163 = .ok (.getfield 281, 3) := dk_180 1 25 (dk_at dksX5_layLetters_7 1 rfl rfl)
theorem dX5_layLetters_166 : decode cX5_layLetters 166 = .ok (.aload_n 0, 1) := dk_42 (dk_at dksX5_layLetters_7 4 rfl rfl)
theorem dX5_layLetters_167 : decode cX5_layLetters 167 = .ok (.getfield 284, 3) := dk_180 1 28 (dk_at dksX5_layLetters_7 5 rfl rfl)
theorem dX5_layLetters_170 : decode cX5_layLetters 170 = .ok (.invokevirtual 256, 3) := dk_182 1 0 (dk_at dksX5_layLetters_7 8 rfl rfl)
theorem dX5_layLetters_173 : decode cX5_layLetters 173 = .ok (.bipush 54, 2) := dk_16 54 (dk_at dksX5_layLetters_7 11 rfl rfl)
theorem dX5_layLetters_175 : decode cX5_layLetters 175 = .ok (.lshr, 1) := dk_123 (dk_at dksX5_layLetters_7 13 rfl rfl)
theorem dX5_layLetters_176 : decode cX5_layLetters 176 = .ok (.l2i, 1) := dk_136 (dk_at dksX5_layLetters_7 14 rfl rfl)
theorem dX5_layLetters_177 : decode cX5_layLetters 177 = .ok (.iastore, 1) := dk_79 (dk_at dksX5_layLetters_7 15 rfl rfl)
theorem dX5_layLetters_178 : decode cX5_layLetters 178 = .ok (.aload_n 0, 1) := dk_42 (dk_at dksX5_layLetters_7 16 rfl rfl)
theorem dX5_layLetters_179 : decode cX5_layLetters 179 = .ok (.getfield 20, 3) := dk_180 0 20 (dk_at dksX5_layLetters_7 17 rfl rfl)
theorem dX5_layLetters_182 : decode cX5_layLetters 182 = .ok (.bipush 102, 2) := dk_16 102 (dk_at dksX5_layLetters_7 20 rfl rfl)
theorem dX5_layLetters_184 : decode cX5_layLetters 184 = .ok (.aload_n 0, 1) := dk_42 (dk_at dksX5_layLetters_7 22 rfl rfl)
theorem dX5_layLetters_185 : decode cX5_layLetters 185 = .ok (.getfield 272, 3) := dk_180 1 16 (dk_at dksX5_layLetters_8 0 rfl rfl)
theorem dX5_layLetters_188 : decode cX5_layLetters 188 = .ok (.iastore, 1) := dk_79 (dk_at dksX5_layLetters_8 3 rfl rfl)
theorem dX5_layLetters_189 : decode cX5_layLetters 189 = .ok (.return_, 1) := dk_177 (dk_at dksX5_layLetters_8 4 rfl rfl)
abbrev cX5_there : ByteArray := prog_16_method_44_code
def yX5_there : MethodName := ⟨RX5, "there", "()I"⟩
def dkwX5_there_1 : List UInt8 := [167, 0, 4, 3, 96, 60, 132, 2, 1, 167, 255, 228, 27, 172]
abbrev dktX5_there_1 : List UInt8 := dkwX5_there_1 ++ []
def dkwX5_there_0 : List UInt8 := [3, 60, 3, 61, 28, 42, 180, 1, 10, 162, 0, 26, 27, 42, 180, 0, 72, 28, 46, 154, 0, 7, 4]
abbrev dktX5_there_0 : List UInt8 := dkwX5_there_0 ++ dktX5_there_1
theorem dksX5_there_0 : cX5_there.data.toList.drop 0 = dktX5_there_0 := by decide +kernel
theorem dksX5_there_1 : cX5_there.data.toList.drop 23 = dktX5_there_1 := dk_seg dksX5_there_0 23 rfl rfl
theorem dX5_there_0 : decode cX5_there 0 = .ok (.iconst 0, 1) := dk_3 (dk_at dksX5_there_0 0 rfl rfl)
theorem dX5_there_1 : decode cX5_there 1 = .ok (.istore_n 1, 1) := dk_60 (dk_at dksX5_there_0 1 rfl rfl)
theorem dX5_there_2 : decode cX5_there 2 = .ok (.iconst 0, 1) := dk_3 (dk_at dksX5_there_0 2 rfl rfl)
theorem dX5_there_3 : decode cX5_there 3 = .ok (.istore_n 2, 1) := dk_61 (dk_at dksX5_there_0 3 rfl rfl)
theorem dX5_there_4 : decode cX5_there 4 = .ok (.iload_n 2, 1) := dk_28 (dk_at dksX5_there_0 4 rfl rfl)
theorem dX5_there_5 : decode cX5_there 5 = .ok (.aload_n 0, 1) := dk_42 (dk_at dksX5_there_0 5 rfl rfl)
theorem dX5_there_6 : decode cX5_there 6 = .ok (.getfield 266, 3) := dk_180 1 10 (dk_at dksX5_there_0 6 rfl rfl)
theorem dX5_there_9 : decode cX5_there 9 = .ok (.if_icmp .ge 26, 3) := dk_162 0 26 (dk_at dksX5_there_0 9 rfl rfl)
theorem dX5_there_12 : decode cX5_there 12 = .ok (.iload_n 1, 1) := dk_27 (dk_at dksX5_there_0 12 rfl rfl)
theorem dX5_there_13 : decode cX5_there 13 = .ok (.aload_n 0, 1) := dk_42 (dk_at dksX5_there_0 13 rfl rfl)
theorem dX5_there_14 : decode cX5_there 14 = .ok (.getfield 72, 3) := dk_180 0 72 (dk_at dksX5_there_0 14 rfl rfl)
theorem dX5_there_17 : decode cX5_there 17 = .ok (.iload_n 2, 1) := dk_28 (dk_at dksX5_there_0 17 rfl rfl)
theorem dX5_there_18 : decode cX5_there 18 = .ok (.iaload, 1) := dk_46 (dk_at dksX5_there_0 18 rfl rfl)
theorem dX5_there_19 : decode cX5_there 19 = .ok (.ifCond .ne 7, 3) := dk_154 0 7 (dk_at dksX5_there_0 19 rfl rfl)
theorem dX5_there_22 : decode cX5_there 22 = .ok (.iconst 1, 1) := dk_4 (dk_at dksX5_there_0 22 rfl rfl)
theorem dX5_there_23 : decode cX5_there 23 = .ok (.goto 4, 3) := dk_167 0 4 (dk_at dksX5_there_1 0 rfl rfl)
theorem dX5_there_26 : decode cX5_there 26 = .ok (.iconst 0, 1) := dk_3 (dk_at dksX5_there_1 3 rfl rfl)
theorem dX5_there_27 : decode cX5_there 27 = .ok (.iadd, 1) := dk_96 (dk_at dksX5_there_1 4 rfl rfl)
theorem dX5_there_28 : decode cX5_there 28 = .ok (.istore_n 1, 1) := dk_60 (dk_at dksX5_there_1 5 rfl rfl)
theorem dX5_there_29 : decode cX5_there 29 = .ok (.iinc 2 1, 3) := dk_132 2 1 (dk_at dksX5_there_1 6 rfl rfl)
theorem dX5_there_32 : decode cX5_there 32 = .ok (.goto (-28), 3) := dk_167 255 228 (dk_at dksX5_there_1 9 rfl rfl)
theorem dX5_there_35 : decode cX5_there 35 = .ok (.iload_n 1, 1) := dk_27 (dk_at dksX5_there_1 12 rfl rfl)
theorem dX5_there_36 : decode cX5_there 36 = .ok (.ireturn, 1) := dk_172 (dk_at dksX5_there_1 13 rfl rfl)
abbrev cX5_rainNow : ByteArray := prog_16_method_49_code
def yX5_rainNow : MethodName := ⟨RX5, "rainNow", "()I"⟩
def dkwX5_rainNow_0 : List UInt8 := [42, 180, 1, 41, 153, 0, 7, 3, 167, 0, 12, 42, 180, 0, 66, 42, 180, 1, 34, 46, 172]
abbrev dktX5_rainNow_0 : List UInt8 := dkwX5_rainNow_0 ++ []
theorem dksX5_rainNow_0 : cX5_rainNow.data.toList.drop 0 = dktX5_rainNow_0 := by decide +kernel
theorem dX5_rainNow_0 : decode cX5_rainNow 0 = .ok (.aload_n 0, 1) := dk_42 (dk_at dksX5_rainNow_0 0 rfl rfl)
theorem dX5_rainNow_1 : decode cX5_rainNow 1 = .ok (.getfield 297, 3) := dk_180 1 41 (dk_at dksX5_rainNow_0 1 rfl rfl)
theorem dX5_rainNow_4 : decode cX5_rainNow 4 = .ok (.ifCond .eq 7, 3) := dk_153 0 7 (dk_at dksX5_rainNow_0 4 rfl rfl)
theorem dX5_rainNow_7 : decode cX5_rainNow 7 = .ok (.iconst 0, 1) := dk_3 (dk_at dksX5_rainNow_0 7 rfl rfl)
theorem dX5_rainNow_8 : decode cX5_rainNow 8 = .ok (.goto 12, 3) := dk_167 0 12 (dk_at dksX5_rainNow_0 8 rfl rfl)
theorem dX5_rainNow_11 : decode cX5_rainNow 11 = .ok (.aload_n 0, 1) := dk_42 (dk_at dksX5_rainNow_0 11 rfl rfl)
theorem dX5_rainNow_12 : decode cX5_rainNow 12 = .ok (.getfield 66, 3) := dk_180 0 66 (dk_at dksX5_rainNow_0 12 rfl rfl)
theorem dX5_rainNow_15 : decode cX5_rainNow 15 = .ok (.aload_n 0, 1) := dk_42 (dk_at dksX5_rainNow_0 15 rfl rfl)
theorem dX5_rainNow_16 : decode cX5_rainNow 16 = .ok (.getfield 290, 3) := dk_180 1 34 (dk_at dksX5_rainNow_0 16 rfl rfl)
theorem dX5_rainNow_19 : decode cX5_rainNow 19 = .ok (.iaload, 1) := dk_46 (dk_at dksX5_rainNow_0 19 rfl rfl)
theorem dX5_rainNow_20 : decode cX5_rainNow 20 = .ok (.ireturn, 1) := dk_172 (dk_at dksX5_rainNow_0 20 rfl rfl)
abbrev cX5_worthOf : ByteArray := prog_16_method_28_code
def yX5_worthOf : MethodName := ⟨RX5, "worthOf", "(II)I"⟩
def dkwX5_worthOf_0 : List UInt8 := [42, 42, 180, 0, 13, 16, 120, 27, 104, 42, 180, 0, 16, 27, 46, 28, 182, 0, 225, 42, 180, 0, 219, 172]
abbrev dktX5_worthOf_0 : List UInt8 := dkwX5_worthOf_0 ++ []
theorem dksX5_worthOf_0 : cX5_worthOf.data.toList.drop 0 = dktX5_worthOf_0 := by decide +kernel
theorem dX5_worthOf_0 : decode cX5_worthOf 0 = .ok (.aload_n 0, 1) := dk_42 (dk_at dksX5_worthOf_0 0 rfl rfl)
theorem dX5_worthOf_1 : decode cX5_worthOf 1 = .ok (.aload_n 0, 1) := dk_42 (dk_at dksX5_worthOf_0 1 rfl rfl)
theorem dX5_worthOf_2 : decode cX5_worthOf 2 = .ok (.getfield 13, 3) := dk_180 0 13 (dk_at dksX5_worthOf_0 2 rfl rfl)
theorem dX5_worthOf_5 : decode cX5_worthOf 5 = .ok (.bipush 120, 2) := dk_16 120 (dk_at dksX5_worthOf_0 5 rfl rfl)
theorem dX5_worthOf_7 : decode cX5_worthOf 7 = .ok (.iload_n 1, 1) := dk_27 (dk_at dksX5_worthOf_0 7 rfl rfl)
theorem dX5_worthOf_8 : decode cX5_worthOf 8 = .ok (.imul, 1) := dk_104 (dk_at dksX5_worthOf_0 8 rfl rfl)
theorem dX5_worthOf_9 : decode cX5_worthOf 9 = .ok (.aload_n 0, 1) := dk_42 (dk_at dksX5_worthOf_0 9 rfl rfl)
theorem dX5_worthOf_10 : decode cX5_worthOf 10 = .ok (.getfield 16, 3) := dk_180 0 16 (dk_at dksX5_worthOf_0 10 rfl rfl)
theorem dX5_worthOf_13 : decode cX5_worthOf 13 = .ok (.iload_n 1, 1) := dk_27 (dk_at dksX5_worthOf_0 13 rfl rfl)
theorem dX5_worthOf_14 : decode cX5_worthOf 14 = .ok (.iaload, 1) := dk_46 (dk_at dksX5_worthOf_0 14 rfl rfl)
theorem dX5_worthOf_15 : decode cX5_worthOf 15 = .ok (.iload_n 2, 1) := dk_28 (dk_at dksX5_worthOf_0 15 rfl rfl)
theorem dX5_worthOf_16 : decode cX5_worthOf 16 = .ok (.invokevirtual 225, 3) := dk_182 0 225 (dk_at dksX5_worthOf_0 16 rfl rfl)
theorem dX5_worthOf_19 : decode cX5_worthOf 19 = .ok (.aload_n 0, 1) := dk_42 (dk_at dksX5_worthOf_0 19 rfl rfl)
theorem dX5_worthOf_20 : decode cX5_worthOf 20 = .ok (.getfield 219, 3) := dk_180 0 219 (dk_at dksX5_worthOf_0 20 rfl rfl)
theorem dX5_worthOf_23 : decode cX5_worthOf 23 = .ok (.ireturn, 1) := dk_172 (dk_at dksX5_worthOf_0 23 rfl rfl)
abbrev cX5_run : ByteArray := prog_16_method_60_code
def yX5_run : MethodName := ⟨RX5, "run", "(IJIII)I"⟩
def dkwX5_run_5 : List UInt8 := [21, 5, 46, 172]
abbrev dktX5_run_5 : List UInt8 := dkwX5_run_5 ++ []
def dkwX5_run_4 : List UInt8 := [167, 0, 26, 21, 6, 5, 160, 0, 13, 42, 180, 0, 75, 21, 5, 46, 167, 0, 10, 42, 180, 0, 78]
abbrev dktX5_run_4 : List UInt8 := dkwX5_run_4 ++ dktX5_run_5
def dkwX5_run_3 : List UInt8 := [180, 0, 72, 21, 5, 46, 167, 0, 42, 21, 6, 4, 160, 0, 13, 42, 180, 0, 69, 21, 5, 46]
abbrev dktX5_run_3 : List UInt8 := dkwX5_run_3 ++ dktX5_run_4
def dkwX5_run_2 : List UInt8 := [182, 1, 110, 21, 5, 42, 180, 1, 10, 161, 0, 7, 17, 252, 24, 172, 21, 6, 154, 0, 13, 42]
abbrev dktX5_run_2 : List UInt8 := dkwX5_run_2 ++ dktX5_run_3
def dkwX5_run_1 : List UInt8 := [21, 5, 155, 0, 13, 21, 6, 3, 6, 184, 0, 235, 154, 0, 7, 17, 252, 24, 172, 42, 27, 32, 21, 4]
abbrev dktX5_run_1 : List UInt8 := dkwX5_run_1 ++ dktX5_run_2
def dkwX5_run_0 : List UInt8 := [42, 3, 181, 0, 111, 42, 27, 182, 1, 107, 153, 0, 29, 21, 4, 3, 16, 24, 184, 0, 235, 153, 0, 18]
abbrev dktX5_run_0 : List UInt8 := dkwX5_run_0 ++ dktX5_run_1
theorem dksX5_run_0 : cX5_run.data.toList.drop 0 = dktX5_run_0 := by decide +kernel
theorem dksX5_run_1 : cX5_run.data.toList.drop 24 = dktX5_run_1 := dk_seg dksX5_run_0 24 rfl rfl
theorem dksX5_run_2 : cX5_run.data.toList.drop 48 = dktX5_run_2 := dk_seg dksX5_run_1 24 rfl rfl
theorem dksX5_run_3 : cX5_run.data.toList.drop 70 = dktX5_run_3 := dk_seg dksX5_run_2 22 rfl rfl
theorem dksX5_run_4 : cX5_run.data.toList.drop 92 = dktX5_run_4 := dk_seg dksX5_run_3 22 rfl rfl
theorem dksX5_run_5 : cX5_run.data.toList.drop 115 = dktX5_run_5 := dk_seg dksX5_run_4 23 rfl rfl
theorem dX5_run_0 : decode cX5_run 0 = .ok (.aload_n 0, 1) := dk_42 (dk_at dksX5_run_0 0 rfl rfl)
theorem dX5_run_1 : decode cX5_run 1 = .ok (.iconst 0, 1) := dk_3 (dk_at dksX5_run_0 1 rfl rfl)
theorem dX5_run_2 : decode cX5_run 2 = .ok (.putfield 111, 3) := dk_181 0 111 (dk_at dksX5_run_0 2 rfl rfl)
theorem dX5_run_5 : decode cX5_run 5 = .ok (.aload_n 0, 1) := dk_42 (dk_at dksX5_run_0 5 rfl rfl)
theorem dX5_run_6 : decode cX5_run 6 = .ok (.iload_n 1, 1) := dk_27 (dk_at dksX5_run_0 6 rfl rfl)
theorem dX5_run_7 : decode cX5_run 7 = .ok (.invokevirtual 363, 3) := dk_182 1 107 (dk_at dksX5_run_0 7 rfl rfl)
theorem dX5_run_10 : decode cX5_run 10 = .ok (.ifCond .eq 29, 3) := dk_153 0 29 (dk_at dksX5_run_0 10 rfl rfl)
theorem dX5_run_13 : decode cX5_run 13 = .ok (.iload 4, 2) := dk_21 4 (dk_at dksX5_run_0 13 rfl rfl)
theorem dX5_run_15 : decode cX5_run 15 = .ok (.iconst 0, 1) := dk_3 (dk_at dksX5_run_0 15 rfl rfl)
theorem dX5_run_16 : decode cX5_run 16 = .ok (.bipush 24, 2) := dk_16 24 (dk_at dksX5_run_0 16 rfl rfl)
theorem dX5_run_18 : decode cX5_run 18 = .ok (.invokestatic 235, 3) := dk_184 0 235 (dk_at dksX5_run_0 18 rfl rfl)
theorem dX5_run_21 : decode cX5_run 21 = .ok (.ifCond .eq 18, 3) := dk_153 0 18 (dk_at dksX5_run_0 21 rfl rfl)
theorem dX5_run_24 : decode cX5_run 24 = .ok (.iload 5, 2) := dk_21 5 (dk_at dksX5_run_1 0 rfl rfl)
theorem dX5_run_26 : decode cX5_run 26 = .ok (.ifCond .lt 13, 3) := dk_155 0 13 (dk_at dksX5_run_1 2 rfl rfl)
theorem dX5_run_29 : decode cX5_run 29 = .ok (.iload 6, 2) := dk_21 6 (dk_at dksX5_run_1 5 rfl rfl)
theorem dX5_run_31 : decode cX5_run 31 = .ok (.iconst 0, 1) := dk_3 (dk_at dksX5_run_1 7 rfl rfl)
theorem dX5_run_32 : decode cX5_run 32 = .ok (.iconst 3, 1) := dk_6 (dk_at dksX5_run_1 8 rfl rfl)
theorem dX5_run_33 : decode cX5_run 33 = .ok (.invokestatic 235, 3) := dk_184 0 235 (dk_at dksX5_run_1 9 rfl rfl)
theorem dX5_run_36 : decode cX5_run 36 = .ok (.ifCond .ne 7, 3) := dk_154 0 7 (dk_at dksX5_run_1 12 rfl rfl)
theorem dX5_run_39 : decode cX5_run 39 = .ok (.sipush (-1000), 3) := dk_17 252 24 (dk_at dksX5_run_1 15 rfl rfl)
theorem dX5_run_42 : decode cX5_run 42 = .ok (.ireturn, 1) := dk_172 (dk_at dksX5_run_1 18 rfl rfl)
theorem dX5_run_43 : decode cX5_run 43 = .ok (.aload_n 0, 1) := dk_42 (dk_at dksX5_run_1 19 rfl rfl)
theorem dX5_run_44 : decode cX5_run 44 = .ok (.iload_n 1, 1) := dk_27 (dk_at dksX5_run_1 20 rfl rfl)
theorem dX5_run_45 : decode cX5_run 45 = .ok (.lload_n 2, 1) := dk_32 (dk_at dksX5_run_1 21 rfl rfl)
theorem dX5_run_46 : decode cX5_run 46 = .ok (.iload 4, 2) := dk_21 4 (dk_at dksX5_run_1 22 rfl rfl)
theorem dX5_run_48 : decode cX5_run 48 = .ok (.invokevirtual 366, 3) := dk_182 1 110 (dk_at dksX5_run_2 0 rfl rfl)
theorem dX5_run_51 : decode cX5_run 51 = .ok (.iload 5, 2) := dk_21 5 (dk_at dksX5_run_2 3 rfl rfl)
theorem dX5_run_53 : decode cX5_run 53 = .ok (.aload_n 0, 1) := dk_42 (dk_at dksX5_run_2 5 rfl rfl)
theorem dX5_run_54 : decode cX5_run 54 = .ok (.getfield 266, 3) := dk_180 1 10 (dk_at dksX5_run_2 6 rfl rfl)
theorem dX5_run_57 : decode cX5_run 57 = .ok (.if_icmp .lt 7, 3) := dk_161 0 7 (dk_at dksX5_run_2 9 rfl rfl)
theorem dX5_run_60 : decode cX5_run 60 = .ok (.sipush (-1000), 3) := dk_17 252 24 (dk_at dksX5_run_2 12 rfl rfl)
theorem dX5_run_63 : decode cX5_run 63 = .ok (.ireturn, 1) := dk_172 (dk_at dksX5_run_2 15 rfl rfl)
theorem dX5_run_64 : decode cX5_run 64 = .ok (.iload 6, 2) := dk_21 6 (dk_at dksX5_run_2 16 rfl rfl)
theorem dX5_run_66 : decode cX5_run 66 = .ok (.ifCond .ne 13, 3) := dk_154 0 13 (dk_at dksX5_run_2 18 rfl rfl)
theorem dX5_run_69 : decode cX5_run 69 = .ok (.aload_n 0, 1) := dk_42 (dk_at dksX5_run_2 21 rfl rfl)
theorem dX5_run_70 : decode cX5_run 70 = .ok (.getfield 72, 3) := dk_180 0 72 (dk_at dksX5_run_3 0 rfl rfl)
theorem dX5_run_73 : decode cX5_run 73 = .ok (.iload 5, 2) := dk_21 5 (dk_at dksX5_run_3 3 rfl rfl)
theorem dX5_run_75 : decode cX5_run 75 = .ok (.iaload, 1) := dk_46 (dk_at dksX5_run_3 5 rfl rfl)
theorem dX5_run_76 : decode cX5_run 76 = .ok (.goto 42, 3) := dk_167 0 42 (dk_at dksX5_run_3 6 rfl rfl)
theorem dX5_run_79 : decode cX5_run 79 = .ok (.iload 6, 2) := dk_21 6 (dk_at dksX5_run_3 9 rfl rfl)
theorem dX5_run_81 : decode cX5_run 81 = .ok (.iconst 1, 1) := dk_4 (dk_at dksX5_run_3 11 rfl rfl)
theorem dX5_run_82 : decode cX5_run 82 = .ok (.if_icmp .ne 13, 3) := dk_160 0 13 (dk_at dksX5_run_3 12 rfl rfl)
theorem dX5_run_85 : decode cX5_run 85 = .ok (.aload_n 0, 1) := dk_42 (dk_at dksX5_run_3 15 rfl rfl)
theorem dX5_run_86 : decode cX5_run 86 = .ok (.getfield 69, 3) := dk_180 0 69 (dk_at dksX5_run_3 16 rfl rfl)
theorem dX5_run_89 : decode cX5_run 89 = .ok (.iload 5, 2) := dk_21 5 (dk_at dksX5_run_3 19 rfl rfl)
theorem dX5_run_91 : decode cX5_run 91 = .ok (.iaload, 1) := dk_46 (dk_at dksX5_run_3 21 rfl rfl)
theorem dX5_run_92 : decode cX5_run 92 = .ok (.goto 26, 3) := dk_167 0 26 (dk_at dksX5_run_4 0 rfl rfl)
theorem dX5_run_95 : decode cX5_run 95 = .ok (.iload 6, 2) := dk_21 6 (dk_at dksX5_run_4 3 rfl rfl)
theorem dX5_run_97 : decode cX5_run 97 = .ok (.iconst 2, 1) := dk_5 (dk_at dksX5_run_4 5 rfl rfl)
theorem dX5_run_98 : decode cX5_run 98 = .ok (.if_icmp .ne 13, 3) := dk_160 0 13 (dk_at dksX5_run_4 6 rfl rfl)
theorem dX5_run_101 : decode cX5_run 101 = .ok (.aload_n 0, 1) := dk_42 (dk_at dksX5_run_4 9 rfl rfl)
theorem dX5_run_102 : decode cX5_run 102 = .ok (.getfield 75, 3) := dk_180 0 75 (dk_at dksX5_run_4 10 rfl rfl)
theorem dX5_run_105 : decode cX5_run 105 = .ok (.iload 5, 2) := dk_21 5 (dk_at dksX5_run_4 13 rfl rfl)
theorem dX5_run_107 : decode cX5_run 107 = .ok (.iaload, 1) := dk_46 (dk_at dksX5_run_4 15 rfl rfl)
theorem dX5_run_108 : decode cX5_run 108 = .ok (.goto 10, 3) := dk_167 0 10 (dk_at dksX5_run_4 16 rfl rfl)
theorem dX5_run_111 : decode cX5_run 111 = .ok (.aload_n 0, 1) := dk_42 (dk_at dksX5_run_4 19 rfl rfl)
theorem dX5_run_112 : decode cX5_run 112 = .ok (.getfield 78, 3) := dk_180 0 78 (dk_at dksX5_run_4 20 rfl rfl)
theorem dX5_run_115 : decode cX5_run 115 = .ok (.iload 5, 2) := dk_21 5 (dk_at dksX5_run_5 0 rfl rfl)
theorem dX5_run_117 : decode cX5_run 117 = .ok (.iaload, 1) := dk_46 (dk_at dksX5_run_5 2 rfl rfl)
theorem dX5_run_118 : decode cX5_run 118 = .ok (.ireturn, 1) := dk_172 (dk_at dksX5_run_5 3 rfl rfl)
abbrev cX5_runOf : ByteArray := prog_16_method_58_code
def yX5_runOf : MethodName := ⟨RX5, "runOf", "(IJI)V"⟩
def dkwX5_runOf_0 : List UInt8 := [42, 42, 180, 0, 232, 32, 182, 0, 252, 42, 27, 21, 4, 182, 1, 104, 177]
abbrev dktX5_runOf_0 : List UInt8 := dkwX5_runOf_0 ++ []
theorem dksX5_runOf_0 : cX5_runOf.data.toList.drop 0 = dktX5_runOf_0 := by decide +kernel
theorem dX5_runOf_0 : decode cX5_runOf 0 = .ok (.aload_n 0, 1) := dk_42 (dk_at dksX5_runOf_0 0 rfl rfl)
theorem dX5_runOf_1 : decode cX5_runOf 1 = .ok (.aload_n 0, 1) := dk_42 (dk_at dksX5_runOf_0 1 rfl rfl)
theorem dX5_runOf_2 : decode cX5_runOf 2 = .ok (.getfield 232, 3) := dk_180 0 232 (dk_at dksX5_runOf_0 2 rfl rfl)
theorem dX5_runOf_5 : decode cX5_runOf 5 = .ok (.lload_n 2, 1) := dk_32 (dk_at dksX5_runOf_0 5 rfl rfl)
theorem dX5_runOf_6 : decode cX5_runOf 6 = .ok (.invokevirtual 252, 3) := dk_182 0 252 (dk_at dksX5_runOf_0 6 rfl rfl)
theorem dX5_runOf_9 : decode cX5_runOf 9 = .ok (.aload_n 0, 1) := dk_42 (dk_at dksX5_runOf_0 9 rfl rfl)
theorem dX5_runOf_10 : decode cX5_runOf 10 = .ok (.iload_n 1, 1) := dk_27 (dk_at dksX5_runOf_0 10 rfl rfl)
theorem dX5_runOf_11 : decode cX5_runOf 11 = .ok (.iload 4, 2) := dk_21 4 (dk_at dksX5_runOf_0 11 rfl rfl)
theorem dX5_runOf_13 : decode cX5_runOf 13 = .ok (.invokevirtual 360, 3) := dk_182 1 104 (dk_at dksX5_runOf_0 13 rfl rfl)
theorem dX5_runOf_16 : decode cX5_runOf 16 = .ok (.return_, 1) := dk_177 (dk_at dksX5_runOf_0 16 rfl rfl)
abbrev cX5_goOn : ByteArray := prog_16_method_57_code
def yX5_goOn : MethodName := ⟨RX5, "goOn", "(II)V"⟩
def dkwX5_goOn_0 : List UInt8 := [42, 180, 1, 34, 28, 162, 0, 11, 42, 27, 182, 1, 101, 167, 255, 243, 177]
abbrev dktX5_goOn_0 : List UInt8 := dkwX5_goOn_0 ++ []
theorem dksX5_goOn_0 : cX5_goOn.data.toList.drop 0 = dktX5_goOn_0 := by decide +kernel
theorem dX5_goOn_0 : decode cX5_goOn 0 = .ok (.aload_n 0, 1) := dk_42 (dk_at dksX5_goOn_0 0 rfl rfl)
theorem dX5_goOn_1 : decode cX5_goOn 1 = .ok (.getfield 290, 3) := dk_180 1 34 (dk_at dksX5_goOn_0 1 rfl rfl)
theorem dX5_goOn_4 : decode cX5_goOn 4 = .ok (.iload_n 2, 1) := dk_28 (dk_at dksX5_goOn_0 4 rfl rfl)
theorem dX5_goOn_5 : decode cX5_goOn 5 = .ok (.if_icmp .ge 11, 3) := dk_162 0 11 (dk_at dksX5_goOn_0 5 rfl rfl)
theorem dX5_goOn_8 : decode cX5_goOn 8 = .ok (.aload_n 0, 1) := dk_42 (dk_at dksX5_goOn_0 8 rfl rfl)
theorem dX5_goOn_9 : decode cX5_goOn 9 = .ok (.iload_n 1, 1) := dk_27 (dk_at dksX5_goOn_0 9 rfl rfl)
theorem dX5_goOn_10 : decode cX5_goOn 10 = .ok (.invokevirtual 357, 3) := dk_182 1 101 (dk_at dksX5_goOn_0 10 rfl rfl)
theorem dX5_goOn_13 : decode cX5_goOn 13 = .ok (.goto (-13), 3) := dk_167 255 243 (dk_at dksX5_goOn_0 13 rfl rfl)
theorem dX5_goOn_16 : decode cX5_goOn 16 = .ok (.return_, 1) := dk_177 (dk_at dksX5_goOn_0 16 rfl rfl)
abbrev cX5_goesBy : ByteArray := prog_16_method_56_code
def yX5_goesBy : MethodName := ⟨RX5, "goesBy", "(I)V"⟩
def dkwX5_goesBy_10 : List UInt8 := [4, 96, 181, 1, 34, 177]
abbrev dktX5_goesBy_10 : List UInt8 := dkwX5_goesBy_10 ++ []
def dkwX5_goesBy_9 : List UInt8 := [29, 5, 182, 1, 59, 132, 3, 1, 167, 255, 200, 42, 182, 1, 95, 42, 182, 1, 98, 42, 89, 180, 1, 34]
abbrev dktX5_goesBy_9 : List UInt8 := dkwX5_goesBy_9 ++ dktX5_goesBy_10
def dkwX5_goesBy_8 : List UInt8 := [182, 1, 22, 153, 0, 26, 29, 42, 180, 1, 25, 159, 0, 18, 42, 180, 0, 87, 29, 46, 154, 0, 9, 42]
abbrev dktX5_goesBy_8 : List UInt8 := dkwX5_goesBy_8 ++ dktX5_goesBy_9
def dkwX5_goesBy_7 : List UInt8 := [180, 1, 10, 162, 0, 54, 42, 182, 1, 66, 158, 0, 41, 42, 180, 1, 47, 154, 0, 34, 42, 29]
abbrev dktX5_goesBy_7 : List UInt8 := dkwX5_goesBy_7 ++ dktX5_goesBy_8
def dkwX5_goesBy_6 : List UInt8 := [180, 1, 16, 42, 180, 0, 63, 6, 46, 104, 16, 100, 108, 96, 184, 1, 76, 181, 1, 16, 3, 62, 29, 42]
abbrev dktX5_goesBy_6 : List UInt8 := dkwX5_goesBy_6 ++ dktX5_goesBy_7
def dkwX5_goesBy_5 : List UInt8 := [153, 0, 8, 42, 29, 182, 1, 92, 132, 3, 1, 167, 255, 227, 42, 17, 39, 15, 42, 180, 1, 16, 42]
abbrev dktX5_goesBy_5 : List UInt8 := dkwX5_goesBy_5 ++ dktX5_goesBy_6
def dkwX5_goesBy_4 : List UInt8 := [182, 1, 92, 3, 62, 29, 42, 180, 1, 10, 162, 0, 27, 29, 28, 159, 0, 16, 42, 29, 182, 1, 22]
abbrev dktX5_goesBy_4 : List UInt8 := dkwX5_goesBy_4 ++ dktX5_goesBy_5
def dkwX5_goesBy_3 : List UInt8 := [132, 3, 1, 167, 255, 203, 132, 2, 1, 167, 255, 187, 42, 180, 1, 25, 61, 28, 2, 159, 0, 8, 42, 28]
abbrev dktX5_goesBy_3 : List UInt8 := dkwX5_goesBy_3 ++ dktX5_goesBy_4
def dkwX5_goesBy_2 : List UInt8 := [162, 0, 24, 42, 17, 39, 15, 42, 180, 1, 16, 42, 180, 0, 63, 5, 46, 96, 184, 1, 76, 181, 1, 16]
abbrev dktX5_goesBy_2 : List UInt8 := dkwX5_goesBy_2 ++ dktX5_goesBy_3
def dkwX5_goesBy_1 : List UInt8 := [182, 1, 22, 153, 0, 51, 29, 42, 180, 0, 81, 28, 46, 162, 0, 41, 42, 182, 1, 83, 42, 180, 1, 19]
abbrev dktX5_goesBy_1 : List UInt8 := dkwX5_goesBy_1 ++ dktX5_goesBy_2
def dkwX5_goesBy_0 : List UInt8 := [42, 182, 1, 86, 42, 27, 182, 1, 89, 3, 61, 28, 42, 180, 1, 10, 162, 0, 67, 3, 62, 42, 28]
abbrev dktX5_goesBy_0 : List UInt8 := dkwX5_goesBy_0 ++ dktX5_goesBy_1
theorem dksX5_goesBy_0 : cX5_goesBy.data.toList.drop 0 = dktX5_goesBy_0 := by decide +kernel
theorem dksX5_goesBy_1 : cX5_goesBy.data.toList.drop 23 = dktX5_goesBy_1 := dk_seg dksX5_goesBy_0 23 rfl rfl
theorem dksX5_goesBy_2 : cX5_goesBy.data.toList.drop 47 = dktX5_goesBy_2 := dk_seg dksX5_goesBy_1 24 rfl rfl
theorem dksX5_goesBy_3 : cX5_goesBy.data.toList.drop 71 = dktX5_goesBy_3 := dk_seg dksX5_goesBy_2 24 rfl rfl
theorem dksX5_goesBy_4 : cX5_goesBy.data.toList.drop 95 = dktX5_goesBy_4 := dk_seg dksX5_goesBy_3 24 rfl rfl
theorem dksX5_goesBy_5 : cX5_goesBy.data.toList.drop 118 = dktX5_goesBy_5 := dk_seg dksX5_goesBy_4 23 rfl rfl
theorem dksX5_goesBy_6 : cX5_goesBy.data.toList.drop 141 = dktX5_goesBy_6 := dk_seg dksX5_goesBy_5 23 rfl rfl
theorem dksX5_goesBy_7 : cX5_goesBy.data.toList.drop 165 = dktX5_goesBy_7 := dk_seg dksX5_goesBy_6 24 rfl rfl
theorem dksX5_goesBy_8 : cX5_goesBy.data.toList.drop 187 = dktX5_goesBy_8 := dk_seg dksX5_goesBy_7 22 rfl rfl
theorem dksX5_goesBy_9 : cX5_goesBy.data.toList.drop 211 = dktX5_goesBy_9 := dk_seg dksX5_goesBy_8 24 rfl rfl
theorem dksX5_goesBy_10 : cX5_goesBy.data.toList.drop 235 = dktX5_goesBy_10 := dk_seg dksX5_goesBy_9 24 rfl rfl
theorem dX5_goesBy_0 : decode cX5_goesBy 0 = .ok (.aload_n 0, 1) := dk_42 (dk_at dksX5_goesBy_0 0 rfl rfl)
theorem dX5_goesBy_1 : decode cX5_goesBy 1 = .ok (.invokevirtual 342, 3) := dk_182 1 86 (dk_at dksX5_goesBy_0 1 rfl rfl)
theorem dX5_goesBy_4 : decode cX5_goesBy 4 = .ok (.aload_n 0, 1) := dk_42 (dk_at dksX5_goesBy_0 4 rfl rfl)
theorem dX5_goesBy_5 : decode cX5_goesBy 5 = .ok (.iload_n 1, 1) := dk_27 (dk_at dksX5_goesBy_0 5 rfl rfl)
theorem dX5_goesBy_6 : decode cX5_goesBy 6 = .ok (.invokevirtual 345, 3) := dk_182 1 89 (dk_at dksX5_goesBy_0 6 rfl rfl)
theorem dX5_goesBy_9 : decode cX5_goesBy 9 = .ok (.iconst 0, 1) := dk_3 (dk_at dksX5_goesBy_0 9 rfl rfl)
theorem dX5_goesBy_10 : decode cX5_goesBy 10 = .ok (.istore_n 2, 1) := dk_61 (dk_at dksX5_goesBy_0 10 rfl rfl)
theorem dX5_goesBy_11 : decode cX5_goesBy 11 = .ok (.iload_n 2, 1) := dk_28 (dk_at dksX5_goesBy_0 11 rfl rfl)
theorem dX5_goesBy_12 : decode cX5_goesBy 12 = .ok (.aload_n 0, 1) := dk_42 (dk_at dksX5_goesBy_0 12 rfl rfl)
theorem dX5_goesBy_13 : decode cX5_goesBy 13 = .ok (.getfield 266, 3) := dk_180 1 10 (dk_at dksX5_goesBy_0 13 rfl rfl)
theorem dX5_goesBy_16 : decode cX5_goesBy 16 = .ok (.if_icmp .ge 67, 3) := dk_162 0 67 (dk_at dksX5_goesBy_0 16 rfl rfl)
theorem dX5_goesBy_19 : decode cX5_goesBy 19 = .ok (.iconst 0, 1) := dk_3 (dk_at dksX5_goesBy_0 19 rfl rfl)
theorem dX5_goesBy_20 : decode cX5_goesBy 20 = .ok (.istore_n 3, 1) := dk_62 (dk_at dksX5_goesBy_0 20 rfl rfl)
theorem dX5_goesBy_21 : decode cX5_goesBy 21 = .ok (.aload_n 0, 1) := dk_42 (dk_at dksX5_goesBy_0 21 rfl rfl)
theorem dX5_goesBy_22 : decode cX5_goesBy 22 = .ok (.iload_n 2, 1) := dk_28 (dk_at dksX5_goesBy_0 22 rfl rfl)
theorem dX5_goesBy_23 : decode cX5_goesBy 23 = .ok (.invokevirtual 278, 3) := dk_182 1 22 (dk_at dksX5_goesBy_1 0 rfl rfl)
theorem dX5_goesBy_26 : decode cX5_goesBy 26 = .ok (.ifCond .eq 51, 3) := dk_153 0 51 (dk_at dksX5_goesBy_1 3 rfl rfl)
theorem dX5_goesBy_29 : decode cX5_goesBy 29 = .ok (.iload_n 3, 1) := dk_29 (dk_at dksX5_goesBy_1 6 rfl rfl)
theorem dX5_goesBy_30 : decode cX5_goesBy 30 = .ok (.aload_n 0, 1) := dk_42 (dk_at dksX5_goesBy_1 7 rfl rfl)
theorem dX5_goesBy_31 : decode cX5_goesBy 31 = .ok (.getfield 81, 3) := dk_180 0 81 (dk_at dksX5_goesBy_1 8 rfl rfl)
theorem dX5_goesBy_34 : decode cX5_goesBy 34 = .ok (.iload_n 2, 1) := dk_28 (dk_at dksX5_goesBy_1 11 rfl rfl)
theorem dX5_goesBy_35 : decode cX5_goesBy 35 = .ok (.iaload, 1) := dk_46 (dk_at dksX5_goesBy_1 12 rfl rfl)
theorem dX5_goesBy_36 : decode cX5_goesBy 36 = .ok (.if_icmp .ge 41, 3) := dk_162 0 41 (dk_at dksX5_goesBy_1 13 rfl rfl)
theorem dX5_goesBy_39 : decode cX5_goesBy 39 = .ok (.aload_n 0, 1) := dk_42 (dk_at dksX5_goesBy_1 16 rfl rfl)
theorem dX5_goesBy_40 : decode cX5_goesBy 40 = .ok (.invokevirtual 339, 3) := dk_182 1 83 (dk_at dksX5_goesBy_1 17 rfl rfl)
theorem dX5_goesBy_43 : decode cX5_goesBy 43 = .ok (.aload_n 0, 1) := dk_42 (dk_at dksX5_goesBy_1 20 rfl rfl)
theorem dX5_goesBy_44 : decode cX5_goesBy 44 = .ok (.getfield 275, 3) := dk_180 1 19 (dk_at dksX5_goesBy_1 21 rfl rfl)
theorem dX5_goesBy_47 : decode cX5_goesBy 47 = .ok (.if_icmp .ge 24, 3) := dk_162 0 24 (dk_at dksX5_goesBy_2 0 rfl rfl)
theorem dX5_goesBy_50 : decode cX5_goesBy 50 = .ok (.aload_n 0, 1) := dk_42 (dk_at dksX5_goesBy_2 3 rfl rfl)
theorem dX5_goesBy_51 : decode cX5_goesBy 51 = .ok (.sipush 9999, 3) := dk_17 39 15 (dk_at dksX5_goesBy_2 4 rfl rfl)
theorem dX5_goesBy_54 : decode cX5_goesBy 54 = .ok (.aload_n 0, 1) := dk_42 (dk_at dksX5_goesBy_2 7 rfl rfl)
theorem dX5_goesBy_55 : decode cX5_goesBy 55 = .ok (.getfield 272, 3) := dk_180 1 16 (dk_at dksX5_goesBy_2 8 rfl rfl)
theorem dX5_goesBy_58 : decode cX5_goesBy 58 = .ok (.aload_n 0, 1) := dk_42 (dk_at dksX5_goesBy_2 11 rfl rfl)
theorem dX5_goesBy_59 : decode cX5_goesBy 59 = .ok (.getfield 63, 3) := dk_180 0 63 (dk_at dksX5_goesBy_2 12 rfl rfl)
theorem dX5_goesBy_62 : decode cX5_goesBy 62 = .ok (.iconst 2, 1) := dk_5 (dk_at dksX5_goesBy_2 15 rfl rfl)
theorem dX5_goesBy_63 : decode cX5_goesBy 63 = .ok (.iaload, 1) := dk_46 (dk_at dksX5_goesBy_2 16 rfl rfl)
theorem dX5_goesBy_64 : decode cX5_goesBy 64 = .ok (.iadd, 1) := dk_96 (dk_at dksX5_goesBy_2 17 rfl rfl)
theorem dX5_goesBy_65 : decode cX5_goesBy 65 = .ok (.invokestatic 332, 3) := dk_184 1 76 (dk_at dksX5_goesBy_2 18 rfl rfl)
theorem dX5_goesBy_68 : decode cX5_goesBy 68 = .ok (.putfield 272, 3) := dk_181 1 16 (dk_at dksX5_goesBy_2 21 rfl rfl)
theorem dX5_goesBy_71 : decode cX5_goesBy 71 = .ok (.iinc 3 1, 3) := dk_132 3 1 (dk_at dksX5_goesBy_3 0 rfl rfl)
theorem dX5_goesBy_74 : decode cX5_goesBy 74 = .ok (.goto (-53), 3) := dk_167 255 203 (dk_at dksX5_goesBy_3 3 rfl rfl)
theorem dX5_goesBy_77 : decode cX5_goesBy 77 = .ok (.iinc 2 1, 3) := dk_132 2 1 (dk_at dksX5_goesBy_3 6 rfl rfl)
theorem dX5_goesBy_80 : decode cX5_goesBy 80 = .ok (.goto (-69), 3) := dk_167 255 187 (dk_at dksX5_goesBy_3 9 rfl rfl)
theorem dX5_goesBy_83 : decode cX5_goesBy 83 = .ok (.aload_n 0, 1) := dk_42 (dk_at dksX5_goesBy_3 12 rfl rfl)
theorem dX5_goesBy_84 : decode cX5_goesBy 84 = .ok (.getfield 281, 3) := dk_180 1 25 (dk_at dksX5_goesBy_3 13 rfl rfl)
theorem dX5_goesBy_87 : decode cX5_goesBy 87 = .ok (.istore_n 2, 1) := dk_61 (dk_at dksX5_goesBy_3 16 rfl rfl)
theorem dX5_goesBy_88 : decode cX5_goesBy 88 = .ok (.iload_n 2, 1) := dk_28 (dk_at dksX5_goesBy_3 17 rfl rfl)
theorem dX5_goesBy_89 : decode cX5_goesBy 89 = .ok (.iconst (-1), 1) := dk_2 (dk_at dksX5_goesBy_3 18 rfl rfl)
theorem dX5_goesBy_90 : decode cX5_goesBy 90 = .ok (.if_icmp .eq 8, 3) := dk_159 0 8 (dk_at dksX5_goesBy_3 19 rfl rfl)
theorem dX5_goesBy_93 : decode cX5_goesBy 93 = .ok (.aload_n 0, 1) := dk_42 (dk_at dksX5_goesBy_3 22 rfl rfl)
theorem dX5_goesBy_94 : decode cX5_goesBy 94 = .ok (.iload_n 2, 1) := dk_28 (dk_at dksX5_goesBy_3 23 rfl rfl)
theorem dX5_goesBy_95 : decode cX5_goesBy 95 = .ok (.invokevirtual 348, 3) := dk_182 1 92 (dk_at dksX5_goesBy_4 0 rfl rfl)
theorem dX5_goesBy_98 : decode cX5_goesBy 98 = .ok (.iconst 0, 1) := dk_3 (dk_at dksX5_goesBy_4 3 rfl rfl)
theorem dX5_goesBy_99 : decode cX5_goesBy 99 = .ok (.istore_n 3, 1) := dk_62 (dk_at dksX5_goesBy_4 4 rfl rfl)
theorem dX5_goesBy_100 : decode cX5_goesBy 100 = .ok (.iload_n 3, 1) := dk_29 (dk_at dksX5_goesBy_4 5 rfl rfl)
theorem dX5_goesBy_101 : decode cX5_goesBy 101 = .ok (.aload_n 0, 1) := dk_42 (dk_at dksX5_goesBy_4 6 rfl rfl)
theorem dX5_goesBy_102 : decode cX5_goesBy 102 = .ok (.getfield 266, 3) := dk_180 1 10 (dk_at dksX5_goesBy_4 7 rfl rfl)
theorem dX5_goesBy_105 : decode cX5_goesBy 105 = .ok (.if_icmp .ge 27, 3) := dk_162 0 27 (dk_at dksX5_goesBy_4 10 rfl rfl)
theorem dX5_goesBy_108 : decode cX5_goesBy 108 = .ok (.iload_n 3, 1) := dk_29 (dk_at dksX5_goesBy_4 13 rfl rfl)
theorem dX5_goesBy_109 : decode cX5_goesBy 109 = .ok (.iload_n 2, 1) := dk_28 (dk_at dksX5_goesBy_4 14 rfl rfl)
theorem dX5_goesBy_110 : decode cX5_goesBy 110 = .ok (.if_icmp .eq 16, 3) := dk_159 0 16 (dk_at dksX5_goesBy_4 15 rfl rfl)
theorem dX5_goesBy_113 : decode cX5_goesBy 113 = .ok (.aload_n 0, 1) := dk_42 (dk_at dksX5_goesBy_4 18 rfl rfl)
theorem dX5_goesBy_114 : decode cX5_goesBy 114 = .ok (.iload_n 3, 1) := dk_29 (dk_at dksX5_goesBy_4 19 rfl rfl)
theorem dX5_goesBy_115 : decode cX5_goesBy 115 = .ok (.invokevirtual 278, 3) := dk_182 1 22 (dk_at dksX5_goesBy_4 20 rfl rfl)
theorem dX5_goesBy_118 : decode cX5_goesBy 118 = .ok (.ifCond .eq 8, 3) := dk_153 0 8 (dk_at dksX5_goesBy_5 0 rfl rfl)
theorem dX5_goesBy_121 : decode cX5_goesBy 121 = .ok (.aload_n 0, 1) := dk_42 (dk_at dksX5_goesBy_5 3 rfl rfl)
theorem dX5_goesBy_122 : decode cX5_goesBy 122 = .ok (.iload_n 3, 1) := dk_29 (dk_at dksX5_goesBy_5 4 rfl rfl)
theorem dX5_goesBy_123 : decode cX5_goesBy 123 = .ok (.invokevirtual 348, 3) := dk_182 1 92 (dk_at dksX5_goesBy_5 5 rfl rfl)
theorem dX5_goesBy_126 : decode cX5_goesBy 126 = .ok (.iinc 3 1, 3) := dk_132 3 1 (dk_at dksX5_goesBy_5 8 rfl rfl)
theorem dX5_goesBy_129 : decode cX5_goesBy 129 = .ok (.goto (-29), 3) := dk_167 255 227 (dk_at dksX5_goesBy_5 11 rfl rfl)
theorem dX5_goesBy_132 : decode cX5_goesBy 132 = .ok (.aload_n 0, 1) := dk_42 (dk_at dksX5_goesBy_5 14 rfl rfl)
theorem dX5_goesBy_133 : decode cX5_goesBy 133 = .ok (.sipush 9999, 3) := dk_17 39 15 (dk_at dksX5_goesBy_5 15 rfl rfl)
theorem dX5_goesBy_136 : decode cX5_goesBy 136 = .ok (.aload_n 0, 1) := dk_42 (dk_at dksX5_goesBy_5 18 rfl rfl)
theorem dX5_goesBy_137 : decode cX5_goesBy 137 = .ok (.getfield 272, 3) := dk_180 1 16 (dk_at dksX5_goesBy_5 19 rfl rfl)
theorem dX5_goesBy_140 : decode cX5_goesBy 140 = .ok (.aload_n 0, 1) := dk_42 (dk_at dksX5_goesBy_5 22 rfl rfl)
theorem dX5_goesBy_141 : decode cX5_goesBy 141 = .ok (.getfield 272, 3) := dk_180 1 16 (dk_at dksX5_goesBy_6 0 rfl rfl)
theorem dX5_goesBy_144 : decode cX5_goesBy 144 = .ok (.aload_n 0, 1) := dk_42 (dk_at dksX5_goesBy_6 3 rfl rfl)
theorem dX5_goesBy_145 : decode cX5_goesBy 145 = .ok (.getfield 63, 3) := dk_180 0 63 (dk_at dksX5_goesBy_6 4 rfl rfl)
theorem dX5_goesBy_148 : decode cX5_goesBy 148 = .ok (.iconst 3, 1) := dk_6 (dk_at dksX5_goesBy_6 7 rfl rfl)
theorem dX5_goesBy_149 : decode cX5_goesBy 149 = .ok (.iaload, 1) := dk_46 (dk_at dksX5_goesBy_6 8 rfl rfl)
theorem dX5_goesBy_150 : decode cX5_goesBy 150 = .ok (.imul, 1) := dk_104 (dk_at dksX5_goesBy_6 9 rfl rfl)
theorem dX5_goesBy_151 : decode cX5_goesBy 151 = .ok (.bipush 100, 2) := dk_16 100 (dk_at dksX5_goesBy_6 10 rfl rfl)
theorem dX5_goesBy_153 : decode cX5_goesBy 153 = .ok (.idiv, 1) := dk_108 (dk_at dksX5_goesBy_6 12 rfl rfl)
theorem dX5_goesBy_154 : decode cX5_goesBy 154 = .ok (.iadd, 1) := dk_96 (dk_at dksX5_goesBy_6 13 rfl rfl)
theorem dX5_goesBy_155 : decode cX5_goesBy 155 = .ok (.invokestatic 332, 3) := dk_184 1 76 (dk_at dksX5_goesBy_6 14 rfl rfl)
theorem dX5_goesBy_158 : decode cX5_goesBy 158 = .ok (.putfield 272, 3) := dk_181 1 16 (dk_at dksX5_goesBy_6 17 rfl rfl)
theorem dX5_goesBy_161 : decode cX5_goesBy 161 = .ok (.iconst 0, 1) := dk_3 (dk_at dksX5_goesBy_6 20 rfl rfl)
theorem dX5_goesBy_162 : decode cX5_goesBy 162 = .ok (.istore_n 3, 1) := dk_62 (dk_at dksX5_goesBy_6 21 rfl rfl)
theorem dX5_goesBy_163 : decode cX5_goesBy 163 = .ok (.iload_n 3, 1) := dk_29 (dk_at dksX5_goesBy_6 22 rfl rfl)
theorem dX5_goesBy_164 : decode cX5_goesBy 164 = .ok (.aload_n 0, 1) := dk_42 (dk_at dksX5_goesBy_6 23 rfl rfl)
theorem dX5_goesBy_165 : decode cX5_goesBy 165 = .ok (.getfield 266, 3) := dk_180 1 10 (dk_at dksX5_goesBy_7 0 rfl rfl)
theorem dX5_goesBy_168 : decode cX5_goesBy 168 = .ok (.if_icmp .ge 54, 3) := dk_162 0 54 (dk_at dksX5_goesBy_7 3 rfl rfl)
theorem dX5_goesBy_171 : decode cX5_goesBy 171 = .ok (.aload_n 0, 1) := dk_42 (dk_at dksX5_goesBy_7 6 rfl rfl)
theorem dX5_goesBy_172 : decode cX5_goesBy 172 = .ok (.invokevirtual 322, 3) := dk_182 1 66 (dk_at dksX5_goesBy_7 7 rfl rfl)
theorem dX5_goesBy_175 : decode cX5_goesBy 175 = .ok (.ifCond .le 41, 3) := dk_158 0 41 (dk_at dksX5_goesBy_7 10 rfl rfl)
theorem dX5_goesBy_178 : decode cX5_goesBy 178 = .ok (.aload_n 0, 1) := dk_42 (dk_at dksX5_goesBy_7 13 rfl rfl)
theorem dX5_goesBy_179 : decode cX5_goesBy 179 = .ok (.getfield 303, 3) := dk_180 1 47 (dk_at dksX5_goesBy_7 14 rfl rfl)
theorem dX5_goesBy_182 : decode cX5_goesBy 182 = .ok (.ifCond .ne 34, 3) := dk_154 0 34 (dk_at dksX5_goesBy_7 17 rfl rfl)
theorem dX5_goesBy_185 : decode cX5_goesBy 185 = .ok (.aload_n 0, 1) := dk_42 (dk_at dksX5_goesBy_7 20 rfl rfl)
theorem dX5_goesBy_186 : decode cX5_goesBy 186 = .ok (.iload_n 3, 1) := dk_29 (dk_at dksX5_goesBy_7 21 rfl rfl)
theorem dX5_goesBy_187 : decode cX5_goesBy 187 = .ok (.invokevirtual 278, 3) := dk_182 1 22 (dk_at dksX5_goesBy_8 0 rfl rfl)
theorem dX5_goesBy_190 : decode cX5_goesBy 190 = .ok (.ifCond .eq 26, 3) := dk_153 0 26 (dk_at dksX5_goesBy_8 3 rfl rfl)
theorem dX5_goesBy_193 : decode cX5_goesBy 193 = .ok (.iload_n 3, 1) := dk_29 (dk_at dksX5_goesBy_8 6 rfl rfl)
theorem dX5_goesBy_194 : decode cX5_goesBy 194 = .ok (.aload_n 0, 1) := dk_42 (dk_at dksX5_goesBy_8 7 rfl rfl)
theorem dX5_goesBy_195 : decode cX5_goesBy 195 = .ok (.getfield 281, 3) := dk_180 1 25 (dk_at dksX5_goesBy_8 8 rfl rfl)
theorem dX5_goesBy_198 : decode cX5_goesBy 198 = .ok (.if_icmp .eq 18, 3) := dk_159 0 18 (dk_at dksX5_goesBy_8 11 rfl rfl)
theorem dX5_goesBy_201 : decode cX5_goesBy 201 = .ok (.aload_n 0, 1) := dk_42 (dk_at dksX5_goesBy_8 14 rfl rfl)
theorem dX5_goesBy_202 : decode cX5_goesBy 202 = .ok (.getfield 87, 3) := dk_180 0 87 (dk_at dksX5_goesBy_8 15 rfl rfl)
theorem dX5_goesBy_205 : decode cX5_goesBy 205 = .ok (.iload_n 3, 1) := dk_29 (dk_at dksX5_goesBy_8 18 rfl rfl)
theorem dX5_goesBy_206 : decode cX5_goesBy 206 = .ok (.iaload, 1) := dk_46 (dk_at dksX5_goesBy_8 19 rfl rfl)
theorem dX5_goesBy_207 : decode cX5_goesBy 207 = .ok (.ifCond .ne 9, 3) := dk_154 0 9 (dk_at dksX5_goesBy_8 20 rfl rfl)
theorem dX5_goesBy_210 : decode cX5_goesBy 210 = .ok (.aload_n 0, 1) := dk_42 (dk_at dksX5_goesBy_8 23 rfl rfl)
theorem dX5_goesBy_211 : decode cX5_goesBy 211 = .ok (.iload_n 3, 1) := dk_29 (dk_at dksX5_goesBy_9 0 rfl rfl)
theorem dX5_goesBy_212 : decode cX5_goesBy 212 = .ok (.iconst 2, 1) := dk_5 (dk_at dksX5_goesBy_9 1 rfl rfl)
theorem dX5_goesBy_213 : decode cX5_goesBy 213 = .ok (.invokevirtual 315, 3) := dk_182 1 59 (dk_at dksX5_goesBy_9 2 rfl rfl)
theorem dX5_goesBy_216 : decode cX5_goesBy 216 = .ok (.iinc 3 1, 3) := dk_132 3 1 (dk_at dksX5_goesBy_9 5 rfl rfl)
theorem dX5_goesBy_219 : decode cX5_goesBy 219 = .ok (.goto (-56), 3) := dk_167 255 200 (dk_at dksX5_goesBy_9 8 rfl rfl)
theorem dX5_goesBy_222 : decode cX5_goesBy 222 = .ok (.aload_n 0, 1) := dk_42 (dk_at dksX5_goesBy_9 11 rfl rfl)
theorem dX5_goesBy_223 : decode cX5_goesBy 223 = .ok (.invokevirtual 351, 3) := dk_182 1 95 (dk_at dksX5_goesBy_9 12 rfl rfl)
theorem dX5_goesBy_226 : decode cX5_goesBy 226 = .ok (.aload_n 0, 1) := dk_42 (dk_at dksX5_goesBy_9 15 rfl rfl)
theorem dX5_goesBy_227 : decode cX5_goesBy 227 = .ok (.invokevirtual 354, 3) := dk_182 1 98 (dk_at dksX5_goesBy_9 16 rfl rfl)
theorem dX5_goesBy_230 : decode cX5_goesBy 230 = .ok (.aload_n 0, 1) := dk_42 (dk_at dksX5_goesBy_9 19 rfl rfl)
theorem dX5_goesBy_231 : decode cX5_goesBy 231 = .ok (.dup, 1) := dk_89 (dk_at dksX5_goesBy_9 20 rfl rfl)
theorem dX5_goesBy_232 : decode cX5_goesBy 232 = .ok (.getfield 290, 3) := dk_180 1 34 (dk_at dksX5_goesBy_9 21 rfl rfl)
theorem dX5_goesBy_235 : decode cX5_goesBy 235 = .ok (.iconst 1, 1) := dk_4 (dk_at dksX5_goesBy_10 0 rfl rfl)
theorem dX5_goesBy_236 : decode cX5_goesBy 236 = .ok (.iadd, 1) := dk_96 (dk_at dksX5_goesBy_10 1 rfl rfl)
theorem dX5_goesBy_237 : decode cX5_goesBy 237 = .ok (.putfield 290, 3) := dk_181 1 34 (dk_at dksX5_goesBy_10 2 rfl rfl)
theorem dX5_goesBy_240 : decode cX5_goesBy 240 = .ok (.return_, 1) := dk_177 (dk_at dksX5_goesBy_10 5 rfl rfl)
abbrev cX5_asks : ByteArray := prog_16_method_51_code
def yX5_asks : MethodName := ⟨RX5, "asks", "(I)V"⟩
def dkwX5_asks_4 : List UInt8 := [167, 255, 164, 177]
abbrev dktX5_asks_4 : List UInt8 := dkwX5_asks_4 ++ []
def dkwX5_asks_3 : List UInt8 := [27, 16, 115, 182, 1, 72, 79, 42, 180, 0, 90, 28, 42, 27, 16, 99, 182, 1, 72, 79, 132, 2, 1]
abbrev dktX5_asks_3 : List UInt8 := dkwX5_asks_3 ++ dktX5_asks_4
def dkwX5_asks_2 : List UInt8 := [79, 42, 180, 0, 84, 28, 3, 42, 27, 16, 101, 182, 1, 72, 184, 1, 78, 79, 42, 180, 0, 87, 28, 42]
abbrev dktX5_asks_2 : List UInt8 := dkwX5_asks_2 ++ dktX5_asks_3
def dkwX5_asks_1 : List UInt8 := [182, 1, 69, 42, 180, 0, 81, 28, 3, 16, 9, 42, 27, 16, 100, 182, 1, 72, 184, 1, 76, 184, 1, 78]
abbrev dktX5_asks_1 : List UInt8 := dkwX5_asks_1 ++ dktX5_asks_2
def dkwX5_asks_0 : List UInt8 := [3, 61, 28, 42, 180, 1, 10, 162, 0, 90, 42, 28, 182, 1, 22, 154, 0, 6, 167, 0, 73, 42, 28]
abbrev dktX5_asks_0 : List UInt8 := dkwX5_asks_0 ++ dktX5_asks_1
theorem dksX5_asks_0 : cX5_asks.data.toList.drop 0 = dktX5_asks_0 := by decide +kernel
theorem dksX5_asks_1 : cX5_asks.data.toList.drop 23 = dktX5_asks_1 := dk_seg dksX5_asks_0 23 rfl rfl
theorem dksX5_asks_2 : cX5_asks.data.toList.drop 47 = dktX5_asks_2 := dk_seg dksX5_asks_1 24 rfl rfl
theorem dksX5_asks_3 : cX5_asks.data.toList.drop 71 = dktX5_asks_3 := dk_seg dksX5_asks_2 24 rfl rfl
theorem dksX5_asks_4 : cX5_asks.data.toList.drop 94 = dktX5_asks_4 := dk_seg dksX5_asks_3 23 rfl rfl
theorem dX5_asks_0 : decode cX5_asks 0 = .ok (.iconst 0, 1) := dk_3 (dk_at dksX5_asks_0 0 rfl rfl)
theorem dX5_asks_1 : decode cX5_asks 1 = .ok (.istore_n 2, 1) := dk_61 (dk_at dksX5_asks_0 1 rfl rfl)
theorem dX5_asks_2 : decode cX5_asks 2 = .ok (.iload_n 2, 1) := dk_28 (dk_at dksX5_asks_0 2 rfl rfl)
theorem dX5_asks_3 : decode cX5_asks 3 = .ok (.aload_n 0, 1) := dk_42 (dk_at dksX5_asks_0 3 rfl rfl)
theorem dX5_asks_4 : decode cX5_asks 4 = .ok (.getfield 266, 3) := dk_180 1 10 (dk_at dksX5_asks_0 4 rfl rfl)
theorem dX5_asks_7 : decode cX5_asks 7 = .ok (.if_icmp .ge 90, 3) := dk_162 0 90 (dk_at dksX5_asks_0 7 rfl rfl)
theorem dX5_asks_10 : decode cX5_asks 10 = .ok (.aload_n 0, 1) := dk_42 (dk_at dksX5_asks_0 10 rfl rfl)
theorem dX5_asks_11 : decode cX5_asks 11 = .ok (.iload_n 2, 1) := dk_28 (dk_at dksX5_asks_0 11 rfl rfl)
theorem dX5_asks_12 : decode cX5_asks 12 = .ok (.invokevirtual 278, 3) := dk_182 1 22 (dk_at dksX5_asks_0 12 rfl rfl)
theorem dX5_asks_15 : decode cX5_asks 15 = .ok (.ifCond .ne 6, 3) := dk_154 0 6 (dk_at dksX5_asks_0 15 rfl rfl)
theorem dX5_asks_18 : decode cX5_asks 18 = .ok (.goto 73, 3) := dk_167 0 73 (dk_at dksX5_asks_0 18 rfl rfl)
theorem dX5_asks_21 : decode cX5_asks 21 = .ok (.aload_n 0, 1) := dk_42 (dk_at dksX5_asks_0 21 rfl rfl)
theorem dX5_asks_22 : decode cX5_asks 22 = .ok (.iload_n 2, 1) := dk_28 (dk_at dksX5_asks_0 22 rfl rfl)
theorem dX5_asks_23 : decode cX5_asks 23 = .ok (.invokevirtual 325, 3) := dk_182 1 69 (dk_at dksX5_asks_1 0 rfl rfl)
theorem dX5_asks_26 : decode cX5_asks 26 = .ok (.aload_n 0, 1) := dk_42 (dk_at dksX5_asks_1 3 rfl rfl)
theorem dX5_asks_27 : decode cX5_asks 27 = .ok (.getfield 81, 3) := dk_180 0 81 (dk_at dksX5_asks_1 4 rfl rfl)
theorem dX5_asks_30 : decode cX5_asks 30 = .ok (.iload_n 2, 1) := dk_28 (dk_at dksX5_asks_1 7 rfl rfl)
theorem dX5_asks_31 : decode cX5_asks 31 = .ok (.iconst 0, 1) := dk_3 (dk_at dksX5_asks_1 8 rfl rfl)
theorem dX5_asks_32 : decode cX5_asks 32 = .ok (.bipush 9, 2) := dk_16 9 (dk_at dksX5_asks_1 9 rfl rfl)
theorem dX5_asks_34 : decode cX5_asks 34 = .ok (.aload_n 0, 1) := dk_42 (dk_at dksX5_asks_1 11 rfl rfl)
theorem dX5_asks_35 : decode cX5_asks 35 = .ok (.iload_n 1, 1) := dk_27 (dk_at dksX5_asks_1 12 rfl rfl)
theorem dX5_asks_36 : decode cX5_asks 36 = .ok (.bipush 100, 2) := dk_16 100 (dk_at dksX5_asks_1 13 rfl rfl)
theorem dX5_asks_38 : decode cX5_asks 38 = .ok (.invokevirtual 328, 3) := dk_182 1 72 (dk_at dksX5_asks_1 15 rfl rfl)
theorem dX5_asks_41 : decode cX5_asks 41 = .ok (.invokestatic 332, 3) := dk_184 1 76 (dk_at dksX5_asks_1 18 rfl rfl)
theorem dX5_asks_44 : decode cX5_asks 44 = .ok (.invokestatic 334, 3) := dk_184 1 78 (dk_at dksX5_asks_1 21 rfl rfl)
theorem dX5_asks_47 : decode cX5_asks 47 = .ok (.iastore, 1) := dk_79 (dk_at dksX5_asks_2 0 rfl rfl)
theorem dX5_asks_48 : decode cX5_asks 48 = .ok (.aload_n 0, 1) := dk_42 (dk_at dksX5_asks_2 1 rfl rfl)
theorem dX5_asks_49 : decode cX5_asks 49 = .ok (.getfield 84, 3) := dk_180 0 84 (dk_at dksX5_asks_2 2 rfl rfl)
theorem dX5_asks_52 : decode cX5_asks 52 = .ok (.iload_n 2, 1) := dk_28 (dk_at dksX5_asks_2 5 rfl rfl)
theorem dX5_asks_53 : decode cX5_asks 53 = .ok (.iconst 0, 1) := dk_3 (dk_at dksX5_asks_2 6 rfl rfl)
theorem dX5_asks_54 : decode cX5_asks 54 = .ok (.aload_n 0, 1) := dk_42 (dk_at dksX5_asks_2 7 rfl rfl)
theorem dX5_asks_55 : decode cX5_asks 55 = .ok (.iload_n 1, 1) := dk_27 (dk_at dksX5_asks_2 8 rfl rfl)
theorem dX5_asks_56 : decode cX5_asks 56 = .ok (.bipush 101, 2) := dk_16 101 (dk_at dksX5_asks_2 9 rfl rfl)
theorem dX5_asks_58 : decode cX5_asks 58 = .ok (.invokevirtual 328, 3) := dk_182 1 72 (dk_at dksX5_asks_2 11 rfl rfl)
theorem dX5_asks_61 : decode cX5_asks 61 = .ok (.invokestatic 334, 3) := dk_184 1 78 (dk_at dksX5_asks_2 14 rfl rfl)
theorem dX5_asks_64 : decode cX5_asks 64 = .ok (.iastore, 1) := dk_79 (dk_at dksX5_asks_2 17 rfl rfl)
theorem dX5_asks_65 : decode cX5_asks 65 = .ok (.aload_n 0, 1) := dk_42 (dk_at dksX5_asks_2 18 rfl rfl)
theorem dX5_asks_66 : decode cX5_asks 66 = .ok (.getfield 87, 3) := dk_180 0 87 (dk_at dksX5_asks_2 19 rfl rfl)
theorem dX5_asks_69 : decode cX5_asks 69 = .ok (.iload_n 2, 1) := dk_28 (dk_at dksX5_asks_2 22 rfl rfl)
theorem dX5_asks_70 : decode cX5_asks 70 = .ok (.aload_n 0, 1) := dk_42 (dk_at dksX5_asks_2 23 rfl rfl)
theorem dX5_asks_71 : decode cX5_asks 71 = .ok (.iload_n 1, 1) := dk_27 (dk_at dksX5_asks_3 0 rfl rfl)
theorem dX5_asks_72 : decode cX5_asks 72 = .ok (.bipush 115, 2) := dk_16 115 (dk_at dksX5_asks_3 1 rfl rfl)
theorem dX5_asks_74 : decode cX5_asks 74 = .ok (.invokevirtual 328, 3) := dk_182 1 72 (dk_at dksX5_asks_3 3 rfl rfl)
theorem dX5_asks_77 : decode cX5_asks 77 = .ok (.iastore, 1) := dk_79 (dk_at dksX5_asks_3 6 rfl rfl)
theorem dX5_asks_78 : decode cX5_asks 78 = .ok (.aload_n 0, 1) := dk_42 (dk_at dksX5_asks_3 7 rfl rfl)
theorem dX5_asks_79 : decode cX5_asks 79 = .ok (.getfield 90, 3) := dk_180 0 90 (dk_at dksX5_asks_3 8 rfl rfl)
theorem dX5_asks_82 : decode cX5_asks 82 = .ok (.iload_n 2, 1) := dk_28 (dk_at dksX5_asks_3 11 rfl rfl)
theorem dX5_asks_83 : decode cX5_asks 83 = .ok (.aload_n 0, 1) := dk_42 (dk_at dksX5_asks_3 12 rfl rfl)
theorem dX5_asks_84 : decode cX5_asks 84 = .ok (.iload_n 1, 1) := dk_27 (dk_at dksX5_asks_3 13 rfl rfl)
theorem dX5_asks_85 : decode cX5_asks 85 = .ok (.bipush 99, 2) := dk_16 99 (dk_at dksX5_asks_3 14 rfl rfl)
theorem dX5_asks_87 : decode cX5_asks 87 = .ok (.invokevirtual 328, 3) := dk_182 1 72 (dk_at dksX5_asks_3 16 rfl rfl)
theorem dX5_asks_90 : decode cX5_asks 90 = .ok (.iastore, 1) := dk_79 (dk_at dksX5_asks_3 19 rfl rfl)
theorem dX5_asks_91 : decode cX5_asks 91 = .ok (.iinc 2 1, 3) := dk_132 2 1 (dk_at dksX5_asks_3 20 rfl rfl)
theorem dX5_asks_94 : decode cX5_asks 94 = .ok (.goto (-92), 3) := dk_167 255 164 (dk_at dksX5_asks_4 0 rfl rfl)
theorem dX5_asks_97 : decode cX5_asks 97 = .ok (.return_, 1) := dk_177 (dk_at dksX5_asks_4 3 rfl rfl)
abbrev cX5_draw : ByteArray := prog_16_method_46_code
def yX5_draw : MethodName := ⟨RX5, "draw", "()I"⟩
def dkwX5_draw_1 : List UInt8 := [20, 1, 57, 113, 136, 172]
abbrev dktX5_draw_1 : List UInt8 := dkwX5_draw_1 ++ []
def dkwX5_draw_0 : List UInt8 := [42, 42, 180, 1, 37, 20, 1, 53, 105, 20, 1, 55, 97, 181, 1, 37, 42, 180, 1, 37, 16, 33, 125]
abbrev dktX5_draw_0 : List UInt8 := dkwX5_draw_0 ++ dktX5_draw_1
theorem dksX5_draw_0 : cX5_draw.data.toList.drop 0 = dktX5_draw_0 := by decide +kernel
theorem dksX5_draw_1 : cX5_draw.data.toList.drop 23 = dktX5_draw_1 := dk_seg dksX5_draw_0 23 rfl rfl
theorem dX5_draw_0 : decode cX5_draw 0 = .ok (.aload_n 0, 1) := dk_42 (dk_at dksX5_draw_0 0 rfl rfl)
theorem dX5_draw_1 : decode cX5_draw 1 = .ok (.aload_n 0, 1) := dk_42 (dk_at dksX5_draw_0 1 rfl rfl)
theorem dX5_draw_2 : decode cX5_draw 2 = .ok (.getfield 293, 3) := dk_180 1 37 (dk_at dksX5_draw_0 2 rfl rfl)
theorem dX5_draw_5 : decode cX5_draw 5 = .ok (.ldc2_w 309, 3) := dk_20 1 53 (dk_at dksX5_draw_0 5 rfl rfl)
theorem dX5_draw_8 : decode cX5_draw 8 = .ok (.lmul, 1) := dk_105 (dk_at dksX5_draw_0 8 rfl rfl)
theorem dX5_draw_9 : decode cX5_draw 9 = .ok (.ldc2_w 311, 3) := dk_20 1 55 (dk_at dksX5_draw_0 9 rfl rfl)
theorem dX5_draw_12 : decode cX5_draw 12 = .ok (.ladd, 1) := dk_97 (dk_at dksX5_draw_0 12 rfl rfl)
theorem dX5_draw_13 : decode cX5_draw 13 = .ok (.putfield 293, 3) := dk_181 1 37 (dk_at dksX5_draw_0 13 rfl rfl)
theorem dX5_draw_16 : decode cX5_draw 16 = .ok (.aload_n 0, 1) := dk_42 (dk_at dksX5_draw_0 16 rfl rfl)
theorem dX5_draw_17 : decode cX5_draw 17 = .ok (.getfield 293, 3) := dk_180 1 37 (dk_at dksX5_draw_0 17 rfl rfl)
theorem dX5_draw_20 : decode cX5_draw 20 = .ok (.bipush 33, 2) := dk_16 33 (dk_at dksX5_draw_0 20 rfl rfl)
theorem dX5_draw_22 : decode cX5_draw 22 = .ok (.lushr, 1) := dk_125 (dk_at dksX5_draw_0 22 rfl rfl)
theorem dX5_draw_23 : decode cX5_draw 23 = .ok (.ldc2_w 313, 3) := dk_20 1 57 (dk_at dksX5_draw_1 0 rfl rfl)
theorem dX5_draw_26 : decode cX5_draw 26 = .ok (.lrem, 1) := dk_113 (dk_at dksX5_draw_1 3 rfl rfl)
theorem dX5_draw_27 : decode cX5_draw 27 = .ok (.l2i, 1) := dk_136 (dk_at dksX5_draw_1 4 rfl rfl)
theorem dX5_draw_28 : decode cX5_draw 28 = .ok (.ireturn, 1) := dk_172 (dk_at dksX5_draw_1 5 rfl rfl)
abbrev cX5_eat : ByteArray := prog_16_method_52_code
def yX5_eat : MethodName := ⟨RX5, "eat", "(I)V"⟩
def dkwX5_eat_3 : List UInt8 := [154, 0, 9, 42, 27, 4, 182, 1, 59, 177]
abbrev dktX5_eat_3 : List UInt8 := dkwX5_eat_3 ++ []
def dkwX5_eat_2 : List UInt8 := [42, 180, 0, 69, 27, 3, 42, 180, 0, 69, 27, 46, 6, 100, 184, 1, 78, 79, 42, 180, 0, 69, 27, 46]
abbrev dktX5_eat_2 : List UInt8 := dkwX5_eat_2 ++ dktX5_eat_3
def dkwX5_eat_1 : List UInt8 := [100, 181, 1, 16, 42, 180, 0, 69, 27, 16, 99, 42, 180, 0, 69, 27, 46, 4, 96, 184, 1, 76, 79, 177]
abbrev dktX5_eat_1 : List UInt8 := dkwX5_eat_1 ++ dktX5_eat_2
def dkwX5_eat_0 : List UInt8 := [42, 180, 1, 16, 42, 180, 0, 84, 27, 46, 161, 0, 38, 42, 89, 180, 1, 16, 42, 180, 0, 84, 27, 46]
abbrev dktX5_eat_0 : List UInt8 := dkwX5_eat_0 ++ dktX5_eat_1
theorem dksX5_eat_0 : cX5_eat.data.toList.drop 0 = dktX5_eat_0 := by decide +kernel
theorem dksX5_eat_1 : cX5_eat.data.toList.drop 24 = dktX5_eat_1 := dk_seg dksX5_eat_0 24 rfl rfl
theorem dksX5_eat_2 : cX5_eat.data.toList.drop 48 = dktX5_eat_2 := dk_seg dksX5_eat_1 24 rfl rfl
theorem dksX5_eat_3 : cX5_eat.data.toList.drop 72 = dktX5_eat_3 := dk_seg dksX5_eat_2 24 rfl rfl
theorem dX5_eat_0 : decode cX5_eat 0 = .ok (.aload_n 0, 1) := dk_42 (dk_at dksX5_eat_0 0 rfl rfl)
theorem dX5_eat_1 : decode cX5_eat 1 = .ok (.getfield 272, 3) := dk_180 1 16 (dk_at dksX5_eat_0 1 rfl rfl)
theorem dX5_eat_4 : decode cX5_eat 4 = .ok (.aload_n 0, 1) := dk_42 (dk_at dksX5_eat_0 4 rfl rfl)
theorem dX5_eat_5 : decode cX5_eat 5 = .ok (.getfield 84, 3) := dk_180 0 84 (dk_at dksX5_eat_0 5 rfl rfl)
theorem dX5_eat_8 : decode cX5_eat 8 = .ok (.iload_n 1, 1) := dk_27 (dk_at dksX5_eat_0 8 rfl rfl)
theorem dX5_eat_9 : decode cX5_eat 9 = .ok (.iaload, 1) := dk_46 (dk_at dksX5_eat_0 9 rfl rfl)
theorem dX5_eat_10 : decode cX5_eat 10 = .ok (.if_icmp .lt 38, 3) := dk_161 0 38 (dk_at dksX5_eat_0 10 rfl rfl)
theorem dX5_eat_13 : decode cX5_eat 13 = .ok (.aload_n 0, 1) := dk_42 (dk_at dksX5_eat_0 13 rfl rfl)
theorem dX5_eat_14 : decode cX5_eat 14 = .ok (.dup, 1) := dk_89 (dk_at dksX5_eat_0 14 rfl rfl)
theorem dX5_eat_15 : decode cX5_eat 15 = .ok (.getfield 272, 3) := dk_180 1 16 (dk_at dksX5_eat_0 15 rfl rfl)
theorem dX5_eat_18 : decode cX5_eat 18 = .ok (.aload_n 0, 1) := dk_42 (dk_at dksX5_eat_0 18 rfl rfl)
theorem dX5_eat_19 : decode cX5_eat 19 = .ok (.getfield 84, 3) := dk_180 0 84 (dk_at dksX5_eat_0 19 rfl rfl)
theorem dX5_eat_22 : decode cX5_eat 22 = .ok (.iload_n 1, 1) := dk_27 (dk_at dksX5_eat_0 22 rfl rfl)
theorem dX5_eat_23 : decode cX5_eat 23 = .ok (.iaload, 1) := dk_46 (dk_at dksX5_eat_0 23 rfl rfl)
theorem dX5_eat_24 : decode cX5_eat 24 = .ok (.isub, 1) := dk_100 (dk_at dksX5_eat_1 0 rfl rfl)
theorem dX5_eat_25 : decode cX5_eat 25 = .ok (.putfield 272, 3) := dk_181 1 16 (dk_at dksX5_eat_1 1 rfl rfl)
theorem dX5_eat_28 : decode cX5_eat 28 = .ok (.aload_n 0, 1) := dk_42 (dk_at dksX5_eat_1 4 rfl rfl)
theorem dX5_eat_29 : decode cX5_eat 29 = .ok (.getfield 69, 3) := dk_180 0 69 (dk_at dksX5_eat_1 5 rfl rfl)
theorem dX5_eat_32 : decode cX5_eat 32 = .ok (.iload_n 1, 1) := dk_27 (dk_at dksX5_eat_1 8 rfl rfl)
theorem dX5_eat_33 : decode cX5_eat 33 = .ok (.bipush 99, 2) := dk_16 99 (dk_at dksX5_eat_1 9 rfl rfl)
theorem dX5_eat_35 : decode cX5_eat 35 = .ok (.aload_n 0, 1) := dk_42 (dk_at dksX5_eat_1 11 rfl rfl)
theorem dX5_eat_36 : decode cX5_eat 36 = .ok (.getfield 69, 3) := dk_180 0 69 (dk_at dksX5_eat_1 12 rfl rfl)
theorem dX5_eat_39 : decode cX5_eat 39 = .ok (.iload_n 1, 1) := dk_27 (dk_at dksX5_eat_1 15 rfl rfl)
theorem dX5_eat_40 : decode cX5_eat 40 = .ok (.iaload, 1) := dk_46 (dk_at dksX5_eat_1 16 rfl rfl)
theorem dX5_eat_41 : decode cX5_eat 41 = .ok (.iconst 1, 1) := dk_4 (dk_at dksX5_eat_1 17 rfl rfl)
theorem dX5_eat_42 : decode cX5_eat 42 = .ok (.iadd, 1) := dk_96 (dk_at dksX5_eat_1 18 rfl rfl)
theorem dX5_eat_43 : decode cX5_eat 43 = .ok (.invokestatic 332, 3) := dk_184 1 76 (dk_at dksX5_eat_1 19 rfl rfl)
theorem dX5_eat_46 : decode cX5_eat 46 = .ok (.iastore, 1) := dk_79 (dk_at dksX5_eat_1 22 rfl rfl)
theorem dX5_eat_47 : decode cX5_eat 47 = .ok (.return_, 1) := dk_177 (dk_at dksX5_eat_1 23 rfl rfl)
theorem dX5_eat_48 : decode cX5_eat 48 = .ok (.aload_n 0, 1) := dk_42 (dk_at dksX5_eat_2 0 rfl rfl)
theorem dX5_eat_49 : decode cX5_eat 49 = .ok (.getfield 69, 3) := dk_180 0 69 (dk_at dksX5_eat_2 1 rfl rfl)
theorem dX5_eat_52 : decode cX5_eat 52 = .ok (.iload_n 1, 1) := dk_27 (dk_at dksX5_eat_2 4 rfl rfl)
theorem dX5_eat_53 : decode cX5_eat 53 = .ok (.iconst 0, 1) := dk_3 (dk_at dksX5_eat_2 5 rfl rfl)
theorem dX5_eat_54 : decode cX5_eat 54 = .ok (.aload_n 0, 1) := dk_42 (dk_at dksX5_eat_2 6 rfl rfl)
theorem dX5_eat_55 : decode cX5_eat 55 = .ok (.getfield 69, 3) := dk_180 0 69 (dk_at dksX5_eat_2 7 rfl rfl)
theorem dX5_eat_58 : decode cX5_eat 58 = .ok (.iload_n 1, 1) := dk_27 (dk_at dksX5_eat_2 10 rfl rfl)
theorem dX5_eat_59 : decode cX5_eat 59 = .ok (.iaload, 1) := dk_46 (dk_at dksX5_eat_2 11 rfl rfl)
theorem dX5_eat_60 : decode cX5_eat 60 = .ok (.iconst 3, 1) := dk_6 (dk_at dksX5_eat_2 12 rfl rfl)
theorem dX5_eat_61 : decode cX5_eat 61 = .ok (.isub, 1) := dk_100 (dk_at dksX5_eat_2 13 rfl rfl)
theorem dX5_eat_62 : decode cX5_eat 62 = .ok (.invokestatic 334, 3) := dk_184 1 78 (dk_at dksX5_eat_2 14 rfl rfl)
theorem dX5_eat_65 : decode cX5_eat 65 = .ok (.iastore, 1) := dk_79 (dk_at dksX5_eat_2 17 rfl rfl)
theorem dX5_eat_66 : decode cX5_eat 66 = .ok (.aload_n 0, 1) := dk_42 (dk_at dksX5_eat_2 18 rfl rfl)
theorem dX5_eat_67 : decode cX5_eat 67 = .ok (.getfield 69, 3) := dk_180 0 69 (dk_at dksX5_eat_2 19 rfl rfl)
theorem dX5_eat_70 : decode cX5_eat 70 = .ok (.iload_n 1, 1) := dk_27 (dk_at dksX5_eat_2 22 rfl rfl)
theorem dX5_eat_71 : decode cX5_eat 71 = .ok (.iaload, 1) := dk_46 (dk_at dksX5_eat_2 23 rfl rfl)
theorem dX5_eat_72 : decode cX5_eat 72 = .ok (.ifCond .ne 9, 3) := dk_154 0 9 (dk_at dksX5_eat_3 0 rfl rfl)
theorem dX5_eat_75 : decode cX5_eat 75 = .ok (.aload_n 0, 1) := dk_42 (dk_at dksX5_eat_3 3 rfl rfl)
theorem dX5_eat_76 : decode cX5_eat 76 = .ok (.iload_n 1, 1) := dk_27 (dk_at dksX5_eat_3 4 rfl rfl)
theorem dX5_eat_77 : decode cX5_eat 77 = .ok (.iconst 1, 1) := dk_4 (dk_at dksX5_eat_3 5 rfl rfl)
theorem dX5_eat_78 : decode cX5_eat 78 = .ok (.invokevirtual 315, 3) := dk_182 1 59 (dk_at dksX5_eat_3 6 rfl rfl)
theorem dX5_eat_81 : decode cX5_eat 81 = .ok (.return_, 1) := dk_177 (dk_at dksX5_eat_3 9 rfl rfl)
abbrev cX5_bear : ByteArray := prog_16_method_53_code
def yX5_bear : MethodName := ⟨RX5, "bear", "()V"⟩
def dkwX5_bear_6 : List UInt8 := [132, 1, 1, 167, 255, 155, 42, 42, 180, 1, 10, 182, 1, 50, 177]
abbrev dktX5_bear_6 : List UInt8 := dkwX5_bear_6 ++ []
def dkwX5_bear_5 : List UInt8 := [79, 42, 180, 0, 78, 42, 180, 1, 10, 42, 180, 1, 34, 79, 42, 89, 180, 1, 10, 4, 96, 181, 1, 10]
abbrev dktX5_bear_5 : List UInt8 := dkwX5_bear_5 ++ dktX5_bear_6
def dkwX5_bear_4 : List UInt8 := [180, 1, 10, 8, 79, 42, 180, 0, 72, 42, 180, 1, 10, 3, 79, 42, 180, 0, 75, 42, 180, 1, 10, 2]
abbrev dktX5_bear_4 : List UInt8 := dkwX5_bear_4 ++ dktX5_bear_5
def dkwX5_bear_3 : List UInt8 := [180, 1, 25, 79, 42, 180, 0, 49, 42, 180, 1, 10, 42, 180, 1, 28, 79, 42, 180, 0, 69, 42]
abbrev dktX5_bear_3 : List UInt8 := dkwX5_bear_3 ++ dktX5_bear_4
def dkwX5_bear_2 : List UInt8 := [46, 162, 0, 97, 42, 180, 1, 10, 16, 24, 162, 0, 88, 42, 180, 0, 46, 42, 180, 1, 10, 42]
abbrev dktX5_bear_2 : List UInt8 := dkwX5_bear_2 ++ dktX5_bear_3
def dkwX5_bear_1 : List UInt8 := [180, 1, 34, 4, 96, 42, 180, 0, 63, 7, 46, 112, 153, 0, 4, 177, 3, 60, 27, 42, 180, 0, 63, 8]
abbrev dktX5_bear_1 : List UInt8 := dkwX5_bear_1 ++ dktX5_bear_2
def dkwX5_bear_0 : List UInt8 := [42, 42, 180, 1, 25, 182, 1, 22, 153, 0, 30, 42, 42, 180, 1, 28, 182, 1, 22, 153, 0, 19, 42]
abbrev dktX5_bear_0 : List UInt8 := dkwX5_bear_0 ++ dktX5_bear_1
theorem dksX5_bear_0 : cX5_bear.data.toList.drop 0 = dktX5_bear_0 := by decide +kernel
theorem dksX5_bear_1 : cX5_bear.data.toList.drop 23 = dktX5_bear_1 := dk_seg dksX5_bear_0 23 rfl rfl
theorem dksX5_bear_2 : cX5_bear.data.toList.drop 47 = dktX5_bear_2 := dk_seg dksX5_bear_1 24 rfl rfl
theorem dksX5_bear_3 : cX5_bear.data.toList.drop 69 = dktX5_bear_3 := dk_seg dksX5_bear_2 22 rfl rfl
theorem dksX5_bear_4 : cX5_bear.data.toList.drop 91 = dktX5_bear_4 := dk_seg dksX5_bear_3 22 rfl rfl
theorem dksX5_bear_5 : cX5_bear.data.toList.drop 115 = dktX5_bear_5 := dk_seg dksX5_bear_4 24 rfl rfl
theorem dksX5_bear_6 : cX5_bear.data.toList.drop 139 = dktX5_bear_6 := dk_seg dksX5_bear_5 24 rfl rfl
theorem dX5_bear_0 : decode cX5_bear 0 = .ok (.aload_n 0, 1) := dk_42 (dk_at dksX5_bear_0 0 rfl rfl)
theorem dX5_bear_1 : decode cX5_bear 1 = .ok (.aload_n 0, 1) := dk_42 (dk_at dksX5_bear_0 1 rfl rfl)
theorem dX5_bear_2 : decode cX5_bear 2 = .ok (.getfield 281, 3) := dk_180 1 25 (dk_at dksX5_bear_0 2 rfl rfl)
theorem dX5_bear_5 : decode cX5_bear 5 = .ok (.invokevirtual 278, 3) := dk_182 1 22 (dk_at dksX5_bear_0 5 rfl rfl)
theorem dX5_bear_8 : decode cX5_bear 8 = .ok (.ifCond .eq 30, 3) := dk_153 0 30 (dk_at dksX5_bear_0 8 rfl rfl)
theorem dX5_bear_11 : decode cX5_bear 11 = .ok (.aload_n 0, 1) := dk_42 (dk_at dksX5_bear_0 11 rfl rfl)
theorem dX5_bear_12 : decode cX5_bear 12 = .ok (.aload_n 0, 1) := dk_42 (dk_at dksX5_bear_0 12 rfl rfl)
theorem dX5_bear_13 : decode cX5_bear 13 = .ok (.getfield 284, 3) := dk_180 1 28 (dk_at dksX5_bear_0 13 rfl rfl)
theorem dX5_bear_16 : decode cX5_bear 16 = .ok (.invokevirtual 278, 3) := dk_182 1 22 (dk_at dksX5_bear_0 16 rfl rfl)
theorem dX5_bear_19 : decode cX5_bear 19 = .ok (.ifCond .eq 19, 3) := dk_153 0 19 (dk_at dksX5_bear_0 19 rfl rfl)
theorem dX5_bear_22 : decode cX5_bear 22 = .ok (.aload_n 0, 1) := dk_42 (dk_at dksX5_bear_0 22 rfl rfl)
theorem dX5_bear_23 : decode cX5_bear 23 = .ok (.getfield 290, 3) := dk_180 1 34 (dk_at dksX5_bear_1 0 rfl rfl)
theorem dX5_bear_26 : decode cX5_bear 26 = .ok (.iconst 1, 1) := dk_4 (dk_at dksX5_bear_1 3 rfl rfl)
theorem dX5_bear_27 : decode cX5_bear 27 = .ok (.iadd, 1) := dk_96 (dk_at dksX5_bear_1 4 rfl rfl)
theorem dX5_bear_28 : decode cX5_bear 28 = .ok (.aload_n 0, 1) := dk_42 (dk_at dksX5_bear_1 5 rfl rfl)
theorem dX5_bear_29 : decode cX5_bear 29 = .ok (.getfield 63, 3) := dk_180 0 63 (dk_at dksX5_bear_1 6 rfl rfl)
theorem dX5_bear_32 : decode cX5_bear 32 = .ok (.iconst 4, 1) := dk_7 (dk_at dksX5_bear_1 9 rfl rfl)
theorem dX5_bear_33 : decode cX5_bear 33 = .ok (.iaload, 1) := dk_46 (dk_at dksX5_bear_1 10 rfl rfl)
theorem dX5_bear_34 : decode cX5_bear 34 = .ok (.irem, 1) := dk_112 (dk_at dksX5_bear_1 11 rfl rfl)
theorem dX5_bear_35 : decode cX5_bear 35 = .ok (.ifCond .eq 4, 3) := dk_153 0 4 (dk_at dksX5_bear_1 12 rfl rfl)
theorem dX5_bear_38 : decode cX5_bear 38 = .ok (.return_, 1) := dk_177 (dk_at dksX5_bear_1 15 rfl rfl)
theorem dX5_bear_39 : decode cX5_bear 39 = .ok (.iconst 0, 1) := dk_3 (dk_at dksX5_bear_1 16 rfl rfl)
theorem dX5_bear_40 : decode cX5_bear 40 = .ok (.istore_n 1, 1) := dk_60 (dk_at dksX5_bear_1 17 rfl rfl)
theorem dX5_bear_41 : decode cX5_bear 41 = .ok (.iload_n 1, 1) := dk_27 (dk_at dksX5_bear_1 18 rfl rfl)
theorem dX5_bear_42 : decode cX5_bear 42 = .ok (.aload_n 0, 1) := dk_42 (dk_at dksX5_bear_1 19 rfl rfl)
theorem dX5_bear_43 : decode cX5_bear 43 = .ok (.getfield 63, 3) := dk_180 0 63 (dk_at dksX5_bear_1 20 rfl rfl)
theorem dX5_bear_46 : decode cX5_bear 46 = .ok (.iconst 5, 1) := dk_8 (dk_at dksX5_bear_1 23 rfl rfl)
theorem dX5_bear_47 : decode cX5_bear 47 = .ok (.iaload, 1) := dk_46 (dk_at dksX5_bear_2 0 rfl rfl)
theorem dX5_bear_48 : decode cX5_bear 48 = .ok (.if_icmp .ge 97, 3) := dk_162 0 97 (dk_at dksX5_bear_2 1 rfl rfl)
theorem dX5_bear_51 : decode cX5_bear 51 = .ok (.aload_n 0, 1) := dk_42 (dk_at dksX5_bear_2 4 rfl rfl)
theorem dX5_bear_52 : decode cX5_bear 52 = .ok (.getfield 266, 3) := dk_180 1 10 (dk_at dksX5_bear_2 5 rfl rfl)
theorem dX5_bear_55 : decode cX5_bear 55 = .ok (.bipush 24, 2) := dk_16 24 (dk_at dksX5_bear_2 8 rfl rfl)
theorem dX5_bear_57 : decode cX5_bear 57 = .ok (.if_icmp .ge 88, 3) := dk_162 0 88 (dk_at dksX5_bear_2 10 rfl rfl)
theorem dX5_bear_60 : decode cX5_bear 60 = .ok (.aload_n 0, 1) := dk_42 (dk_at dksX5_bear_2 13 rfl rfl)
theorem dX5_bear_61 : decode cX5_bear 61 = .ok (.getfield 46, 3) := dk_180 0 46 (dk_at dksX5_bear_2 14 rfl rfl)
theorem dX5_bear_64 : decode cX5_bear 64 = .ok (.aload_n 0, 1) := dk_42 (dk_at dksX5_bear_2 17 rfl rfl)
theorem dX5_bear_65 : decode cX5_bear 65 = .ok (.getfield 266, 3) := dk_180 1 10 (dk_at dksX5_bear_2 18 rfl rfl)
theorem dX5_bear_68 : decode cX5_bear 68 = .ok (.aload_n 0, 1) := dk_42 (dk_at dksX5_bear_2 21 rfl rfl)
theorem dX5_bear_69 : decode cX5_bear 69 = .ok (.getfield 281, 3) := dk_180 1 25 (dk_at dksX5_bear_3 0 rfl rfl)
theorem dX5_bear_72 : decode cX5_bear 72 = .ok (.iastore, 1) := dk_79 (dk_at dksX5_bear_3 3 rfl rfl)
theorem dX5_bear_73 : decode cX5_bear 73 = .ok (.aload_n 0, 1) := dk_42 (dk_at dksX5_bear_3 4 rfl rfl)
theorem dX5_bear_74 : decode cX5_bear 74 = .ok (.getfield 49, 3) := dk_180 0 49 (dk_at dksX5_bear_3 5 rfl rfl)
theorem dX5_bear_77 : decode cX5_bear 77 = .ok (.aload_n 0, 1) := dk_42 (dk_at dksX5_bear_3 8 rfl rfl)
theorem dX5_bear_78 : decode cX5_bear 78 = .ok (.getfield 266, 3) := dk_180 1 10 (dk_at dksX5_bear_3 9 rfl rfl)
theorem dX5_bear_81 : decode cX5_bear 81 = .ok (.aload_n 0, 1) := dk_42 (dk_at dksX5_bear_3 12 rfl rfl)
theorem dX5_bear_82 : decode cX5_bear 82 = .ok (.getfield 284, 3) := dk_180 1 28 (dk_at dksX5_bear_3 13 rfl rfl)
theorem dX5_bear_85 : decode cX5_bear 85 = .ok (.iastore, 1) := dk_79 (dk_at dksX5_bear_3 16 rfl rfl)
theorem dX5_bear_86 : decode cX5_bear 86 = .ok (.aload_n 0, 1) := dk_42 (dk_at dksX5_bear_3 17 rfl rfl)
theorem dX5_bear_87 : decode cX5_bear 87 = .ok (.getfield 69, 3) := dk_180 0 69 (dk_at dksX5_bear_3 18 rfl rfl)
theorem dX5_bear_90 : decode cX5_bear 90 = .ok (.aload_n 0, 1) := dk_42 (dk_at dksX5_bear_3 21 rfl rfl)
theorem dX5_bear_91 : decode cX5_bear 91 = .ok (.getfield 266, 3) := dk_180 1 10 (dk_at dksX5_bear_4 0 rfl rfl)
theorem dX5_bear_94 : decode cX5_bear 94 = .ok (.iconst 5, 1) := dk_8 (dk_at dksX5_bear_4 3 rfl rfl)
theorem dX5_bear_95 : decode cX5_bear 95 = .ok (.iastore, 1) := dk_79 (dk_at dksX5_bear_4 4 rfl rfl)
theorem dX5_bear_96 : decode cX5_bear 96 = .ok (.aload_n 0, 1) := dk_42 (dk_at dksX5_bear_4 5 rfl rfl)
theorem dX5_bear_97 : decode cX5_bear 97 = .ok (.getfield 72, 3) := dk_180 0 72 (dk_at dksX5_bear_4 6 rfl rfl)
theorem dX5_bear_100 : decode cX5_bear 100 = .ok (.aload_n 0, 1) := dk_42 (dk_at dksX5_bear_4 9 rfl rfl)
theorem dX5_bear_101 : decode cX5_bear 101 = .ok (.getfield 266, 3) := dk_180 1 10 (dk_at dksX5_bear_4 10 rfl rfl)
theorem dX5_bear_104 : decode cX5_bear 104 = .ok (.iconst 0, 1) := dk_3 (dk_at dksX5_bear_4 13 rfl rfl)
theorem dX5_bear_105 : decode cX5_bear 105 = .ok (.iastore, 1) := dk_79 (dk_at dksX5_bear_4 14 rfl rfl)
theorem dX5_bear_106 : decode cX5_bear 106 = .ok (.aload_n 0, 1) := dk_42 (dk_at dksX5_bear_4 15 rfl rfl)
theorem dX5_bear_107 : decode cX5_bear 107 = .ok (.getfield 75, 3) := dk_180 0 75 (dk_at dksX5_bear_4 16 rfl rfl)
theorem dX5_bear_110 : decode cX5_bear 110 = .ok (.aload_n 0, 1) := dk_42 (dk_at dksX5_bear_4 19 rfl rfl)
theorem dX5_bear_111 : decode cX5_bear 111 = .ok (.getfield 266, 3) := dk_180 1 10 (dk_at dksX5_bear_4 20 rfl rfl)
theorem dX5_bear_114 : decode cX5_bear 114 = .ok (.iconst (-1), 1) := dk_2 (dk_at dksX5_bear_4 23 rfl rfl)
theorem dX5_bear_115 : decode cX5_bear 115 = .ok (.iastore, 1) := dk_79 (dk_at dksX5_bear_5 0 rfl rfl)
theorem dX5_bear_116 : decode cX5_bear 116 = .ok (.aload_n 0, 1) := dk_42 (dk_at dksX5_bear_5 1 rfl rfl)
theorem dX5_bear_117 : decode cX5_bear 117 = .ok (.getfield 78, 3) := dk_180 0 78 (dk_at dksX5_bear_5 2 rfl rfl)
theorem dX5_bear_120 : decode cX5_bear 120 = .ok (.aload_n 0, 1) := dk_42 (dk_at dksX5_bear_5 5 rfl rfl)
theorem dX5_bear_121 : decode cX5_bear 121 = .ok (.getfield 266, 3) := dk_180 1 10 (dk_at dksX5_bear_5 6 rfl rfl)
theorem dX5_bear_124 : decode cX5_bear 124 = .ok (.aload_n 0, 1) := dk_42 (dk_at dksX5_bear_5 9 rfl rfl)
theorem dX5_bear_125 : decode cX5_bear 125 = .ok (.getfield 290, 3) := dk_180 1 34 (dk_at dksX5_bear_5 10 rfl rfl)
theorem dX5_bear_128 : decode cX5_bear 128 = .ok (.iastore, 1) := dk_79 (dk_at dksX5_bear_5 13 rfl rfl)
theorem dX5_bear_129 : decode cX5_bear 129 = .ok (.aload_n 0, 1) := dk_42 (dk_at dksX5_bear_5 14 rfl rfl)
theorem dX5_bear_130 : decode cX5_bear 130 = .ok (.dup, 1) := dk_89 (dk_at dksX5_bear_5 15 rfl rfl)
theorem dX5_bear_131 : decode cX5_bear 131 = .ok (.getfield 266, 3) := dk_180 1 10 (dk_at dksX5_bear_5 16 rfl rfl)
theorem dX5_bear_134 : decode cX5_bear 134 = .ok (.iconst 1, 1) := dk_4 (dk_at dksX5_bear_5 19 rfl rfl)
theorem dX5_bear_135 : decode cX5_bear 135 = .ok (.iadd, 1) := dk_96 (dk_at dksX5_bear_5 20 rfl rfl)
theorem dX5_bear_136 : decode cX5_bear 136 = .ok (.putfield 266, 3) := dk_181 1 10 (dk_at dksX5_bear_5 21 rfl rfl)
theorem dX5_bear_139 : decode cX5_bear 139 = .ok (.iinc 1 1, 3) := dk_132 1 1 (dk_at dksX5_bear_6 0 rfl rfl)
theorem dX5_bear_142 : decode cX5_bear 142 = .ok (.goto (-101), 3) := dk_167 255 155 (dk_at dksX5_bear_6 3 rfl rfl)
theorem dX5_bear_145 : decode cX5_bear 145 = .ok (.aload_n 0, 1) := dk_42 (dk_at dksX5_bear_6 6 rfl rfl)
theorem dX5_bear_146 : decode cX5_bear 146 = .ok (.aload_n 0, 1) := dk_42 (dk_at dksX5_bear_6 7 rfl rfl)
theorem dX5_bear_147 : decode cX5_bear 147 = .ok (.getfield 266, 3) := dk_180 1 10 (dk_at dksX5_bear_6 8 rfl rfl)
theorem dX5_bear_150 : decode cX5_bear 150 = .ok (.invokevirtual 306, 3) := dk_182 1 50 (dk_at dksX5_bear_6 11 rfl rfl)
theorem dX5_bear_153 : decode cX5_bear 153 = .ok (.return_, 1) := dk_177 (dk_at dksX5_bear_6 14 rfl rfl)
abbrev cX5_war : ByteArray := prog_16_method_55_code
def yX5_war : MethodName := ⟨RX5, "war", "()V"⟩
def dkwX5_war_7 : List UInt8 := [180, 1, 28, 181, 1, 28, 42, 89, 180, 1, 31, 4, 96, 181, 1, 31, 177]
abbrev dktX5_war_7 : List UInt8 := dkwX5_war_7 ++ []
def dkwX5_war_6 : List UInt8 := [167, 255, 212, 42, 27, 181, 1, 25, 42, 42, 180, 1, 28, 27, 160, 0, 7, 2, 167, 0, 7, 42]
abbrev dktX5_war_6 : List UInt8 := dkwX5_war_6 ++ dktX5_war_7
def dkwX5_war_5 : List UInt8 := [42, 182, 1, 83, 42, 180, 0, 63, 16, 7, 46, 162, 0, 9, 42, 28, 4, 182, 1, 59, 132, 2, 1]
abbrev dktX5_war_5 : List UInt8 := dkwX5_war_5 ++ dktX5_war_6
def dkwX5_war_4 : List UInt8 := [177, 3, 61, 28, 42, 180, 1, 10, 162, 0, 42, 28, 27, 159, 0, 31, 42, 28, 182, 1, 80, 153, 0, 23]
abbrev dktX5_war_4 : List UInt8 := dkwX5_war_4 ++ dktX5_war_5
def dkwX5_war_3 : List UInt8 := [28, 46, 42, 180, 0, 69, 27, 46, 164, 0, 5, 28, 60, 132, 2, 1, 167, 255, 182, 27, 2, 160, 0, 4]
abbrev dktX5_war_3 : List UInt8 := dkwX5_war_3 ++ dktX5_war_4
def dkwX5_war_2 : List UInt8 := [27, 46, 163, 0, 33, 42, 180, 0, 90, 28, 46, 42, 180, 0, 90, 27, 46, 160, 0, 20, 42, 180, 0, 69]
abbrev dktX5_war_2 : List UInt8 := dkwX5_war_2 ++ dktX5_war_3
def dkwX5_war_1 : List UInt8 := [182, 1, 80, 154, 0, 6, 167, 0, 55, 27, 2, 159, 0, 48, 42, 180, 0, 90, 28, 46, 42, 180, 0, 90]
abbrev dktX5_war_1 : List UInt8 := dkwX5_war_1 ++ dktX5_war_2
def dkwX5_war_0 : List UInt8 := [42, 180, 1, 25, 2, 159, 0, 4, 177, 2, 60, 3, 61, 28, 42, 180, 1, 10, 162, 0, 72, 42, 28]
abbrev dktX5_war_0 : List UInt8 := dkwX5_war_0 ++ dktX5_war_1
theorem dksX5_war_0 : cX5_war.data.toList.drop 0 = dktX5_war_0 := by decide +kernel
theorem dksX5_war_1 : cX5_war.data.toList.drop 23 = dktX5_war_1 := dk_seg dksX5_war_0 23 rfl rfl
theorem dksX5_war_2 : cX5_war.data.toList.drop 47 = dktX5_war_2 := dk_seg dksX5_war_1 24 rfl rfl
theorem dksX5_war_3 : cX5_war.data.toList.drop 71 = dktX5_war_3 := dk_seg dksX5_war_2 24 rfl rfl
theorem dksX5_war_4 : cX5_war.data.toList.drop 95 = dktX5_war_4 := dk_seg dksX5_war_3 24 rfl rfl
theorem dksX5_war_5 : cX5_war.data.toList.drop 119 = dktX5_war_5 := dk_seg dksX5_war_4 24 rfl rfl
theorem dksX5_war_6 : cX5_war.data.toList.drop 142 = dktX5_war_6 := dk_seg dksX5_war_5 23 rfl rfl
theorem dksX5_war_7 : cX5_war.data.toList.drop 164 = dktX5_war_7 := dk_seg dksX5_war_6 22 rfl rfl
theorem dX5_war_0 : decode cX5_war 0 = .ok (.aload_n 0, 1) := dk_42 (dk_at dksX5_war_0 0 rfl rfl)
theorem dX5_war_1 : decode cX5_war 1 = .ok (.getfield 281, 3) := dk_180 1 25 (dk_at dksX5_war_0 1 rfl rfl)
theorem dX5_war_4 : decode cX5_war 4 = .ok (.iconst (-1), 1) := dk_2 (dk_at dksX5_war_0 4 rfl rfl)
theorem dX5_war_5 : decode cX5_war 5 = .ok (.if_icmp .eq 4, 3) := dk_159 0 4 (dk_at dksX5_war_0 5 rfl rfl)
theorem dX5_war_8 : decode cX5_war 8 = .ok (.return_, 1) := dk_177 (dk_at dksX5_war_0 8 rfl rfl)
theorem dX5_war_9 : decode cX5_war 9 = .ok (.iconst (-1), 1) := dk_2 (dk_at dksX5_war_0 9 rfl rfl)
theorem dX5_war_10 : decode cX5_war 10 = .ok (.istore_n 1, 1) := dk_60 (dk_at dksX5_war_0 10 rfl rfl)
theorem dX5_war_11 : decode cX5_war 11 = .ok (.iconst 0, 1) := dk_3 (dk_at dksX5_war_0 11 rfl rfl)
theorem dX5_war_12 : decode cX5_war 12 = .ok (.istore_n 2, 1) := dk_61 (dk_at dksX5_war_0 12 rfl rfl)
theorem dX5_war_13 : decode cX5_war 13 = .ok (.iload_n 2, 1) := dk_28 (dk_at dksX5_war_0 13 rfl rfl)
theorem dX5_war_14 : decode cX5_war 14 = .ok (.aload_n 0, 1) := dk_42 (dk_at dksX5_war_0 14 rfl rfl)
theorem dX5_war_15 : decode cX5_war 15 = .ok (.getfield 266, 3) := dk_180 1 10 (dk_at dksX5_war_0 15 rfl rfl)
theorem dX5_war_18 : decode cX5_war 18 = .ok (.if_icmp .ge 72, 3) := dk_162 0 72 (dk_at dksX5_war_0 18 rfl rfl)
theorem dX5_war_21 : decode cX5_war 21 = .ok (.aload_n 0, 1) := dk_42 (dk_at dksX5_war_0 21 rfl rfl)
theorem dX5_war_22 : decode cX5_war 22 = .ok (.iload_n 2, 1) := dk_28 (dk_at dksX5_war_0 22 rfl rfl)
theorem dX5_war_23 : decode cX5_war 23 = .ok (.invokevirtual 336, 3) := dk_182 1 80 (dk_at dksX5_war_1 0 rfl rfl)
theorem dX5_war_26 : decode cX5_war 26 = .ok (.ifCond .ne 6, 3) := dk_154 0 6 (dk_at dksX5_war_1 3 rfl rfl)
theorem dX5_war_29 : decode cX5_war 29 = .ok (.goto 55, 3) := dk_167 0 55 (dk_at dksX5_war_1 6 rfl rfl)
theorem dX5_war_32 : decode cX5_war 32 = .ok (.iload_n 1, 1) := dk_27 (dk_at dksX5_war_1 9 rfl rfl)
theorem dX5_war_33 : decode cX5_war 33 = .ok (.iconst (-1), 1) := dk_2 (dk_at dksX5_war_1 10 rfl rfl)
theorem dX5_war_34 : decode cX5_war 34 = .ok (.if_icmp .eq 48, 3) := dk_159 0 48 (dk_at dksX5_war_1 11 rfl rfl)
theorem dX5_war_37 : decode cX5_war 37 = .ok (.aload_n 0, 1) := dk_42 (dk_at dksX5_war_1 14 rfl rfl)
theorem dX5_war_38 : decode cX5_war 38 = .ok (.getfield 90, 3) := dk_180 0 90 (dk_at dksX5_war_1 15 rfl rfl)
theorem dX5_war_41 : decode cX5_war 41 = .ok (.iload_n 2, 1) := dk_28 (dk_at dksX5_war_1 18 rfl rfl)
theorem dX5_war_42 : decode cX5_war 42 = .ok (.iaload, 1) := dk_46 (dk_at dksX5_war_1 19 rfl rfl)
theorem dX5_war_43 : decode cX5_war 43 = .ok (.aload_n 0, 1) := dk_42 (dk_at dksX5_war_1 20 rfl rfl)
theorem dX5_war_44 : decode cX5_war 44 = .ok (.getfield 90, 3) := dk_180 0 90 (dk_at dksX5_war_1 21 rfl rfl)
theorem dX5_war_47 : decode cX5_war 47 = .ok (.iload_n 1, 1) := dk_27 (dk_at dksX5_war_2 0 rfl rfl)
theorem dX5_war_48 : decode cX5_war 48 = .ok (.iaload, 1) := dk_46 (dk_at dksX5_war_2 1 rfl rfl)
theorem dX5_war_49 : decode cX5_war 49 = .ok (.if_icmp .gt 33, 3) := dk_163 0 33 (dk_at dksX5_war_2 2 rfl rfl)
theorem dX5_war_52 : decode cX5_war 52 = .ok (.aload_n 0, 1) := dk_42 (dk_at dksX5_war_2 5 rfl rfl)
theorem dX5_war_53 : decode cX5_war 53 = .ok (.getfield 90, 3) := dk_180 0 90 (dk_at dksX5_war_2 6 rfl rfl)
theorem dX5_war_56 : decode cX5_war 56 = .ok (.iload_n 2, 1) := dk_28 (dk_at dksX5_war_2 9 rfl rfl)
theorem dX5_war_57 : decode cX5_war 57 = .ok (.iaload, 1) := dk_46 (dk_at dksX5_war_2 10 rfl rfl)
theorem dX5_war_58 : decode cX5_war 58 = .ok (.aload_n 0, 1) := dk_42 (dk_at dksX5_war_2 11 rfl rfl)
theorem dX5_war_59 : decode cX5_war 59 = .ok (.getfield 90, 3) := dk_180 0 90 (dk_at dksX5_war_2 12 rfl rfl)
theorem dX5_war_62 : decode cX5_war 62 = .ok (.iload_n 1, 1) := dk_27 (dk_at dksX5_war_2 15 rfl rfl)
theorem dX5_war_63 : decode cX5_war 63 = .ok (.iaload, 1) := dk_46 (dk_at dksX5_war_2 16 rfl rfl)
theorem dX5_war_64 : decode cX5_war 64 = .ok (.if_icmp .ne 20, 3) := dk_160 0 20 (dk_at dksX5_war_2 17 rfl rfl)
theorem dX5_war_67 : decode cX5_war 67 = .ok (.aload_n 0, 1) := dk_42 (dk_at dksX5_war_2 20 rfl rfl)
theorem dX5_war_68 : decode cX5_war 68 = .ok (.getfield 69, 3) := dk_180 0 69 (dk_at dksX5_war_2 21 rfl rfl)
theorem dX5_war_71 : decode cX5_war 71 = .ok (.iload_n 2, 1) := dk_28 (dk_at dksX5_war_3 0 rfl rfl)
theorem dX5_war_72 : decode cX5_war 72 = .ok (.iaload, 1) := dk_46 (dk_at dksX5_war_3 1 rfl rfl)
theorem dX5_war_73 : decode cX5_war 73 = .ok (.aload_n 0, 1) := dk_42 (dk_at dksX5_war_3 2 rfl rfl)
theorem dX5_war_74 : decode cX5_war 74 = .ok (.getfield 69, 3) := dk_180 0 69 (dk_at dksX5_war_3 3 rfl rfl)
theorem dX5_war_77 : decode cX5_war 77 = .ok (.iload_n 1, 1) := dk_27 (dk_at dksX5_war_3 6 rfl rfl)
theorem dX5_war_78 : decode cX5_war 78 = .ok (.iaload, 1) := dk_46 (dk_at dksX5_war_3 7 rfl rfl)
theorem dX5_war_79 : decode cX5_war 79 = .ok (.if_icmp .le 5, 3) := dk_164 0 5 (dk_at dksX5_war_3 8 rfl rfl)
theorem dX5_war_82 : decode cX5_war 82 = .ok (.iload_n 2, 1) := dk_28 (dk_at dksX5_war_3 11 rfl rfl)
theorem dX5_war_83 : decode cX5_war 83 = .ok (.istore_n 1, 1) := dk_60 (dk_at dksX5_war_3 12 rfl rfl)
theorem dX5_war_84 : decode cX5_war 84 = .ok (.iinc 2 1, 3) := dk_132 2 1 (dk_at dksX5_war_3 13 rfl rfl)
theorem dX5_war_87 : decode cX5_war 87 = .ok (.goto (-74), 3) := dk_167 255 182 (dk_at dksX5_war_3 16 rfl rfl)
theorem dX5_war_90 : decode cX5_war 90 = .ok (.iload_n 1, 1) := dk_27 (dk_at dksX5_war_3 19 rfl rfl)
theorem dX5_war_91 : decode cX5_war 91 = .ok (.iconst (-1), 1) := dk_2 (dk_at dksX5_war_3 20 rfl rfl)
theorem dX5_war_92 : decode cX5_war 92 = .ok (.if_icmp .ne 4, 3) := dk_160 0 4 (dk_at dksX5_war_3 21 rfl rfl)
theorem dX5_war_95 : decode cX5_war 95 = .ok (.return_, 1) := dk_177 (dk_at dksX5_war_4 0 rfl rfl)
theorem dX5_war_96 : decode cX5_war 96 = .ok (.iconst 0, 1) := dk_3 (dk_at dksX5_war_4 1 rfl rfl)
theorem dX5_war_97 : decode cX5_war 97 = .ok (.istore_n 2, 1) := dk_61 (dk_at dksX5_war_4 2 rfl rfl)
theorem dX5_war_98 : decode cX5_war 98 = .ok (.iload_n 2, 1) := dk_28 (dk_at dksX5_war_4 3 rfl rfl)
theorem dX5_war_99 : decode cX5_war 99 = .ok (.aload_n 0, 1) := dk_42 (dk_at dksX5_war_4 4 rfl rfl)
theorem dX5_war_100 : decode cX5_war 100 = .ok (.getfield 266, 3) := dk_180 1 10 (dk_at dksX5_war_4 5 rfl rfl)
theorem dX5_war_103 : decode cX5_war 103 = .ok (.if_icmp .ge 42, 3) := dk_162 0 42 (dk_at dksX5_war_4 8 rfl rfl)
theorem dX5_war_106 : decode cX5_war 106 = .ok (.iload_n 2, 1) := dk_28 (dk_at dksX5_war_4 11 rfl rfl)
theorem dX5_war_107 : decode cX5_war 107 = .ok (.iload_n 1, 1) := dk_27 (dk_at dksX5_war_4 12 rfl rfl)
theorem dX5_war_108 : decode cX5_war 108 = .ok (.if_icmp .eq 31, 3) := dk_159 0 31 (dk_at dksX5_war_4 13 rfl rfl)
theorem dX5_war_111 : decode cX5_war 111 = .ok (.aload_n 0, 1) := dk_42 (dk_at dksX5_war_4 16 rfl rfl)
theorem dX5_war_112 : decode cX5_war 112 = .ok (.iload_n 2, 1) := dk_28 (dk_at dksX5_war_4 17 rfl rfl)
theorem dX5_war_113 : decode cX5_war 113 = .ok (.invokevirtual 336, 3) := dk_182 1 80 (dk_at dksX5_war_4 18 rfl rfl)
theorem dX5_war_116 : decode cX5_war 116 = .ok (.ifCond .eq 23, 3) := dk_153 0 23 (dk_at dksX5_war_4 21 rfl rfl)
theorem dX5_war_119 : decode cX5_war 119 = .ok (.aload_n 0, 1) := dk_42 (dk_at dksX5_war_5 0 rfl rfl)
theorem dX5_war_120 : decode cX5_war 120 = .ok (.invokevirtual 339, 3) := dk_182 1 83 (dk_at dksX5_war_5 1 rfl rfl)
theorem dX5_war_123 : decode cX5_war 123 = .ok (.aload_n 0, 1) := dk_42 (dk_at dksX5_war_5 4 rfl rfl)
theorem dX5_war_124 : decode cX5_war 124 = .ok (.getfield 63, 3) := dk_180 0 63 (dk_at dksX5_war_5 5 rfl rfl)
theorem dX5_war_127 : decode cX5_war 127 = .ok (.bipush 7, 2) := dk_16 7 (dk_at dksX5_war_5 8 rfl rfl)
theorem dX5_war_129 : decode cX5_war 129 = .ok (.iaload, 1) := dk_46 (dk_at dksX5_war_5 10 rfl rfl)
theorem dX5_war_130 : decode cX5_war 130 = .ok (.if_icmp .ge 9, 3) := dk_162 0 9 (dk_at dksX5_war_5 11 rfl rfl)
theorem dX5_war_133 : decode cX5_war 133 = .ok (.aload_n 0, 1) := dk_42 (dk_at dksX5_war_5 14 rfl rfl)
theorem dX5_war_134 : decode cX5_war 134 = .ok (.iload_n 2, 1) := dk_28 (dk_at dksX5_war_5 15 rfl rfl)
theorem dX5_war_135 : decode cX5_war 135 = .ok (.iconst 1, 1) := dk_4 (dk_at dksX5_war_5 16 rfl rfl)
theorem dX5_war_136 : decode cX5_war 136 = .ok (.invokevirtual 315, 3) := dk_182 1 59 (dk_at dksX5_war_5 17 rfl rfl)
theorem dX5_war_139 : decode cX5_war 139 = .ok (.iinc 2 1, 3) := dk_132 2 1 (dk_at dksX5_war_5 20 rfl rfl)
theorem dX5_war_142 : decode cX5_war 142 = .ok (.goto (-44), 3) := dk_167 255 212 (dk_at dksX5_war_6 0 rfl rfl)
theorem dX5_war_145 : decode cX5_war 145 = .ok (.aload_n 0, 1) := dk_42 (dk_at dksX5_war_6 3 rfl rfl)
theorem dX5_war_146 : decode cX5_war 146 = .ok (.iload_n 1, 1) := dk_27 (dk_at dksX5_war_6 4 rfl rfl)
theorem dX5_war_147 : decode cX5_war 147 = .ok (.putfield 281, 3) := dk_181 1 25 (dk_at dksX5_war_6 5 rfl rfl)
theorem dX5_war_150 : decode cX5_war 150 = .ok (.aload_n 0, 1) := dk_42 (dk_at dksX5_war_6 8 rfl rfl)
theorem dX5_war_151 : decode cX5_war 151 = .ok (.aload_n 0, 1) := dk_42 (dk_at dksX5_war_6 9 rfl rfl)
theorem dX5_war_152 : decode cX5_war 152 = .ok (.getfield 284, 3) := dk_180 1 28 (dk_at dksX5_war_6 10 rfl rfl)
theorem dX5_war_155 : decode cX5_war 155 = .ok (.iload_n 1, 1) := dk_27 (dk_at dksX5_war_6 13 rfl rfl)
theorem dX5_war_156 : decode cX5_war 156 = .ok (.if_icmp .ne 7, 3) := dk_160 0 7 (dk_at dksX5_war_6 14 rfl rfl)
theorem dX5_war_159 : decode cX5_war 159 = .ok (.iconst (-1), 1) := dk_2 (dk_at dksX5_war_6 17 rfl rfl)
theorem dX5_war_160 : decode cX5_war 160 = .ok (.goto 7, 3) := dk_167 0 7 (dk_at dksX5_war_6 18 rfl rfl)
theorem dX5_war_163 : decode cX5_war 163 = .ok (.aload_n 0, 1) := dk_42 (dk_at dksX5_war_6 21 rfl rfl)
theorem dX5_war_164 : decode cX5_war 164 = .ok (.getfield 284, 3) := dk_180 1 28 (dk_at dksX5_war_7 0 rfl rfl)
theorem dX5_war_167 : decode cX5_war 167 = .ok (.putfield 284, 3) := dk_181 1 28 (dk_at dksX5_war_7 3 rfl rfl)
theorem dX5_war_170 : decode cX5_war 170 = .ok (.aload_n 0, 1) := dk_42 (dk_at dksX5_war_7 6 rfl rfl)
theorem dX5_war_171 : decode cX5_war 171 = .ok (.dup, 1) := dk_89 (dk_at dksX5_war_7 7 rfl rfl)
theorem dX5_war_172 : decode cX5_war 172 = .ok (.getfield 287, 3) := dk_180 1 31 (dk_at dksX5_war_7 8 rfl rfl)
theorem dX5_war_175 : decode cX5_war 175 = .ok (.iconst 1, 1) := dk_4 (dk_at dksX5_war_7 11 rfl rfl)
theorem dX5_war_176 : decode cX5_war 176 = .ok (.iadd, 1) := dk_96 (dk_at dksX5_war_7 12 rfl rfl)
theorem dX5_war_177 : decode cX5_war 177 = .ok (.putfield 287, 3) := dk_181 1 31 (dk_at dksX5_war_7 13 rfl rfl)
theorem dX5_war_180 : decode cX5_war 180 = .ok (.return_, 1) := dk_177 (dk_at dksX5_war_7 16 rfl rfl)
abbrev cX5_isFighter : ByteArray := prog_16_method_54_code
def yX5_isFighter : MethodName := ⟨RX5, "isFighter", "(I)Z"⟩
def dkwX5_isFighter_1 : List UInt8 := [180, 0, 90, 27, 46, 158, 0, 7, 4, 167, 0, 4, 3, 172]
abbrev dktX5_isFighter_1 : List UInt8 := dkwX5_isFighter_1 ++ []
def dkwX5_isFighter_0 : List UInt8 := [42, 27, 182, 1, 22, 153, 0, 29, 42, 180, 0, 78, 27, 46, 42, 180, 1, 34, 159, 0, 16, 42]
abbrev dktX5_isFighter_0 : List UInt8 := dkwX5_isFighter_0 ++ dktX5_isFighter_1
theorem dksX5_isFighter_0 : cX5_isFighter.data.toList.drop 0 = dktX5_isFighter_0 := by decide +kernel
theorem dksX5_isFighter_1 : cX5_isFighter.data.toList.drop 22 = dktX5_isFighter_1 := dk_seg dksX5_isFighter_0 22 rfl rfl
theorem dX5_isFighter_0 : decode cX5_isFighter 0 = .ok (.aload_n 0, 1) := dk_42 (dk_at dksX5_isFighter_0 0 rfl rfl)
theorem dX5_isFighter_1 : decode cX5_isFighter 1 = .ok (.iload_n 1, 1) := dk_27 (dk_at dksX5_isFighter_0 1 rfl rfl)
theorem dX5_isFighter_2 : decode cX5_isFighter 2 = .ok (.invokevirtual 278, 3) := dk_182 1 22 (dk_at dksX5_isFighter_0 2 rfl rfl)
theorem dX5_isFighter_5 : decode cX5_isFighter 5 = .ok (.ifCond .eq 29, 3) := dk_153 0 29 (dk_at dksX5_isFighter_0 5 rfl rfl)
theorem dX5_isFighter_8 : decode cX5_isFighter 8 = .ok (.aload_n 0, 1) := dk_42 (dk_at dksX5_isFighter_0 8 rfl rfl)
theorem dX5_isFighter_9 : decode cX5_isFighter 9 = .ok (.getfield 78, 3) := dk_180 0 78 (dk_at dksX5_isFighter_0 9 rfl rfl)
theorem dX5_isFighter_12 : decode cX5_isFighter 12 = .ok (.iload_n 1, 1) := dk_27 (dk_at dksX5_isFighter_0 12 rfl rfl)
theorem dX5_isFighter_13 : decode cX5_isFighter 13 = .ok (.iaload, 1) := dk_46 (dk_at dksX5_isFighter_0 13 rfl rfl)
theorem dX5_isFighter_14 : decode cX5_isFighter 14 = .ok (.aload_n 0, 1) := dk_42 (dk_at dksX5_isFighter_0 14 rfl rfl)
theorem dX5_isFighter_15 : decode cX5_isFighter 15 = .ok (.getfield 290, 3) := dk_180 1 34 (dk_at dksX5_isFighter_0 15 rfl rfl)
theorem dX5_isFighter_18 : decode cX5_isFighter 18 = .ok (.if_icmp .eq 16, 3) := dk_159 0 16 (dk_at dksX5_isFighter_0 18 rfl rfl)
theorem dX5_isFighter_21 : decode cX5_isFighter 21 = .ok (.aload_n 0, 1) := dk_42 (dk_at dksX5_isFighter_0 21 rfl rfl)
theorem dX5_isFighter_22 : decode cX5_isFighter 22 = .ok (.getfield 90, 3) := dk_180 0 90 (dk_at dksX5_isFighter_1 0 rfl rfl)
theorem dX5_isFighter_25 : decode cX5_isFighter 25 = .ok (.iload_n 1, 1) := dk_27 (dk_at dksX5_isFighter_1 3 rfl rfl)
theorem dX5_isFighter_26 : decode cX5_isFighter 26 = .ok (.iaload, 1) := dk_46 (dk_at dksX5_isFighter_1 4 rfl rfl)
theorem dX5_isFighter_27 : decode cX5_isFighter 27 = .ok (.ifCond .le 7, 3) := dk_158 0 7 (dk_at dksX5_isFighter_1 5 rfl rfl)
theorem dX5_isFighter_30 : decode cX5_isFighter 30 = .ok (.iconst 1, 1) := dk_4 (dk_at dksX5_isFighter_1 8 rfl rfl)
theorem dX5_isFighter_31 : decode cX5_isFighter 31 = .ok (.goto 4, 3) := dk_167 0 4 (dk_at dksX5_isFighter_1 9 rfl rfl)
theorem dX5_isFighter_34 : decode cX5_isFighter 34 = .ok (.iconst 0, 1) := dk_3 (dk_at dksX5_isFighter_1 12 rfl rfl)
theorem dX5_isFighter_35 : decode cX5_isFighter 35 = .ok (.ireturn, 1) := dk_172 (dk_at dksX5_isFighter_1 13 rfl rfl)
abbrev cX5_all : ByteArray := prog_16_method_62_code
def yX5_all : MethodName := ⟨RX5, "all", "(IJII)I"⟩
def dkwX5_all_5 : List UInt8 := [182, 1, 114, 172, 42, 5, 182, 1, 114, 172, 42, 180, 1, 31, 172]
abbrev dktX5_all_5 : List UInt8 := dkwX5_all_5 ++ []
def dkwX5_all_4 : List UInt8 := [42, 182, 1, 63, 172, 42, 180, 1, 16, 172, 42, 180, 1, 25, 172, 42, 180, 1, 10, 172, 42, 4]
abbrev dktX5_all_4 : List UInt8 := dkwX5_all_4 ++ dktX5_all_5
def dkwX5_all_3 : List UInt8 := [170, 0, 0, 0, 0, 0, 71, 0, 0, 0, 0, 0, 0, 0, 5, 0, 0, 0, 39, 0, 0, 0, 44, 0, 0, 0, 49, 0, 0, 0, 54, 0, 0, 0, 59, 0, 0, 0, 65]
abbrev dktX5_all_3 : List UInt8 := dkwX5_all_3 ++ dktX5_all_4
def dkwX5_all_2 : List UInt8 := [21, 5]
abbrev dktX5_all_2 : List UInt8 := dkwX5_all_2 ++ dktX5_all_3
def dkwX5_all_1 : List UInt8 := [21, 5, 3, 16, 6, 184, 0, 235, 154, 0, 7, 17, 252, 24, 172, 42, 27, 32, 21, 4, 182, 1, 110]
abbrev dktX5_all_1 : List UInt8 := dkwX5_all_1 ++ dktX5_all_2
def dkwX5_all_0 : List UInt8 := [42, 3, 181, 0, 111, 42, 27, 182, 1, 107, 153, 0, 25, 21, 4, 3, 16, 24, 184, 0, 235, 153, 0, 14]
abbrev dktX5_all_0 : List UInt8 := dkwX5_all_0 ++ dktX5_all_1
theorem dksX5_all_0 : cX5_all.data.toList.drop 0 = dktX5_all_0 := by decide +kernel
theorem dksX5_all_1 : cX5_all.data.toList.drop 24 = dktX5_all_1 := dk_seg dksX5_all_0 24 rfl rfl
theorem dksX5_all_2 : cX5_all.data.toList.drop 47 = dktX5_all_2 := dk_seg dksX5_all_1 23 rfl rfl
theorem dksX5_all_3 : cX5_all.data.toList.drop 49 = dktX5_all_3 := dk_seg dksX5_all_2 2 rfl rfl
theorem dksX5_all_4 : cX5_all.data.toList.drop 88 = dktX5_all_4 := dk_seg dksX5_all_3 39 rfl rfl
theorem dksX5_all_5 : cX5_all.data.toList.drop 110 = dktX5_all_5 := dk_seg dksX5_all_4 22 rfl rfl
theorem dX5_all_0 : decode cX5_all 0 = .ok (.aload_n 0, 1) := dk_42 (dk_at dksX5_all_0 0 rfl rfl)
theorem dX5_all_1 : decode cX5_all 1 = .ok (.iconst 0, 1) := dk_3 (dk_at dksX5_all_0 1 rfl rfl)
theorem dX5_all_2 : decode cX5_all 2 = .ok (.putfield 111, 3) := dk_181 0 111 (dk_at dksX5_all_0 2 rfl rfl)
theorem dX5_all_5 : decode cX5_all 5 = .ok (.aload_n 0, 1) := dk_42 (dk_at dksX5_all_0 5 rfl rfl)
theorem dX5_all_6 : decode cX5_all 6 = .ok (.iload_n 1, 1) := dk_27 (dk_at dksX5_all_0 6 rfl rfl)
theorem dX5_all_7 : decode cX5_all 7 = .ok (.invokevirtual 363, 3) := dk_182 1 107 (dk_at dksX5_all_0 7 rfl rfl)
theorem dX5_all_10 : decode cX5_all 10 = .ok (.ifCond .eq 25, 3) := dk_153 0 25 (dk_at dksX5_all_0 10 rfl rfl)
theorem dX5_all_13 : decode cX5_all 13 = .ok (.iload 4, 2) := dk_21 4 (dk_at dksX5_all_0 13 rfl rfl)
theorem dX5_all_15 : decode cX5_all 15 = .ok (.iconst 0, 1) := dk_3 (dk_at dksX5_all_0 15 rfl rfl)
theorem dX5_all_16 : decode cX5_all 16 = .ok (.bipush 24, 2) := dk_16 24 (dk_at dksX5_all_0 16 rfl rfl)
theorem dX5_all_18 : decode cX5_all 18 = .ok (.invokestatic 235, 3) := dk_184 0 235 (dk_at dksX5_all_0 18 rfl rfl)
theorem dX5_all_21 : decode cX5_all 21 = .ok (.ifCond .eq 14, 3) := dk_153 0 14 (dk_at dksX5_all_0 21 rfl rfl)
theorem dX5_all_24 : decode cX5_all 24 = .ok (.iload 5, 2) := dk_21 5 (dk_at dksX5_all_1 0 rfl rfl)
theorem dX5_all_26 : decode cX5_all 26 = .ok (.iconst 0, 1) := dk_3 (dk_at dksX5_all_1 2 rfl rfl)
theorem dX5_all_27 : decode cX5_all 27 = .ok (.bipush 6, 2) := dk_16 6 (dk_at dksX5_all_1 3 rfl rfl)
theorem dX5_all_29 : decode cX5_all 29 = .ok (.invokestatic 235, 3) := dk_184 0 235 (dk_at dksX5_all_1 5 rfl rfl)
theorem dX5_all_32 : decode cX5_all 32 = .ok (.ifCond .ne 7, 3) := dk_154 0 7 (dk_at dksX5_all_1 8 rfl rfl)
theorem dX5_all_35 : decode cX5_all 35 = .ok (.sipush (-1000), 3) := dk_17 252 24 (dk_at dksX5_all_1 11 rfl rfl)
theorem dX5_all_38 : decode cX5_all 38 = .ok (.ireturn, 1) := dk_172 (dk_at dksX5_all_1 14 rfl rfl)
theorem dX5_all_39 : decode cX5_all 39 = .ok (.aload_n 0, 1) := dk_42 (dk_at dksX5_all_1 15 rfl rfl)
theorem dX5_all_40 : decode cX5_all 40 = .ok (.iload_n 1, 1) := dk_27 (dk_at dksX5_all_1 16 rfl rfl)
theorem dX5_all_41 : decode cX5_all 41 = .ok (.lload_n 2, 1) := dk_32 (dk_at dksX5_all_1 17 rfl rfl)
theorem dX5_all_42 : decode cX5_all 42 = .ok (.iload 4, 2) := dk_21 4 (dk_at dksX5_all_1 18 rfl rfl)
theorem dX5_all_44 : decode cX5_all 44 = .ok (.invokevirtual 366, 3) := dk_182 1 110 (dk_at dksX5_all_1 20 rfl rfl)
theorem dX5_all_47 : decode cX5_all 47 = .ok (.iload 5, 2) := dk_21 5 (dk_at dksX5_all_2 0 rfl rfl)
theorem dX5_all_49 : decode cX5_all 49 = .ok (.tableswitch 71 0 5 #[39, 44, 49, 54, 59, 65], 39) := by decide +kernel
theorem dX5_all_88 : decode cX5_all 88 = .ok (.aload_n 0, 1) := dk_42 (dk_at dksX5_all_4 0 rfl rfl)
theorem dX5_all_89 : decode cX5_all 89 = .ok (.invokevirtual 319, 3) := dk_182 1 63 (dk_at dksX5_all_4 1 rfl rfl)
theorem dX5_all_92 : decode cX5_all 92 = .ok (.ireturn, 1) := dk_172 (dk_at dksX5_all_4 4 rfl rfl)
theorem dX5_all_93 : decode cX5_all 93 = .ok (.aload_n 0, 1) := dk_42 (dk_at dksX5_all_4 5 rfl rfl)
theorem dX5_all_94 : decode cX5_all 94 = .ok (.getfield 272, 3) := dk_180 1 16 (dk_at dksX5_all_4 6 rfl rfl)
theorem dX5_all_97 : decode cX5_all 97 = .ok (.ireturn, 1) := dk_172 (dk_at dksX5_all_4 9 rfl rfl)
theorem dX5_all_98 : decode cX5_all 98 = .ok (.aload_n 0, 1) := dk_42 (dk_at dksX5_all_4 10 rfl rfl)
theorem dX5_all_99 : decode cX5_all 99 = .ok (.getfield 281, 3) := dk_180 1 25 (dk_at dksX5_all_4 11 rfl rfl)
theorem dX5_all_102 : decode cX5_all 102 = .ok (.ireturn, 1) := dk_172 (dk_at dksX5_all_4 14 rfl rfl)
theorem dX5_all_103 : decode cX5_all 103 = .ok (.aload_n 0, 1) := dk_42 (dk_at dksX5_all_4 15 rfl rfl)
theorem dX5_all_104 : decode cX5_all 104 = .ok (.getfield 266, 3) := dk_180 1 10 (dk_at dksX5_all_4 16 rfl rfl)
theorem dX5_all_107 : decode cX5_all 107 = .ok (.ireturn, 1) := dk_172 (dk_at dksX5_all_4 19 rfl rfl)
theorem dX5_all_108 : decode cX5_all 108 = .ok (.aload_n 0, 1) := dk_42 (dk_at dksX5_all_4 20 rfl rfl)
theorem dX5_all_109 : decode cX5_all 109 = .ok (.iconst 1, 1) := dk_4 (dk_at dksX5_all_4 21 rfl rfl)
theorem dX5_all_110 : decode cX5_all 110 = .ok (.invokevirtual 370, 3) := dk_182 1 114 (dk_at dksX5_all_5 0 rfl rfl)
theorem dX5_all_113 : decode cX5_all 113 = .ok (.ireturn, 1) := dk_172 (dk_at dksX5_all_5 3 rfl rfl)
theorem dX5_all_114 : decode cX5_all 114 = .ok (.aload_n 0, 1) := dk_42 (dk_at dksX5_all_5 4 rfl rfl)
theorem dX5_all_115 : decode cX5_all 115 = .ok (.iconst 2, 1) := dk_5 (dk_at dksX5_all_5 5 rfl rfl)
theorem dX5_all_116 : decode cX5_all 116 = .ok (.invokevirtual 370, 3) := dk_182 1 114 (dk_at dksX5_all_5 6 rfl rfl)
theorem dX5_all_119 : decode cX5_all 119 = .ok (.ireturn, 1) := dk_172 (dk_at dksX5_all_5 9 rfl rfl)
theorem dX5_all_120 : decode cX5_all 120 = .ok (.aload_n 0, 1) := dk_42 (dk_at dksX5_all_5 10 rfl rfl)
theorem dX5_all_121 : decode cX5_all 121 = .ok (.getfield 287, 3) := dk_180 1 31 (dk_at dksX5_all_5 11 rfl rfl)
theorem dX5_all_124 : decode cX5_all 124 = .ok (.ireturn, 1) := dk_172 (dk_at dksX5_all_5 14 rfl rfl)
abbrev cX5_manyOf : ByteArray := prog_16_method_61_code
def yX5_manyOf : MethodName := ⟨RX5, "manyOf", "(I)I"⟩
def dkwX5_manyOf_1 : List UInt8 := [167, 0, 4, 3, 96, 61, 132, 3, 1, 167, 255, 227, 28, 172]
abbrev dktX5_manyOf_1 : List UInt8 := dkwX5_manyOf_1 ++ []
def dkwX5_manyOf_0 : List UInt8 := [3, 61, 3, 62, 29, 42, 180, 1, 10, 162, 0, 27, 28, 42, 180, 0, 72, 29, 46, 27, 160, 0, 7, 4]
abbrev dktX5_manyOf_0 : List UInt8 := dkwX5_manyOf_0 ++ dktX5_manyOf_1
theorem dksX5_manyOf_0 : cX5_manyOf.data.toList.drop 0 = dktX5_manyOf_0 := by decide +kernel
theorem dksX5_manyOf_1 : cX5_manyOf.data.toList.drop 24 = dktX5_manyOf_1 := dk_seg dksX5_manyOf_0 24 rfl rfl
theorem dX5_manyOf_0 : decode cX5_manyOf 0 = .ok (.iconst 0, 1) := dk_3 (dk_at dksX5_manyOf_0 0 rfl rfl)
theorem dX5_manyOf_1 : decode cX5_manyOf 1 = .ok (.istore_n 2, 1) := dk_61 (dk_at dksX5_manyOf_0 1 rfl rfl)
theorem dX5_manyOf_2 : decode cX5_manyOf 2 = .ok (.iconst 0, 1) := dk_3 (dk_at dksX5_manyOf_0 2 rfl rfl)
theorem dX5_manyOf_3 : decode cX5_manyOf 3 = .ok (.istore_n 3, 1) := dk_62 (dk_at dksX5_manyOf_0 3 rfl rfl)
theorem dX5_manyOf_4 : decode cX5_manyOf 4 = .ok (.iload_n 3, 1) := dk_29 (dk_at dksX5_manyOf_0 4 rfl rfl)
theorem dX5_manyOf_5 : decode cX5_manyOf 5 = .ok (.aload_n 0, 1) := dk_42 (dk_at dksX5_manyOf_0 5 rfl rfl)
theorem dX5_manyOf_6 : decode cX5_manyOf 6 = .ok (.getfield 266, 3) := dk_180 1 10 (dk_at dksX5_manyOf_0 6 rfl rfl)
theorem dX5_manyOf_9 : decode cX5_manyOf 9 = .ok (.if_icmp .ge 27, 3) := dk_162 0 27 (dk_at dksX5_manyOf_0 9 rfl rfl)
theorem dX5_manyOf_12 : decode cX5_manyOf 12 = .ok (.iload_n 2, 1) := dk_28 (dk_at dksX5_manyOf_0 12 rfl rfl)
theorem dX5_manyOf_13 : decode cX5_manyOf 13 = .ok (.aload_n 0, 1) := dk_42 (dk_at dksX5_manyOf_0 13 rfl rfl)
theorem dX5_manyOf_14 : decode cX5_manyOf 14 = .ok (.getfield 72, 3) := dk_180 0 72 (dk_at dksX5_manyOf_0 14 rfl rfl)
theorem dX5_manyOf_17 : decode cX5_manyOf 17 = .ok (.iload_n 3, 1) := dk_29 (dk_at dksX5_manyOf_0 17 rfl rfl)
theorem dX5_manyOf_18 : decode cX5_manyOf 18 = .ok (.iaload, 1) := dk_46 (dk_at dksX5_manyOf_0 18 rfl rfl)
theorem dX5_manyOf_19 : decode cX5_manyOf 19 = .ok (.iload_n 1, 1) := dk_27 (dk_at dksX5_manyOf_0 19 rfl rfl)
theorem dX5_manyOf_20 : decode cX5_manyOf 20 = .ok (.if_icmp .ne 7, 3) := dk_160 0 7 (dk_at dksX5_manyOf_0 20 rfl rfl)
theorem dX5_manyOf_23 : decode cX5_manyOf 23 = .ok (.iconst 1, 1) := dk_4 (dk_at dksX5_manyOf_0 23 rfl rfl)
theorem dX5_manyOf_24 : decode cX5_manyOf 24 = .ok (.goto 4, 3) := dk_167 0 4 (dk_at dksX5_manyOf_1 0 rfl rfl)
theorem dX5_manyOf_27 : decode cX5_manyOf 27 = .ok (.iconst 0, 1) := dk_3 (dk_at dksX5_manyOf_1 3 rfl rfl)
theorem dX5_manyOf_28 : decode cX5_manyOf 28 = .ok (.iadd, 1) := dk_96 (dk_at dksX5_manyOf_1 4 rfl rfl)
theorem dX5_manyOf_29 : decode cX5_manyOf 29 = .ok (.istore_n 2, 1) := dk_61 (dk_at dksX5_manyOf_1 5 rfl rfl)
theorem dX5_manyOf_30 : decode cX5_manyOf 30 = .ok (.iinc 3 1, 3) := dk_132 3 1 (dk_at dksX5_manyOf_1 6 rfl rfl)
theorem dX5_manyOf_33 : decode cX5_manyOf 33 = .ok (.goto (-29), 3) := dk_167 255 227 (dk_at dksX5_manyOf_1 9 rfl rfl)
theorem dX5_manyOf_36 : decode cX5_manyOf 36 = .ok (.iload_n 2, 1) := dk_28 (dk_at dksX5_manyOf_1 12 rfl rfl)
theorem dX5_manyOf_37 : decode cX5_manyOf 37 = .ok (.ireturn, 1) := dk_172 (dk_at dksX5_manyOf_1 13 rfl rfl)
abbrev cX5_find : ByteArray := prog_16_method_64_code
def yX5_find : MethodName := ⟨RX5, "find", "(I)J"⟩
def dkwX5_find_1 : List UInt8 := [20, 1, 121, 173]
abbrev dktX5_find_1 : List UInt8 := dkwX5_find_1 ++ []
def dkwX5_find_0 : List UInt8 := [42, 3, 181, 0, 111, 27, 3, 16, 9, 184, 0, 235, 153, 0, 11, 42, 27, 182, 1, 117, 167, 0, 6]
abbrev dktX5_find_0 : List UInt8 := dkwX5_find_0 ++ dktX5_find_1
theorem dksX5_find_0 : cX5_find.data.toList.drop 0 = dktX5_find_0 := by decide +kernel
theorem dksX5_find_1 : cX5_find.data.toList.drop 23 = dktX5_find_1 := dk_seg dksX5_find_0 23 rfl rfl
theorem dX5_find_0 : decode cX5_find 0 = .ok (.aload_n 0, 1) := dk_42 (dk_at dksX5_find_0 0 rfl rfl)
theorem dX5_find_1 : decode cX5_find 1 = .ok (.iconst 0, 1) := dk_3 (dk_at dksX5_find_0 1 rfl rfl)
theorem dX5_find_2 : decode cX5_find 2 = .ok (.putfield 111, 3) := dk_181 0 111 (dk_at dksX5_find_0 2 rfl rfl)
theorem dX5_find_5 : decode cX5_find 5 = .ok (.iload_n 1, 1) := dk_27 (dk_at dksX5_find_0 5 rfl rfl)
theorem dX5_find_6 : decode cX5_find 6 = .ok (.iconst 0, 1) := dk_3 (dk_at dksX5_find_0 6 rfl rfl)
theorem dX5_find_7 : decode cX5_find 7 = .ok (.bipush 9, 2) := dk_16 9 (dk_at dksX5_find_0 7 rfl rfl)
theorem dX5_find_9 : decode cX5_find 9 = .ok (.invokestatic 235, 3) := dk_184 0 235 (dk_at dksX5_find_0 9 rfl rfl)
theorem dX5_find_12 : decode cX5_find 12 = .ok (.ifCond .eq 11, 3) := dk_153 0 11 (dk_at dksX5_find_0 12 rfl rfl)
theorem dX5_find_15 : decode cX5_find 15 = .ok (.aload_n 0, 1) := dk_42 (dk_at dksX5_find_0 15 rfl rfl)
theorem dX5_find_16 : decode cX5_find 16 = .ok (.iload_n 1, 1) := dk_27 (dk_at dksX5_find_0 16 rfl rfl)
theorem dX5_find_17 : decode cX5_find 17 = .ok (.invokevirtual 373, 3) := dk_182 1 117 (dk_at dksX5_find_0 17 rfl rfl)
theorem dX5_find_20 : decode cX5_find 20 = .ok (.goto 6, 3) := dk_167 0 6 (dk_at dksX5_find_0 20 rfl rfl)
theorem dX5_find_23 : decode cX5_find 23 = .ok (.ldc2_w 377, 3) := dk_20 1 121 (dk_at dksX5_find_1 0 rfl rfl)
theorem dX5_find_26 : decode cX5_find 26 = .ok (.lreturn, 1) := dk_173 (dk_at dksX5_find_1 3 rfl rfl)
abbrev cX5_findOf : ByteArray := prog_16_method_63_code
def yX5_findOf : MethodName := ⟨RX5, "findOf", "(I)J"⟩
def dkwX5_findOf_1 : List UInt8 := [42, 180, 0, 63, 4, 46, 100, 133, 105, 55, 4, 132, 6, 1, 167, 255, 226, 32, 22, 4, 101, 173]
abbrev dktX5_findOf_1 : List UInt8 := dkwX5_findOf_1 ++ []
def dkwX5_findOf_0 : List UInt8 := [10, 65, 10, 55, 4, 3, 54, 6, 21, 6, 27, 162, 0, 30, 32, 20, 1, 57, 105, 65, 22, 4, 16, 100]
abbrev dktX5_findOf_0 : List UInt8 := dkwX5_findOf_0 ++ dktX5_findOf_1
theorem dksX5_findOf_0 : cX5_findOf.data.toList.drop 0 = dktX5_findOf_0 := by decide +kernel
theorem dksX5_findOf_1 : cX5_findOf.data.toList.drop 24 = dktX5_findOf_1 := dk_seg dksX5_findOf_0 24 rfl rfl
theorem dX5_findOf_0 : decode cX5_findOf 0 = .ok (.lconst 1, 1) := dk_10 (dk_at dksX5_findOf_0 0 rfl rfl)
theorem dX5_findOf_1 : decode cX5_findOf 1 = .ok (.lstore_n 2, 1) := dk_65 (dk_at dksX5_findOf_0 1 rfl rfl)
theorem dX5_findOf_2 : decode cX5_findOf 2 = .ok (.lconst 1, 1) := dk_10 (dk_at dksX5_findOf_0 2 rfl rfl)
theorem dX5_findOf_3 : decode cX5_findOf 3 = .ok (.lstore 4, 2) := dk_55 4 (dk_at dksX5_findOf_0 3 rfl rfl)
theorem dX5_findOf_5 : decode cX5_findOf 5 = .ok (.iconst 0, 1) := dk_3 (dk_at dksX5_findOf_0 5 rfl rfl)
theorem dX5_findOf_6 : decode cX5_findOf 6 = .ok (.istore 6, 2) := dk_54 6 (dk_at dksX5_findOf_0 6 rfl rfl)
theorem dX5_findOf_8 : decode cX5_findOf 8 = .ok (.iload 6, 2) := dk_21 6 (dk_at dksX5_findOf_0 8 rfl rfl)
theorem dX5_findOf_10 : decode cX5_findOf 10 = .ok (.iload_n 1, 1) := dk_27 (dk_at dksX5_findOf_0 10 rfl rfl)
theorem dX5_findOf_11 : decode cX5_findOf 11 = .ok (.if_icmp .ge 30, 3) := dk_162 0 30 (dk_at dksX5_findOf_0 11 rfl rfl)
theorem dX5_findOf_14 : decode cX5_findOf 14 = .ok (.lload_n 2, 1) := dk_32 (dk_at dksX5_findOf_0 14 rfl rfl)
theorem dX5_findOf_15 : decode cX5_findOf 15 = .ok (.ldc2_w 313, 3) := dk_20 1 57 (dk_at dksX5_findOf_0 15 rfl rfl)
theorem dX5_findOf_18 : decode cX5_findOf 18 = .ok (.lmul, 1) := dk_105 (dk_at dksX5_findOf_0 18 rfl rfl)
theorem dX5_findOf_19 : decode cX5_findOf 19 = .ok (.lstore_n 2, 1) := dk_65 (dk_at dksX5_findOf_0 19 rfl rfl)
theorem dX5_findOf_20 : decode cX5_findOf 20 = .ok (.lload 4, 2) := dk_22 4 (dk_at dksX5_findOf_0 20 rfl rfl)
theorem dX5_findOf_22 : decode cX5_findOf 22 = .ok (.bipush 100, 2) := dk_16 100 (dk_at dksX5_findOf_0 22 rfl rfl)
theorem dX5_findOf_24 : decode cX5_findOf 24 = .ok (.aload_n 0, 1) := dk_42 (dk_at dksX5_findOf_1 0 rfl rfl)
theorem dX5_findOf_25 : decode cX5_findOf 25 = .ok (.getfield 63, 3) := dk_180 0 63 (dk_at dksX5_findOf_1 1 rfl rfl)
theorem dX5_findOf_28 : decode cX5_findOf 28 = .ok (.iconst 1, 1) := dk_4 (dk_at dksX5_findOf_1 4 rfl rfl)
theorem dX5_findOf_29 : decode cX5_findOf 29 = .ok (.iaload, 1) := dk_46 (dk_at dksX5_findOf_1 5 rfl rfl)
theorem dX5_findOf_30 : decode cX5_findOf 30 = .ok (.isub, 1) := dk_100 (dk_at dksX5_findOf_1 6 rfl rfl)
theorem dX5_findOf_31 : decode cX5_findOf 31 = .ok (.i2l, 1) := dk_133 (dk_at dksX5_findOf_1 7 rfl rfl)
theorem dX5_findOf_32 : decode cX5_findOf 32 = .ok (.lmul, 1) := dk_105 (dk_at dksX5_findOf_1 8 rfl rfl)
theorem dX5_findOf_33 : decode cX5_findOf 33 = .ok (.lstore 4, 2) := dk_55 4 (dk_at dksX5_findOf_1 9 rfl rfl)
theorem dX5_findOf_35 : decode cX5_findOf 35 = .ok (.iinc 6 1, 3) := dk_132 6 1 (dk_at dksX5_findOf_1 11 rfl rfl)
theorem dX5_findOf_38 : decode cX5_findOf 38 = .ok (.goto (-30), 3) := dk_167 255 226 (dk_at dksX5_findOf_1 14 rfl rfl)
theorem dX5_findOf_41 : decode cX5_findOf 41 = .ok (.lload_n 2, 1) := dk_32 (dk_at dksX5_findOf_1 17 rfl rfl)
theorem dX5_findOf_42 : decode cX5_findOf 42 = .ok (.lload 4, 2) := dk_22 4 (dk_at dksX5_findOf_1 18 rfl rfl)
theorem dX5_findOf_44 : decode cX5_findOf 44 = .ok (.lsub, 1) := dk_101 (dk_at dksX5_findOf_1 20 rfl rfl)
theorem dX5_findOf_45 : decode cX5_findOf 45 = .ok (.lreturn, 1) := dk_173 (dk_at dksX5_findOf_1 21 rfl rfl)
abbrev cX5_many : ByteArray := prog_16_method_65_code
def yX5_many : MethodName := ⟨RX5, "many", "(II)I"⟩
def dkwX5_many_3 : List UInt8 := [182, 1, 117, 22, 4, 148, 155, 0, 5, 29, 172, 132, 3, 1, 167, 255, 201, 2, 172]
abbrev dktX5_many_3 : List UInt8 := dkwX5_many_3 ++ []
def dkwX5_many_2 : List UInt8 := [29, 27, 104, 162, 0, 17, 22, 4, 20, 1, 57, 105, 55, 4, 132, 6, 1, 167, 255, 237, 42, 29, 27, 104]
abbrev dktX5_many_2 : List UInt8 := dkwX5_many_2 ++ dktX5_many_3
def dkwX5_many_1 : List UInt8 := [154, 0, 5, 2, 172, 4, 62, 29, 27, 104, 16, 9, 163, 0, 53, 28, 133, 55, 4, 4, 54, 6, 21, 6]
abbrev dktX5_many_1 : List UInt8 := dkwX5_many_1 ++ dktX5_many_2
def dkwX5_many_0 : List UInt8 := [42, 3, 181, 0, 111, 27, 4, 16, 9, 184, 0, 235, 153, 0, 13, 28, 3, 16, 100, 184, 0, 235]
abbrev dktX5_many_0 : List UInt8 := dkwX5_many_0 ++ dktX5_many_1
theorem dksX5_many_0 : cX5_many.data.toList.drop 0 = dktX5_many_0 := by decide +kernel
theorem dksX5_many_1 : cX5_many.data.toList.drop 22 = dktX5_many_1 := dk_seg dksX5_many_0 22 rfl rfl
theorem dksX5_many_2 : cX5_many.data.toList.drop 46 = dktX5_many_2 := dk_seg dksX5_many_1 24 rfl rfl
theorem dksX5_many_3 : cX5_many.data.toList.drop 70 = dktX5_many_3 := dk_seg dksX5_many_2 24 rfl rfl
theorem dX5_many_0 : decode cX5_many 0 = .ok (.aload_n 0, 1) := dk_42 (dk_at dksX5_many_0 0 rfl rfl)
theorem dX5_many_1 : decode cX5_many 1 = .ok (.iconst 0, 1) := dk_3 (dk_at dksX5_many_0 1 rfl rfl)
theorem dX5_many_2 : decode cX5_many 2 = .ok (.putfield 111, 3) := dk_181 0 111 (dk_at dksX5_many_0 2 rfl rfl)
theorem dX5_many_5 : decode cX5_many 5 = .ok (.iload_n 1, 1) := dk_27 (dk_at dksX5_many_0 5 rfl rfl)
theorem dX5_many_6 : decode cX5_many 6 = .ok (.iconst 1, 1) := dk_4 (dk_at dksX5_many_0 6 rfl rfl)
theorem dX5_many_7 : decode cX5_many 7 = .ok (.bipush 9, 2) := dk_16 9 (dk_at dksX5_many_0 7 rfl rfl)
theorem dX5_many_9 : decode cX5_many 9 = .ok (.invokestatic 235, 3) := dk_184 0 235 (dk_at dksX5_many_0 9 rfl rfl)
theorem dX5_many_12 : decode cX5_many 12 = .ok (.ifCond .eq 13, 3) := dk_153 0 13 (dk_at dksX5_many_0 12 rfl rfl)
theorem dX5_many_15 : decode cX5_many 15 = .ok (.iload_n 2, 1) := dk_28 (dk_at dksX5_many_0 15 rfl rfl)
theorem dX5_many_16 : decode cX5_many 16 = .ok (.iconst 0, 1) := dk_3 (dk_at dksX5_many_0 16 rfl rfl)
theorem dX5_many_17 : decode cX5_many 17 = .ok (.bipush 100, 2) := dk_16 100 (dk_at dksX5_many_0 17 rfl rfl)
theorem dX5_many_19 : decode cX5_many 19 = .ok (.invokestatic 235, 3) := dk_184 0 235 (dk_at dksX5_many_0 19 rfl rfl)
theorem dX5_many_22 : decode cX5_many 22 = .ok (.ifCond .ne 5, 3) := dk_154 0 5 (dk_at dksX5_many_1 0 rfl rfl)
theorem dX5_many_25 : decode cX5_many 25 = .ok (.iconst (-1), 1) := dk_2 (dk_at dksX5_many_1 3 rfl rfl)
theorem dX5_many_26 : decode cX5_many 26 = .ok (.ireturn, 1) := dk_172 (dk_at dksX5_many_1 4 rfl rfl)
theorem dX5_many_27 : decode cX5_many 27 = .ok (.iconst 1, 1) := dk_4 (dk_at dksX5_many_1 5 rfl rfl)
theorem dX5_many_28 : decode cX5_many 28 = .ok (.istore_n 3, 1) := dk_62 (dk_at dksX5_many_1 6 rfl rfl)
theorem dX5_many_29 : decode cX5_many 29 = .ok (.iload_n 3, 1) := dk_29 (dk_at dksX5_many_1 7 rfl rfl)
theorem dX5_many_30 : decode cX5_many 30 = .ok (.iload_n 1, 1) := dk_27 (dk_at dksX5_many_1 8 rfl rfl)
theorem dX5_many_31 : decode cX5_many 31 = .ok (.imul, 1) := dk_104 (dk_at dksX5_many_1 9 rfl rfl)
theorem dX5_many_32 : decode cX5_many 32 = .ok (.bipush 9, 2) := dk_16 9 (dk_at dksX5_many_1 10 rfl rfl)
theorem dX5_many_34 : decode cX5_many 34 = .ok (.if_icmp .gt 53, 3) := dk_163 0 53 (dk_at dksX5_many_1 12 rfl rfl)
theorem dX5_many_37 : decode cX5_many 37 = .ok (.iload_n 2, 1) := dk_28 (dk_at dksX5_many_1 15 rfl rfl)
theorem dX5_many_38 : decode cX5_many 38 = .ok (.i2l, 1) := dk_133 (dk_at dksX5_many_1 16 rfl rfl)
theorem dX5_many_39 : decode cX5_many 39 = .ok (.lstore 4, 2) := dk_55 4 (dk_at dksX5_many_1 17 rfl rfl)
theorem dX5_many_41 : decode cX5_many 41 = .ok (.iconst 1, 1) := dk_4 (dk_at dksX5_many_1 19 rfl rfl)
theorem dX5_many_42 : decode cX5_many 42 = .ok (.istore 6, 2) := dk_54 6 (dk_at dksX5_many_1 20 rfl rfl)
theorem dX5_many_44 : decode cX5_many 44 = .ok (.iload 6, 2) := dk_21 6 (dk_at dksX5_many_1 22 rfl rfl)
theorem dX5_many_46 : decode cX5_many 46 = .ok (.iload_n 3, 1) := dk_29 (dk_at dksX5_many_2 0 rfl rfl)
theorem dX5_many_47 : decode cX5_many 47 = .ok (.iload_n 1, 1) := dk_27 (dk_at dksX5_many_2 1 rfl rfl)
theorem dX5_many_48 : decode cX5_many 48 = .ok (.imul, 1) := dk_104 (dk_at dksX5_many_2 2 rfl rfl)
theorem dX5_many_49 : decode cX5_many 49 = .ok (.if_icmp .ge 17, 3) := dk_162 0 17 (dk_at dksX5_many_2 3 rfl rfl)
theorem dX5_many_52 : decode cX5_many 52 = .ok (.lload 4, 2) := dk_22 4 (dk_at dksX5_many_2 6 rfl rfl)
theorem dX5_many_54 : decode cX5_many 54 = .ok (.ldc2_w 313, 3) := dk_20 1 57 (dk_at dksX5_many_2 8 rfl rfl)
theorem dX5_many_57 : decode cX5_many 57 = .ok (.lmul, 1) := dk_105 (dk_at dksX5_many_2 11 rfl rfl)
theorem dX5_many_58 : decode cX5_many 58 = .ok (.lstore 4, 2) := dk_55 4 (dk_at dksX5_many_2 12 rfl rfl)
theorem dX5_many_60 : decode cX5_many 60 = .ok (.iinc 6 1, 3) := dk_132 6 1 (dk_at dksX5_many_2 14 rfl rfl)
theorem dX5_many_63 : decode cX5_many 63 = .ok (.goto (-19), 3) := dk_167 255 237 (dk_at dksX5_many_2 17 rfl rfl)
theorem dX5_many_66 : decode cX5_many 66 = .ok (.aload_n 0, 1) := dk_42 (dk_at dksX5_many_2 20 rfl rfl)
theorem dX5_many_67 : decode cX5_many 67 = .ok (.iload_n 3, 1) := dk_29 (dk_at dksX5_many_2 21 rfl rfl)
theorem dX5_many_68 : decode cX5_many 68 = .ok (.iload_n 1, 1) := dk_27 (dk_at dksX5_many_2 22 rfl rfl)
theorem dX5_many_69 : decode cX5_many 69 = .ok (.imul, 1) := dk_104 (dk_at dksX5_many_2 23 rfl rfl)
theorem dX5_many_70 : decode cX5_many 70 = .ok (.invokevirtual 373, 3) := dk_182 1 117 (dk_at dksX5_many_3 0 rfl rfl)
theorem dX5_many_73 : decode cX5_many 73 = .ok (.lload 4, 2) := dk_22 4 (dk_at dksX5_many_3 3 rfl rfl)
theorem dX5_many_75 : decode cX5_many 75 = .ok (.lcmp, 1) := dk_148 (dk_at dksX5_many_3 5 rfl rfl)
theorem dX5_many_76 : decode cX5_many 76 = .ok (.ifCond .lt 5, 3) := dk_155 0 5 (dk_at dksX5_many_3 6 rfl rfl)
theorem dX5_many_79 : decode cX5_many 79 = .ok (.iload_n 3, 1) := dk_29 (dk_at dksX5_many_3 9 rfl rfl)
theorem dX5_many_80 : decode cX5_many 80 = .ok (.ireturn, 1) := dk_172 (dk_at dksX5_many_3 10 rfl rfl)
theorem dX5_many_81 : decode cX5_many 81 = .ok (.iinc 3 1, 3) := dk_132 3 1 (dk_at dksX5_many_3 11 rfl rfl)
theorem dX5_many_84 : decode cX5_many 84 = .ok (.goto (-55), 3) := dk_167 255 201 (dk_at dksX5_many_3 14 rfl rfl)
theorem dX5_many_87 : decode cX5_many 87 = .ok (.iconst (-1), 1) := dk_2 (dk_at dksX5_many_3 17 rfl rfl)
theorem dX5_many_88 : decode cX5_many 88 = .ok (.ireturn, 1) := dk_172 (dk_at dksX5_many_3 18 rfl rfl)
abbrev cX5_note : ByteArray := prog_16_method_66_code
def yX5_note : MethodName := ⟨RX5, "note", "(III)I"⟩
def dkwX5_note_3 : List UInt8 := [180, 1, 123, 29, 79, 42, 89, 180, 1, 123, 4, 96, 181, 1, 123, 42, 180, 1, 123, 172]
abbrev dktX5_note_3 : List UInt8 := dkwX5_note_3 ++ []
def dkwX5_note_2 : List UInt8 := [180, 0, 93, 42, 180, 1, 123, 27, 79, 42, 180, 0, 96, 42, 180, 1, 123, 28, 79, 42, 180, 0, 99, 42]
abbrev dktX5_note_2 : List UInt8 := dkwX5_note_2 ++ dktX5_note_3
def dkwX5_note_1 : List UInt8 := [28, 3, 16, 24, 184, 0, 235, 153, 0, 13, 29, 3, 16, 24, 184, 0, 235, 154, 0, 5, 2, 172, 42]
abbrev dktX5_note_1 : List UInt8 := dkwX5_note_1 ++ dktX5_note_2
def dkwX5_note_0 : List UInt8 := [42, 3, 181, 0, 111, 42, 180, 1, 123, 16, 12, 159, 0, 33, 27, 3, 16, 24, 184, 0, 235, 153, 0, 23]
abbrev dktX5_note_0 : List UInt8 := dkwX5_note_0 ++ dktX5_note_1
theorem dksX5_note_0 : cX5_note.data.toList.drop 0 = dktX5_note_0 := by decide +kernel
theorem dksX5_note_1 : cX5_note.data.toList.drop 24 = dktX5_note_1 := dk_seg dksX5_note_0 24 rfl rfl
theorem dksX5_note_2 : cX5_note.data.toList.drop 47 = dktX5_note_2 := dk_seg dksX5_note_1 23 rfl rfl
theorem dksX5_note_3 : cX5_note.data.toList.drop 71 = dktX5_note_3 := dk_seg dksX5_note_2 24 rfl rfl
theorem dX5_note_0 : decode cX5_note 0 = .ok (.aload_n 0, 1) := dk_42 (dk_at dksX5_note_0 0 rfl rfl)
theorem dX5_note_1 : decode cX5_note 1 = .ok (.iconst 0, 1) := dk_3 (dk_at dksX5_note_0 1 rfl rfl)
theorem dX5_note_2 : decode cX5_note 2 = .ok (.putfield 111, 3) := dk_181 0 111 (dk_at dksX5_note_0 2 rfl rfl)
theorem dX5_note_5 : decode cX5_note 5 = .ok (.aload_n 0, 1) := dk_42 (dk_at dksX5_note_0 5 rfl rfl)
theorem dX5_note_6 : decode cX5_note 6 = .ok (.getfield 379, 3) := dk_180 1 123 (dk_at dksX5_note_0 6 rfl rfl)
theorem dX5_note_9 : decode cX5_note 9 = .ok (.bipush 12, 2) := dk_16 12 (dk_at dksX5_note_0 9 rfl rfl)
theorem dX5_note_11 : decode cX5_note 11 = .ok (.if_icmp .eq 33, 3) := dk_159 0 33 (dk_at dksX5_note_0 11 rfl rfl)
theorem dX5_note_14 : decode cX5_note 14 = .ok (.iload_n 1, 1) := dk_27 (dk_at dksX5_note_0 14 rfl rfl)
theorem dX5_note_15 : decode cX5_note 15 = .ok (.iconst 0, 1) := dk_3 (dk_at dksX5_note_0 15 rfl rfl)
theorem dX5_note_16 : decode cX5_note 16 = .ok (.bipush 24, 2) := dk_16 24 (dk_at dksX5_note_0 16 rfl rfl)
theorem dX5_note_18 : decode cX5_note 18 = .ok (.invokestatic 235, 3) := dk_184 0 235 (dk_at dksX5_note_0 18 rfl rfl)
theorem dX5_note_21 : decode cX5_note 21 = .ok (.ifCond .eq 23, 3) := dk_153 0 23 (dk_at dksX5_note_0 21 rfl rfl)
theorem dX5_note_24 : decode cX5_note 24 = .ok (.iload_n 2, 1) := dk_28 (dk_at dksX5_note_1 0 rfl rfl)
theorem dX5_note_25 : decode cX5_note 25 = .ok (.iconst 0, 1) := dk_3 (dk_at dksX5_note_1 1 rfl rfl)
theorem dX5_note_26 : decode cX5_note 26 = .ok (.bipush 24, 2) := dk_16 24 (dk_at dksX5_note_1 2 rfl rfl)
theorem dX5_note_28 : decode cX5_note 28 = .ok (.invokestatic 235, 3) := dk_184 0 235 (dk_at dksX5_note_1 4 rfl rfl)
theorem dX5_note_31 : decode cX5_note 31 = .ok (.ifCond .eq 13, 3) := dk_153 0 13 (dk_at dksX5_note_1 7 rfl rfl)
theorem dX5_note_34 : decode cX5_note 34 = .ok (.iload_n 3, 1) := dk_29 (dk_at dksX5_note_1 10 rfl rfl)
theorem dX5_note_35 : decode cX5_note 35 = .ok (.iconst 0, 1) := dk_3 (dk_at dksX5_note_1 11 rfl rfl)
theorem dX5_note_36 : decode cX5_note 36 = .ok (.bipush 24, 2) := dk_16 24 (dk_at dksX5_note_1 12 rfl rfl)
theorem dX5_note_38 : decode cX5_note 38 = .ok (.invokestatic 235, 3) := dk_184 0 235 (dk_at dksX5_note_1 14 rfl rfl)
theorem dX5_note_41 : decode cX5_note 41 = .ok (.ifCond .ne 5, 3) := dk_154 0 5 (dk_at dksX5_note_1 17 rfl rfl)
theorem dX5_note_44 : decode cX5_note 44 = .ok (.iconst (-1), 1) := dk_2 (dk_at dksX5_note_1 20 rfl rfl)
theorem dX5_note_45 : decode cX5_note 45 = .ok (.ireturn, 1) := dk_172 (dk_at dksX5_note_1 21 rfl rfl)
theorem dX5_note_46 : decode cX5_note 46 = .ok (.aload_n 0, 1) := dk_42 (dk_at dksX5_note_1 22 rfl rfl)
theorem dX5_note_47 : decode cX5_note 47 = .ok (.getfield 93, 3) := dk_180 0 93 (dk_at dksX5_note_2 0 rfl rfl)
theorem dX5_note_50 : decode cX5_note 50 = .ok (.aload_n 0, 1) := dk_42 (dk_at dksX5_note_2 3 rfl rfl)
theorem dX5_note_51 : decode cX5_note 51 = .ok (.getfield 379, 3) := dk_180 1 123 (dk_at dksX5_note_2 4 rfl rfl)
theorem dX5_note_54 : decode cX5_note 54 = .ok (.iload_n 1, 1) := dk_27 (dk_at dksX5_note_2 7 rfl rfl)
theorem dX5_note_55 : decode cX5_note 55 = .ok (.iastore, 1) := dk_79 (dk_at dksX5_note_2 8 rfl rfl)
theorem dX5_note_56 : decode cX5_note 56 = .ok (.aload_n 0, 1) := dk_42 (dk_at dksX5_note_2 9 rfl rfl)
theorem dX5_note_57 : decode cX5_note 57 = .ok (.getfield 96, 3) := dk_180 0 96 (dk_at dksX5_note_2 10 rfl rfl)
theorem dX5_note_60 : decode cX5_note 60 = .ok (.aload_n 0, 1) := dk_42 (dk_at dksX5_note_2 13 rfl rfl)
theorem dX5_note_61 : decode cX5_note 61 = .ok (.getfield 379, 3) := dk_180 1 123 (dk_at dksX5_note_2 14 rfl rfl)
theorem dX5_note_64 : decode cX5_note 64 = .ok (.iload_n 2, 1) := dk_28 (dk_at dksX5_note_2 17 rfl rfl)
theorem dX5_note_65 : decode cX5_note 65 = .ok (.iastore, 1) := dk_79 (dk_at dksX5_note_2 18 rfl rfl)
theorem dX5_note_66 : decode cX5_note 66 = .ok (.aload_n 0, 1) := dk_42 (dk_at dksX5_note_2 19 rfl rfl)
theorem dX5_note_67 : decode cX5_note 67 = .ok (.getfield 99, 3) := dk_180 0 99 (dk_at dksX5_note_2 20 rfl rfl)
theorem dX5_note_70 : decode cX5_note 70 = .ok (.aload_n 0, 1) := dk_42 (dk_at dksX5_note_2 23 rfl rfl)
theorem dX5_note_71 : decode cX5_note 71 = .ok (.getfield 379, 3) := dk_180 1 123 (dk_at dksX5_note_3 0 rfl rfl)
theorem dX5_note_74 : decode cX5_note 74 = .ok (.iload_n 3, 1) := dk_29 (dk_at dksX5_note_3 3 rfl rfl)
theorem dX5_note_75 : decode cX5_note 75 = .ok (.iastore, 1) := dk_79 (dk_at dksX5_note_3 4 rfl rfl)
theorem dX5_note_76 : decode cX5_note 76 = .ok (.aload_n 0, 1) := dk_42 (dk_at dksX5_note_3 5 rfl rfl)
theorem dX5_note_77 : decode cX5_note 77 = .ok (.dup, 1) := dk_89 (dk_at dksX5_note_3 6 rfl rfl)
theorem dX5_note_78 : decode cX5_note 78 = .ok (.getfield 379, 3) := dk_180 1 123 (dk_at dksX5_note_3 7 rfl rfl)
theorem dX5_note_81 : decode cX5_note 81 = .ok (.iconst 1, 1) := dk_4 (dk_at dksX5_note_3 10 rfl rfl)
theorem dX5_note_82 : decode cX5_note 82 = .ok (.iadd, 1) := dk_96 (dk_at dksX5_note_3 11 rfl rfl)
theorem dX5_note_83 : decode cX5_note 83 = .ok (.putfield 379, 3) := dk_181 1 123 (dk_at dksX5_note_3 12 rfl rfl)
theorem dX5_note_86 : decode cX5_note 86 = .ok (.aload_n 0, 1) := dk_42 (dk_at dksX5_note_3 15 rfl rfl)
theorem dX5_note_87 : decode cX5_note 87 = .ok (.getfield 379, 3) := dk_180 1 123 (dk_at dksX5_note_3 16 rfl rfl)
theorem dX5_note_90 : decode cX5_note 90 = .ok (.ireturn, 1) := dk_172 (dk_at dksX5_note_3 19 rfl rfl)
abbrev cX5_fits : ByteArray := prog_16_method_68_code
def yX5_fits : MethodName := ⟨RX5, "fits", "(J)I"⟩
def dkwX5_fits_1 : List UInt8 := [182, 1, 129, 153, 0, 10, 4, 21, 4, 120, 167, 0, 4, 3, 128, 62, 132, 4, 1, 167, 255, 223, 29, 172]
abbrev dktX5_fits_1 : List UInt8 := dkwX5_fits_1 ++ []
def dkwX5_fits_0 : List UInt8 := [42, 3, 181, 0, 111, 3, 62, 3, 54, 4, 21, 4, 42, 180, 0, 229, 162, 0, 30, 29, 42, 21, 4, 31]
abbrev dktX5_fits_0 : List UInt8 := dkwX5_fits_0 ++ dktX5_fits_1
theorem dksX5_fits_0 : cX5_fits.data.toList.drop 0 = dktX5_fits_0 := by decide +kernel
theorem dksX5_fits_1 : cX5_fits.data.toList.drop 24 = dktX5_fits_1 := dk_seg dksX5_fits_0 24 rfl rfl
theorem dX5_fits_0 : decode cX5_fits 0 = .ok (.aload_n 0, 1) := dk_42 (dk_at dksX5_fits_0 0 rfl rfl)
theorem dX5_fits_1 : decode cX5_fits 1 = .ok (.iconst 0, 1) := dk_3 (dk_at dksX5_fits_0 1 rfl rfl)
theorem dX5_fits_2 : decode cX5_fits 2 = .ok (.putfield 111, 3) := dk_181 0 111 (dk_at dksX5_fits_0 2 rfl rfl)
theorem dX5_fits_5 : decode cX5_fits 5 = .ok (.iconst 0, 1) := dk_3 (dk_at dksX5_fits_0 5 rfl rfl)
theorem dX5_fits_6 : decode cX5_fits 6 = .ok (.istore_n 3, 1) := dk_62 (dk_at dksX5_fits_0 6 rfl rfl)
theorem dX5_fits_7 : decode cX5_fits 7 = .ok (.iconst 0, 1) := dk_3 (dk_at dksX5_fits_0 7 rfl rfl)
theorem dX5_fits_8 : decode cX5_fits 8 = .ok (.istore 4, 2) := dk_54 4 (dk_at dksX5_fits_0 8 rfl rfl)
theorem dX5_fits_10 : decode cX5_fits 10 = .ok (.iload 4, 2) := dk_21 4 (dk_at dksX5_fits_0 10 rfl rfl)
theorem dX5_fits_12 : decode cX5_fits 12 = .ok (.aload_n 0, 1) := dk_42 (dk_at dksX5_fits_0 12 rfl rfl)
theorem dX5_fits_13 : decode cX5_fits 13 = .ok (.getfield 229, 3) := dk_180 0 229 (dk_at dksX5_fits_0 13 rfl rfl)
theorem dX5_fits_16 : decode cX5_fits 16 = .ok (.if_icmp .ge 30, 3) := dk_162 0 30 (dk_at dksX5_fits_0 16 rfl rfl)
theorem dX5_fits_19 : decode cX5_fits 19 = .ok (.iload_n 3, 1) := dk_29 (dk_at dksX5_fits_0 19 rfl rfl)
theorem dX5_fits_20 : decode cX5_fits 20 = .ok (.aload_n 0, 1) := dk_42 (dk_at dksX5_fits_0 20 rfl rfl)
theorem dX5_fits_21 : decode cX5_fits 21 = .ok (.iload 4, 2) := dk_21 4 (dk_at dksX5_fits_0 21 rfl rfl)
theorem dX5_fits_23 : decode cX5_fits 23 = .ok (.lload_n 1, 1) := dk_31 (dk_at dksX5_fits_0 23 rfl rfl)
theorem dX5_fits_24 : decode cX5_fits 24 = .ok (.invokevirtual 385, 3) := dk_182 1 129 (dk_at dksX5_fits_1 0 rfl rfl)
theorem dX5_fits_27 : decode cX5_fits 27 = .ok (.ifCond .eq 10, 3) := dk_153 0 10 (dk_at dksX5_fits_1 3 rfl rfl)
theorem dX5_fits_30 : decode cX5_fits 30 = .ok (.iconst 1, 1) := dk_4 (dk_at dksX5_fits_1 6 rfl rfl)
theorem dX5_fits_31 : decode cX5_fits 31 = .ok (.iload 4, 2) := dk_21 4 (dk_at dksX5_fits_1 7 rfl rfl)
theorem dX5_fits_33 : decode cX5_fits 33 = .ok (.ishl, 1) := dk_120 (dk_at dksX5_fits_1 9 rfl rfl)
theorem dX5_fits_34 : decode cX5_fits 34 = .ok (.goto 4, 3) := dk_167 0 4 (dk_at dksX5_fits_1 10 rfl rfl)
theorem dX5_fits_37 : decode cX5_fits 37 = .ok (.iconst 0, 1) := dk_3 (dk_at dksX5_fits_1 13 rfl rfl)
theorem dX5_fits_38 : decode cX5_fits 38 = .ok (.ior, 1) := dk_128 (dk_at dksX5_fits_1 14 rfl rfl)
theorem dX5_fits_39 : decode cX5_fits 39 = .ok (.istore_n 3, 1) := dk_62 (dk_at dksX5_fits_1 15 rfl rfl)
theorem dX5_fits_40 : decode cX5_fits 40 = .ok (.iinc 4 1, 3) := dk_132 4 1 (dk_at dksX5_fits_1 16 rfl rfl)
theorem dX5_fits_43 : decode cX5_fits 43 = .ok (.goto (-33), 3) := dk_167 255 223 (dk_at dksX5_fits_1 19 rfl rfl)
theorem dX5_fits_46 : decode cX5_fits 46 = .ok (.iload_n 3, 1) := dk_29 (dk_at dksX5_fits_1 22 rfl rfl)
theorem dX5_fits_47 : decode cX5_fits 47 = .ok (.ireturn, 1) := dk_172 (dk_at dksX5_fits_1 23 rfl rfl)
abbrev cX5_fitsAll : ByteArray := prog_16_method_67_code
def yX5_fitsAll : MethodName := ⟨RX5, "fitsAll", "(IJ)Z"⟩
def dkwX5_fitsAll_3 : List UInt8 := [46, 164, 0, 5, 3, 172, 132, 5, 1, 167, 255, 205, 132, 4, 1, 167, 255, 182, 4, 172]
abbrev dktX5_fitsAll_3 : List UInt8 := dkwX5_fitsAll_3 ++ []
def dkwX5_fitsAll_2 : List UInt8 := [160, 0, 30, 42, 182, 1, 63, 42, 180, 0, 96, 21, 5, 46, 100, 184, 1, 126, 42, 180, 0, 99, 21, 5]
abbrev dktX5_fitsAll_2 : List UInt8 := dkwX5_fitsAll_2 ++ dktX5_fitsAll_3
def dkwX5_fitsAll_1 : List UInt8 := [182, 1, 104, 3, 54, 5, 21, 5, 42, 180, 1, 123, 162, 0, 48, 42, 180, 0, 93, 21, 5, 46, 21, 4]
abbrev dktX5_fitsAll_1 : List UInt8 := dkwX5_fitsAll_1 ++ dktX5_fitsAll_2
def dkwX5_fitsAll_0 : List UInt8 := [42, 42, 180, 0, 232, 32, 182, 0, 252, 3, 54, 4, 21, 4, 16, 24, 163, 0, 73, 42, 27, 21, 4]
abbrev dktX5_fitsAll_0 : List UInt8 := dkwX5_fitsAll_0 ++ dktX5_fitsAll_1
theorem dksX5_fitsAll_0 : cX5_fitsAll.data.toList.drop 0 = dktX5_fitsAll_0 := by decide +kernel
theorem dksX5_fitsAll_1 : cX5_fitsAll.data.toList.drop 23 = dktX5_fitsAll_1 := dk_seg dksX5_fitsAll_0 23 rfl rfl
theorem dksX5_fitsAll_2 : cX5_fitsAll.data.toList.drop 47 = dktX5_fitsAll_2 := dk_seg dksX5_fitsAll_1 24 rfl rfl
theorem dksX5_fitsAll_3 : cX5_fitsAll.data.toList.drop 71 = dktX5_fitsAll_3 := dk_seg dksX5_fitsAll_2 24 rfl rfl
theorem dX5_fitsAll_0 : decode cX5_fitsAll 0 = .ok (.aload_n 0, 1) := dk_42 (dk_at dksX5_fitsAll_0 0 rfl rfl)
theorem dX5_fitsAll_1 : decode cX5_fitsAll 1 = .ok (.aload_n 0, 1) := dk_42 (dk_at dksX5_fitsAll_0 1 rfl rfl)
theorem dX5_fitsAll_2 : decode cX5_fitsAll 2 = .ok (.getfield 232, 3) := dk_180 0 232 (dk_at dksX5_fitsAll_0 2 rfl rfl)
theorem dX5_fitsAll_5 : decode cX5_fitsAll 5 = .ok (.lload_n 2, 1) := dk_32 (dk_at dksX5_fitsAll_0 5 rfl rfl)
theorem dX5_fitsAll_6 : decode cX5_fitsAll 6 = .ok (.invokevirtual 252, 3) := dk_182 0 252 (dk_at dksX5_fitsAll_0 6 rfl rfl)
theorem dX5_fitsAll_9 : decode cX5_fitsAll 9 = .ok (.iconst 0, 1) := dk_3 (dk_at dksX5_fitsAll_0 9 rfl rfl)
theorem dX5_fitsAll_10 : decode cX5_fitsAll 10 = .ok (.istore 4, 2) := dk_54 4 (dk_at dksX5_fitsAll_0 10 rfl rfl)
theorem dX5_fitsAll_12 : decode cX5_fitsAll 12 = .ok (.iload 4, 2) := dk_21 4 (dk_at dksX5_fitsAll_0 12 rfl rfl)
theorem dX5_fitsAll_14 : decode cX5_fitsAll 14 = .ok (.bipush 24, 2) := dk_16 24 (dk_at dksX5_fitsAll_0 14 rfl rfl)
theorem dX5_fitsAll_16 : decode cX5_fitsAll 16 = .ok (.if_icmp .gt 73, 3) := dk_163 0 73 (dk_at dksX5_fitsAll_0 16 rfl rfl)
theorem dX5_fitsAll_19 : decode cX5_fitsAll 19 = .ok (.aload_n 0, 1) := dk_42 (dk_at dksX5_fitsAll_0 19 rfl rfl)
theorem dX5_fitsAll_20 : decode cX5_fitsAll 20 = .ok (.iload_n 1, 1) := dk_27 (dk_at dksX5_fitsAll_0 20 rfl rfl)
theorem dX5_fitsAll_21 : decode cX5_fitsAll 21 = .ok (.iload 4, 2) := dk_21 4 (dk_at dksX5_fitsAll_0 21 rfl rfl)
theorem dX5_fitsAll_23 : decode cX5_fitsAll 23 = .ok (.invokevirtual 360, 3) := dk_182 1 104 (dk_at dksX5_fitsAll_1 0 rfl rfl)
theorem dX5_fitsAll_26 : decode cX5_fitsAll 26 = .ok (.iconst 0, 1) := dk_3 (dk_at dksX5_fitsAll_1 3 rfl rfl)
theorem dX5_fitsAll_27 : decode cX5_fitsAll 27 = .ok (.istore 5, 2) := dk_54 5 (dk_at dksX5_fitsAll_1 4 rfl rfl)
theorem dX5_fitsAll_29 : decode cX5_fitsAll 29 = .ok (.iload 5, 2) := dk_21 5 (dk_at dksX5_fitsAll_1 6 rfl rfl)
theorem dX5_fitsAll_31 : decode cX5_fitsAll 31 = .ok (.aload_n 0, 1) := dk_42 (dk_at dksX5_fitsAll_1 8 rfl rfl)
theorem dX5_fitsAll_32 : decode cX5_fitsAll 32 = .ok (.getfield 379, 3) := dk_180 1 123 (dk_at dksX5_fitsAll_1 9 rfl rfl)
theorem dX5_fitsAll_35 : decode cX5_fitsAll 35 = .ok (.if_icmp .ge 48, 3) := dk_162 0 48 (dk_at dksX5_fitsAll_1 12 rfl rfl)
theorem dX5_fitsAll_38 : decode cX5_fitsAll 38 = .ok (.aload_n 0, 1) := dk_42 (dk_at dksX5_fitsAll_1 15 rfl rfl)
theorem dX5_fitsAll_39 : decode cX5_fitsAll 39 = .ok (.getfield 93, 3) := dk_180 0 93 (dk_at dksX5_fitsAll_1 16 rfl rfl)
theorem dX5_fitsAll_42 : decode cX5_fitsAll 42 = .ok (.iload 5, 2) := dk_21 5 (dk_at dksX5_fitsAll_1 19 rfl rfl)
theorem dX5_fitsAll_44 : decode cX5_fitsAll 44 = .ok (.iaload, 1) := dk_46 (dk_at dksX5_fitsAll_1 21 rfl rfl)
theorem dX5_fitsAll_45 : decode cX5_fitsAll 45 = .ok (.iload 4, 2) := dk_21 4 (dk_at dksX5_fitsAll_1 22 rfl rfl)
theorem dX5_fitsAll_47 : decode cX5_fitsAll 47 = .ok (.if_icmp .ne 30, 3) := dk_160 0 30 (dk_at dksX5_fitsAll_2 0 rfl rfl)
theorem dX5_fitsAll_50 : decode cX5_fitsAll 50 = .ok (.aload_n 0, 1) := dk_42 (dk_at dksX5_fitsAll_2 3 rfl rfl)
theorem dX5_fitsAll_51 : decode cX5_fitsAll 51 = .ok (.invokevirtual 319, 3) := dk_182 1 63 (dk_at dksX5_fitsAll_2 4 rfl rfl)
theorem dX5_fitsAll_54 : decode cX5_fitsAll 54 = .ok (.aload_n 0, 1) := dk_42 (dk_at dksX5_fitsAll_2 7 rfl rfl)
theorem dX5_fitsAll_55 : decode cX5_fitsAll 55 = .ok (.getfield 96, 3) := dk_180 0 96 (dk_at dksX5_fitsAll_2 8 rfl rfl)
theorem dX5_fitsAll_58 : decode cX5_fitsAll 58 = .ok (.iload 5, 2) := dk_21 5 (dk_at dksX5_fitsAll_2 11 rfl rfl)
theorem dX5_fitsAll_60 : decode cX5_fitsAll 60 = .ok (.iaload, 1) := dk_46 (dk_at dksX5_fitsAll_2 13 rfl rfl)
theorem dX5_fitsAll_61 : decode cX5_fitsAll 61 = .ok (.isub, 1) := dk_100 (dk_at dksX5_fitsAll_2 14 rfl rfl)
theorem dX5_fitsAll_62 : decode cX5_fitsAll 62 = .ok (.invokestatic 382, 3) := dk_184 1 126 (dk_at dksX5_fitsAll_2 15 rfl rfl)
theorem dX5_fitsAll_65 : decode cX5_fitsAll 65 = .ok (.aload_n 0, 1) := dk_42 (dk_at dksX5_fitsAll_2 18 rfl rfl)
theorem dX5_fitsAll_66 : decode cX5_fitsAll 66 = .ok (.getfield 99, 3) := dk_180 0 99 (dk_at dksX5_fitsAll_2 19 rfl rfl)
theorem dX5_fitsAll_69 : decode cX5_fitsAll 69 = .ok (.iload 5, 2) := dk_21 5 (dk_at dksX5_fitsAll_2 22 rfl rfl)
theorem dX5_fitsAll_71 : decode cX5_fitsAll 71 = .ok (.iaload, 1) := dk_46 (dk_at dksX5_fitsAll_3 0 rfl rfl)
theorem dX5_fitsAll_72 : decode cX5_fitsAll 72 = .ok (.if_icmp .le 5, 3) := dk_164 0 5 (dk_at dksX5_fitsAll_3 1 rfl rfl)
theorem dX5_fitsAll_75 : decode cX5_fitsAll 75 = .ok (.iconst 0, 1) := dk_3 (dk_at dksX5_fitsAll_3 4 rfl rfl)
theorem dX5_fitsAll_76 : decode cX5_fitsAll 76 = .ok (.ireturn, 1) := dk_172 (dk_at dksX5_fitsAll_3 5 rfl rfl)
theorem dX5_fitsAll_77 : decode cX5_fitsAll 77 = .ok (.iinc 5 1, 3) := dk_132 5 1 (dk_at dksX5_fitsAll_3 6 rfl rfl)
theorem dX5_fitsAll_80 : decode cX5_fitsAll 80 = .ok (.goto (-51), 3) := dk_167 255 205 (dk_at dksX5_fitsAll_3 9 rfl rfl)
theorem dX5_fitsAll_83 : decode cX5_fitsAll 83 = .ok (.iinc 4 1, 3) := dk_132 4 1 (dk_at dksX5_fitsAll_3 12 rfl rfl)
theorem dX5_fitsAll_86 : decode cX5_fitsAll 86 = .ok (.goto (-74), 3) := dk_167 255 182 (dk_at dksX5_fitsAll_3 15 rfl rfl)
theorem dX5_fitsAll_89 : decode cX5_fitsAll 89 = .ok (.iconst 1, 1) := dk_4 (dk_at dksX5_fitsAll_3 18 rfl rfl)
theorem dX5_fitsAll_90 : decode cX5_fitsAll 90 = .ok (.ireturn, 1) := dk_172 (dk_at dksX5_fitsAll_3 19 rfl rfl)
abbrev cX5_whatIf : ByteArray := prog_16_method_69_code
def yX5_whatIf : MethodName := ⟨RX5, "whatIf", "(IJI)I"⟩
def dkwX5_whatIf_4 : List UInt8 := [181, 1, 47, 42, 27, 16, 24, 182, 1, 104, 42, 182, 1, 63, 21, 5, 100, 172]
abbrev dktX5_whatIf_4 : List UInt8 := dkwX5_whatIf_4 ++ []
def dkwX5_whatIf_3 : List UInt8 := [153, 0, 7, 4, 167, 0, 4, 3, 181, 1, 44, 42, 21, 4, 7, 126, 153, 0, 7, 4, 167, 0, 4, 3]
abbrev dktX5_whatIf_3 : List UInt8 := dkwX5_whatIf_3 ++ dktX5_whatIf_4
def dkwX5_whatIf_2 : List UInt8 := [182, 0, 252, 42, 21, 4, 4, 126, 153, 0, 7, 4, 167, 0, 4, 3, 181, 1, 41, 42, 21, 4, 5, 126]
abbrev dktX5_whatIf_2 : List UInt8 := dkwX5_whatIf_2 ++ dktX5_whatIf_3
def dkwX5_whatIf_1 : List UInt8 := [17, 252, 24, 172, 42, 27, 32, 16, 24, 182, 1, 110, 42, 182, 1, 63, 54, 5, 42, 42, 180, 0, 232, 32]
abbrev dktX5_whatIf_1 : List UInt8 := dkwX5_whatIf_1 ++ dktX5_whatIf_2
def dkwX5_whatIf_0 : List UInt8 := [42, 3, 181, 0, 111, 42, 27, 182, 1, 107, 153, 0, 14, 21, 4, 3, 16, 7, 184, 0, 235, 154, 0, 7]
abbrev dktX5_whatIf_0 : List UInt8 := dkwX5_whatIf_0 ++ dktX5_whatIf_1
theorem dksX5_whatIf_0 : cX5_whatIf.data.toList.drop 0 = dktX5_whatIf_0 := by decide +kernel
theorem dksX5_whatIf_1 : cX5_whatIf.data.toList.drop 24 = dktX5_whatIf_1 := dk_seg dksX5_whatIf_0 24 rfl rfl
theorem dksX5_whatIf_2 : cX5_whatIf.data.toList.drop 48 = dktX5_whatIf_2 := dk_seg dksX5_whatIf_1 24 rfl rfl
theorem dksX5_whatIf_3 : cX5_whatIf.data.toList.drop 72 = dktX5_whatIf_3 := dk_seg dksX5_whatIf_2 24 rfl rfl
theorem dksX5_whatIf_4 : cX5_whatIf.data.toList.drop 96 = dktX5_whatIf_4 := dk_seg dksX5_whatIf_3 24 rfl rfl
theorem dX5_whatIf_0 : decode cX5_whatIf 0 = .ok (.aload_n 0, 1) := dk_42 (dk_at dksX5_whatIf_0 0 rfl rfl)
theorem dX5_whatIf_1 : decode cX5_whatIf 1 = .ok (.iconst 0, 1) := dk_3 (dk_at dksX5_whatIf_0 1 rfl rfl)
theorem dX5_whatIf_2 : decode cX5_whatIf 2 = .ok (.putfield 111, 3) := dk_181 0 111 (dk_at dksX5_whatIf_0 2 rfl rfl)
theorem dX5_whatIf_5 : decode cX5_whatIf 5 = .ok (.aload_n 0, 1) := dk_42 (dk_at dksX5_whatIf_0 5 rfl rfl)
theorem dX5_whatIf_6 : decode cX5_whatIf 6 = .ok (.iload_n 1, 1) := dk_27 (dk_at dksX5_whatIf_0 6 rfl rfl)
theorem dX5_whatIf_7 : decode cX5_whatIf 7 = .ok (.invokevirtual 363, 3) := dk_182 1 107 (dk_at dksX5_whatIf_0 7 rfl rfl)
theorem dX5_whatIf_10 : decode cX5_whatIf 10 = .ok (.ifCond .eq 14, 3) := dk_153 0 14 (dk_at dksX5_whatIf_0 10 rfl rfl)
theorem dX5_whatIf_13 : decode cX5_whatIf 13 = .ok (.iload 4, 2) := dk_21 4 (dk_at dksX5_whatIf_0 13 rfl rfl)
theorem dX5_whatIf_15 : decode cX5_whatIf 15 = .ok (.iconst 0, 1) := dk_3 (dk_at dksX5_whatIf_0 15 rfl rfl)
theorem dX5_whatIf_16 : decode cX5_whatIf 16 = .ok (.bipush 7, 2) := dk_16 7 (dk_at dksX5_whatIf_0 16 rfl rfl)
theorem dX5_whatIf_18 : decode cX5_whatIf 18 = .ok (.invokestatic 235, 3) := dk_184 0 235 (dk_at dksX5_whatIf_0 18 rfl rfl)
theorem dX5_whatIf_21 : decode cX5_whatIf 21 = .ok (.ifCond .ne 7, 3) := dk_154 0 7 (dk_at dksX5_whatIf_0 21 rfl rfl)
theorem dX5_whatIf_24 : decode cX5_whatIf 24 = .ok (.sipush (-1000), 3) := dk_17 252 24 (dk_at dksX5_whatIf_1 0 rfl rfl)
theorem dX5_whatIf_27 : decode cX5_whatIf 27 = .ok (.ireturn, 1) := dk_172 (dk_at dksX5_whatIf_1 3 rfl rfl)
theorem dX5_whatIf_28 : decode cX5_whatIf 28 = .ok (.aload_n 0, 1) := dk_42 (dk_at dksX5_whatIf_1 4 rfl rfl)
theorem dX5_whatIf_29 : decode cX5_whatIf 29 = .ok (.iload_n 1, 1) := dk_27 (dk_at dksX5_whatIf_1 5 rfl rfl)
theorem dX5_whatIf_30 : decode cX5_whatIf 30 = .ok (.lload_n 2, 1) := dk_32 (dk_at dksX5_whatIf_1 6 rfl rfl)
theorem dX5_whatIf_31 : decode cX5_whatIf 31 = .ok (.bipush 24, 2) := dk_16 24 (dk_at dksX5_whatIf_1 7 rfl rfl)
theorem dX5_whatIf_33 : decode cX5_whatIf 33 = .ok (.invokevirtual 366, 3) := dk_182 1 110 (dk_at dksX5_whatIf_1 9 rfl rfl)
theorem dX5_whatIf_36 : decode cX5_whatIf 36 = .ok (.aload_n 0, 1) := dk_42 (dk_at dksX5_whatIf_1 12 rfl rfl)
theorem dX5_whatIf_37 : decode cX5_whatIf 37 = .ok (.invokevirtual 319, 3) := dk_182 1 63 (dk_at dksX5_whatIf_1 13 rfl rfl)
theorem dX5_whatIf_40 : decode cX5_whatIf 40 = .ok (.istore 5, 2) := dk_54 5 (dk_at dksX5_whatIf_1 16 rfl rfl)
theorem dX5_whatIf_42 : decode cX5_whatIf 42 = .ok (.aload_n 0, 1) := dk_42 (dk_at dksX5_whatIf_1 18 rfl rfl)
theorem dX5_whatIf_43 : decode cX5_whatIf 43 = .ok (.aload_n 0, 1) := dk_42 (dk_at dksX5_whatIf_1 19 rfl rfl)
theorem dX5_whatIf_44 : decode cX5_whatIf 44 = .ok (.getfield 232, 3) := dk_180 0 232 (dk_at dksX5_whatIf_1 20 rfl rfl)
theorem dX5_whatIf_47 : decode cX5_whatIf 47 = .ok (.lload_n 2, 1) := dk_32 (dk_at dksX5_whatIf_1 23 rfl rfl)
theorem dX5_whatIf_48 : decode cX5_whatIf 48 = .ok (.invokevirtual 252, 3) := dk_182 0 252 (dk_at dksX5_whatIf_2 0 rfl rfl)
theorem dX5_whatIf_51 : decode cX5_whatIf 51 = .ok (.aload_n 0, 1) := dk_42 (dk_at dksX5_whatIf_2 3 rfl rfl)
theorem dX5_whatIf_52 : decode cX5_whatIf 52 = .ok (.iload 4, 2) := dk_21 4 (dk_at dksX5_whatIf_2 4 rfl rfl)
theorem dX5_whatIf_54 : decode cX5_whatIf 54 = .ok (.iconst 1, 1) := dk_4 (dk_at dksX5_whatIf_2 6 rfl rfl)
theorem dX5_whatIf_55 : decode cX5_whatIf 55 = .ok (.iand, 1) := dk_126 (dk_at dksX5_whatIf_2 7 rfl rfl)
theorem dX5_whatIf_56 : decode cX5_whatIf 56 = .ok (.ifCond .eq 7, 3) := dk_153 0 7 (dk_at dksX5_whatIf_2 8 rfl rfl)
theorem dX5_whatIf_59 : decode cX5_whatIf 59 = .ok (.iconst 1, 1) := dk_4 (dk_at dksX5_whatIf_2 11 rfl rfl)
theorem dX5_whatIf_60 : decode cX5_whatIf 60 = .ok (.goto 4, 3) := dk_167 0 4 (dk_at dksX5_whatIf_2 12 rfl rfl)
theorem dX5_whatIf_63 : decode cX5_whatIf 63 = .ok (.iconst 0, 1) := dk_3 (dk_at dksX5_whatIf_2 15 rfl rfl)
theorem dX5_whatIf_64 : decode cX5_whatIf 64 = .ok (.putfield 297, 3) := dk_181 1 41 (dk_at dksX5_whatIf_2 16 rfl rfl)
theorem dX5_whatIf_67 : decode cX5_whatIf 67 = .ok (.aload_n 0, 1) := dk_42 (dk_at dksX5_whatIf_2 19 rfl rfl)
theorem dX5_whatIf_68 : decode cX5_whatIf 68 = .ok (.iload 4, 2) := dk_21 4 (dk_at dksX5_whatIf_2 20 rfl rfl)
theorem dX5_whatIf_70 : decode cX5_whatIf 70 = .ok (.iconst 2, 1) := dk_5 (dk_at dksX5_whatIf_2 22 rfl rfl)
theorem dX5_whatIf_71 : decode cX5_whatIf 71 = .ok (.iand, 1) := dk_126 (dk_at dksX5_whatIf_2 23 rfl rfl)
theorem dX5_whatIf_72 : decode cX5_whatIf 72 = .ok (.ifCond .eq 7, 3) := dk_153 0 7 (dk_at dksX5_whatIf_3 0 rfl rfl)
theorem dX5_whatIf_75 : decode cX5_whatIf 75 = .ok (.iconst 1, 1) := dk_4 (dk_at dksX5_whatIf_3 3 rfl rfl)
theorem dX5_whatIf_76 : decode cX5_whatIf 76 = .ok (.goto 4, 3) := dk_167 0 4 (dk_at dksX5_whatIf_3 4 rfl rfl)
theorem dX5_whatIf_79 : decode cX5_whatIf 79 = .ok (.iconst 0, 1) := dk_3 (dk_at dksX5_whatIf_3 7 rfl rfl)
theorem dX5_whatIf_80 : decode cX5_whatIf 80 = .ok (.putfield 300, 3) := dk_181 1 44 (dk_at dksX5_whatIf_3 8 rfl rfl)
theorem dX5_whatIf_83 : decode cX5_whatIf 83 = .ok (.aload_n 0, 1) := dk_42 (dk_at dksX5_whatIf_3 11 rfl rfl)
theorem dX5_whatIf_84 : decode cX5_whatIf 84 = .ok (.iload 4, 2) := dk_21 4 (dk_at dksX5_whatIf_3 12 rfl rfl)
theorem dX5_whatIf_86 : decode cX5_whatIf 86 = .ok (.iconst 4, 1) := dk_7 (dk_at dksX5_whatIf_3 14 rfl rfl)
theorem dX5_whatIf_87 : decode cX5_whatIf 87 = .ok (.iand, 1) := dk_126 (dk_at dksX5_whatIf_3 15 rfl rfl)
theorem dX5_whatIf_88 : decode cX5_whatIf 88 = .ok (.ifCond .eq 7, 3) := dk_153 0 7 (dk_at dksX5_whatIf_3 16 rfl rfl)
theorem dX5_whatIf_91 : decode cX5_whatIf 91 = .ok (.iconst 1, 1) := dk_4 (dk_at dksX5_whatIf_3 19 rfl rfl)
theorem dX5_whatIf_92 : decode cX5_whatIf 92 = .ok (.goto 4, 3) := dk_167 0 4 (dk_at dksX5_whatIf_3 20 rfl rfl)
theorem dX5_whatIf_95 : decode cX5_whatIf 95 = .ok (.iconst 0, 1) := dk_3 (dk_at dksX5_whatIf_3 23 rfl rfl)
theorem dX5_whatIf_96 : decode cX5_whatIf 96 = .ok (.putfield 303, 3) := dk_181 1 47 (dk_at dksX5_whatIf_4 0 rfl rfl)
theorem dX5_whatIf_99 : decode cX5_whatIf 99 = .ok (.aload_n 0, 1) := dk_42 (dk_at dksX5_whatIf_4 3 rfl rfl)
theorem dX5_whatIf_100 : decode cX5_whatIf 100 = .ok (.iload_n 1, 1) := dk_27 (dk_at dksX5_whatIf_4 4 rfl rfl)
theorem dX5_whatIf_101 : decode cX5_whatIf 101 = .ok (.bipush 24, 2) := dk_16 24 (dk_at dksX5_whatIf_4 5 rfl rfl)
theorem dX5_whatIf_103 : decode cX5_whatIf 103 = .ok (.invokevirtual 360, 3) := dk_182 1 104 (dk_at dksX5_whatIf_4 7 rfl rfl)
theorem dX5_whatIf_106 : decode cX5_whatIf 106 = .ok (.aload_n 0, 1) := dk_42 (dk_at dksX5_whatIf_4 10 rfl rfl)
theorem dX5_whatIf_107 : decode cX5_whatIf 107 = .ok (.invokevirtual 319, 3) := dk_182 1 63 (dk_at dksX5_whatIf_4 11 rfl rfl)
theorem dX5_whatIf_110 : decode cX5_whatIf 110 = .ok (.iload 5, 2) := dk_21 5 (dk_at dksX5_whatIf_4 14 rfl rfl)
theorem dX5_whatIf_112 : decode cX5_whatIf 112 = .ok (.isub, 1) := dk_100 (dk_at dksX5_whatIf_4 16 rfl rfl)
theorem dX5_whatIf_113 : decode cX5_whatIf 113 = .ok (.ireturn, 1) := dk_172 (dk_at dksX5_whatIf_4 17 rfl rfl)
abbrev cX5_trial : ByteArray := prog_16_method_70_code
def yX5_trial : MethodName := ⟨RX5, "trial", "(II)I"⟩
def dkwX5_trial_3 : List UInt8 := [100, 172]
abbrev dktX5_trial_3 : List UInt8 := dkwX5_trial_3 ++ []
def dkwX5_trial_2 : List UInt8 := [180, 0, 105, 42, 180, 1, 133, 28, 79, 42, 89, 180, 1, 133, 4, 96, 181, 1, 133, 42, 180, 1, 133, 4]
abbrev dktX5_trial_2 : List UInt8 := dkwX5_trial_2 ++ dktX5_trial_3
def dkwX5_trial_1 : List UInt8 := [28, 4, 16, 24, 184, 0, 235, 154, 0, 5, 2, 172, 42, 180, 0, 102, 42, 180, 1, 133, 27, 79, 42]
abbrev dktX5_trial_1 : List UInt8 := dkwX5_trial_1 ++ dktX5_trial_2
def dkwX5_trial_0 : List UInt8 := [42, 3, 181, 0, 111, 42, 180, 1, 133, 16, 6, 159, 0, 23, 27, 4, 16, 16, 184, 0, 235, 153, 0, 13]
abbrev dktX5_trial_0 : List UInt8 := dkwX5_trial_0 ++ dktX5_trial_1
theorem dksX5_trial_0 : cX5_trial.data.toList.drop 0 = dktX5_trial_0 := by decide +kernel
theorem dksX5_trial_1 : cX5_trial.data.toList.drop 24 = dktX5_trial_1 := dk_seg dksX5_trial_0 24 rfl rfl
theorem dksX5_trial_2 : cX5_trial.data.toList.drop 47 = dktX5_trial_2 := dk_seg dksX5_trial_1 23 rfl rfl
theorem dksX5_trial_3 : cX5_trial.data.toList.drop 71 = dktX5_trial_3 := dk_seg dksX5_trial_2 24 rfl rfl
theorem dX5_trial_0 : decode cX5_trial 0 = .ok (.aload_n 0, 1) := dk_42 (dk_at dksX5_trial_0 0 rfl rfl)
theorem dX5_trial_1 : decode cX5_trial 1 = .ok (.iconst 0, 1) := dk_3 (dk_at dksX5_trial_0 1 rfl rfl)
theorem dX5_trial_2 : decode cX5_trial 2 = .ok (.putfield 111, 3) := dk_181 0 111 (dk_at dksX5_trial_0 2 rfl rfl)
theorem dX5_trial_5 : decode cX5_trial 5 = .ok (.aload_n 0, 1) := dk_42 (dk_at dksX5_trial_0 5 rfl rfl)
theorem dX5_trial_6 : decode cX5_trial 6 = .ok (.getfield 389, 3) := dk_180 1 133 (dk_at dksX5_trial_0 6 rfl rfl)
theorem dX5_trial_9 : decode cX5_trial 9 = .ok (.bipush 6, 2) := dk_16 6 (dk_at dksX5_trial_0 9 rfl rfl)
theorem dX5_trial_11 : decode cX5_trial 11 = .ok (.if_icmp .eq 23, 3) := dk_159 0 23 (dk_at dksX5_trial_0 11 rfl rfl)
theorem dX5_trial_14 : decode cX5_trial 14 = .ok (.iload_n 1, 1) := dk_27 (dk_at dksX5_trial_0 14 rfl rfl)
theorem dX5_trial_15 : decode cX5_trial 15 = .ok (.iconst 1, 1) := dk_4 (dk_at dksX5_trial_0 15 rfl rfl)
theorem dX5_trial_16 : decode cX5_trial 16 = .ok (.bipush 16, 2) := dk_16 16 (dk_at dksX5_trial_0 16 rfl rfl)
theorem dX5_trial_18 : decode cX5_trial 18 = .ok (.invokestatic 235, 3) := dk_184 0 235 (dk_at dksX5_trial_0 18 rfl rfl)
theorem dX5_trial_21 : decode cX5_trial 21 = .ok (.ifCond .eq 13, 3) := dk_153 0 13 (dk_at dksX5_trial_0 21 rfl rfl)
theorem dX5_trial_24 : decode cX5_trial 24 = .ok (.iload_n 2, 1) := dk_28 (dk_at dksX5_trial_1 0 rfl rfl)
theorem dX5_trial_25 : decode cX5_trial 25 = .ok (.iconst 1, 1) := dk_4 (dk_at dksX5_trial_1 1 rfl rfl)
theorem dX5_trial_26 : decode cX5_trial 26 = .ok (.bipush 24, 2) := dk_16 24 (dk_at dksX5_trial_1 2 rfl rfl)
theorem dX5_trial_28 : decode cX5_trial 28 = .ok (.invokestatic 235, 3) := dk_184 0 235 (dk_at dksX5_trial_1 4 rfl rfl)
theorem dX5_trial_31 : decode cX5_trial 31 = .ok (.ifCond .ne 5, 3) := dk_154 0 5 (dk_at dksX5_trial_1 7 rfl rfl)
theorem dX5_trial_34 : decode cX5_trial 34 = .ok (.iconst (-1), 1) := dk_2 (dk_at dksX5_trial_1 10 rfl rfl)
theorem dX5_trial_35 : decode cX5_trial 35 = .ok (.ireturn, 1) := dk_172 (dk_at dksX5_trial_1 11 rfl rfl)
theorem dX5_trial_36 : decode cX5_trial 36 = .ok (.aload_n 0, 1) := dk_42 (dk_at dksX5_trial_1 12 rfl rfl)
theorem dX5_trial_37 : decode cX5_trial 37 = .ok (.getfield 102, 3) := dk_180 0 102 (dk_at dksX5_trial_1 13 rfl rfl)
theorem dX5_trial_40 : decode cX5_trial 40 = .ok (.aload_n 0, 1) := dk_42 (dk_at dksX5_trial_1 16 rfl rfl)
theorem dX5_trial_41 : decode cX5_trial 41 = .ok (.getfield 389, 3) := dk_180 1 133 (dk_at dksX5_trial_1 17 rfl rfl)
theorem dX5_trial_44 : decode cX5_trial 44 = .ok (.iload_n 1, 1) := dk_27 (dk_at dksX5_trial_1 20 rfl rfl)
theorem dX5_trial_45 : decode cX5_trial 45 = .ok (.iastore, 1) := dk_79 (dk_at dksX5_trial_1 21 rfl rfl)
theorem dX5_trial_46 : decode cX5_trial 46 = .ok (.aload_n 0, 1) := dk_42 (dk_at dksX5_trial_1 22 rfl rfl)
theorem dX5_trial_47 : decode cX5_trial 47 = .ok (.getfield 105, 3) := dk_180 0 105 (dk_at dksX5_trial_2 0 rfl rfl)
theorem dX5_trial_50 : decode cX5_trial 50 = .ok (.aload_n 0, 1) := dk_42 (dk_at dksX5_trial_2 3 rfl rfl)
theorem dX5_trial_51 : decode cX5_trial 51 = .ok (.getfield 389, 3) := dk_180 1 133 (dk_at dksX5_trial_2 4 rfl rfl)
theorem dX5_trial_54 : decode cX5_trial 54 = .ok (.iload_n 2, 1) := dk_28 (dk_at dksX5_trial_2 7 rfl rfl)
theorem dX5_trial_55 : decode cX5_trial 55 = .ok (.iastore, 1) := dk_79 (dk_at dksX5_trial_2 8 rfl rfl)
theorem dX5_trial_56 : decode cX5_trial 56 = .ok (.aload_n 0, 1) := dk_42 (dk_at dksX5_trial_2 9 rfl rfl)
theorem dX5_trial_57 : decode cX5_trial 57 = .ok (.dup, 1) := dk_89 (dk_at dksX5_trial_2 10 rfl rfl)
theorem dX5_trial_58 : decode cX5_trial 58 = .ok (.getfield 389, 3) := dk_180 1 133 (dk_at dksX5_trial_2 11 rfl rfl)
theorem dX5_trial_61 : decode cX5_trial 61 = .ok (.iconst 1, 1) := dk_4 (dk_at dksX5_trial_2 14 rfl rfl)
theorem dX5_trial_62 : decode cX5_trial 62 = .ok (.iadd, 1) := dk_96 (dk_at dksX5_trial_2 15 rfl rfl)
theorem dX5_trial_63 : decode cX5_trial 63 = .ok (.putfield 389, 3) := dk_181 1 133 (dk_at dksX5_trial_2 16 rfl rfl)
theorem dX5_trial_66 : decode cX5_trial 66 = .ok (.aload_n 0, 1) := dk_42 (dk_at dksX5_trial_2 19 rfl rfl)
theorem dX5_trial_67 : decode cX5_trial 67 = .ok (.getfield 389, 3) := dk_180 1 133 (dk_at dksX5_trial_2 20 rfl rfl)
theorem dX5_trial_70 : decode cX5_trial 70 = .ok (.iconst 1, 1) := dk_4 (dk_at dksX5_trial_2 23 rfl rfl)
theorem dX5_trial_71 : decode cX5_trial 71 = .ok (.isub, 1) := dk_100 (dk_at dksX5_trial_3 0 rfl rfl)
theorem dX5_trial_72 : decode cX5_trial 72 = .ok (.ireturn, 1) := dk_172 (dk_at dksX5_trial_3 1 rfl rfl)
abbrev cX5_tells : ByteArray := prog_16_method_73_code
def yX5_tells : MethodName := ⟨RX5, "tells", "(IIJ)I"⟩
def dkwX5_tells_1 : List UInt8 := [33, 182, 1, 139, 167, 0, 4, 2, 172]
abbrev dktX5_tells_1 : List UInt8 := dkwX5_tells_1 ++ []
def dkwX5_tells_0 : List UInt8 := [42, 3, 181, 0, 111, 42, 27, 182, 1, 136, 153, 0, 21, 42, 28, 182, 1, 107, 153, 0, 13, 42, 27, 28]
abbrev dktX5_tells_0 : List UInt8 := dkwX5_tells_0 ++ dktX5_tells_1
theorem dksX5_tells_0 : cX5_tells.data.toList.drop 0 = dktX5_tells_0 := by decide +kernel
theorem dksX5_tells_1 : cX5_tells.data.toList.drop 24 = dktX5_tells_1 := dk_seg dksX5_tells_0 24 rfl rfl
theorem dX5_tells_0 : decode cX5_tells 0 = .ok (.aload_n 0, 1) := dk_42 (dk_at dksX5_tells_0 0 rfl rfl)
theorem dX5_tells_1 : decode cX5_tells 1 = .ok (.iconst 0, 1) := dk_3 (dk_at dksX5_tells_0 1 rfl rfl)
theorem dX5_tells_2 : decode cX5_tells 2 = .ok (.putfield 111, 3) := dk_181 0 111 (dk_at dksX5_tells_0 2 rfl rfl)
theorem dX5_tells_5 : decode cX5_tells 5 = .ok (.aload_n 0, 1) := dk_42 (dk_at dksX5_tells_0 5 rfl rfl)
theorem dX5_tells_6 : decode cX5_tells 6 = .ok (.iload_n 1, 1) := dk_27 (dk_at dksX5_tells_0 6 rfl rfl)
theorem dX5_tells_7 : decode cX5_tells 7 = .ok (.invokevirtual 392, 3) := dk_182 1 136 (dk_at dksX5_tells_0 7 rfl rfl)
theorem dX5_tells_10 : decode cX5_tells 10 = .ok (.ifCond .eq 21, 3) := dk_153 0 21 (dk_at dksX5_tells_0 10 rfl rfl)
theorem dX5_tells_13 : decode cX5_tells 13 = .ok (.aload_n 0, 1) := dk_42 (dk_at dksX5_tells_0 13 rfl rfl)
theorem dX5_tells_14 : decode cX5_tells 14 = .ok (.iload_n 2, 1) := dk_28 (dk_at dksX5_tells_0 14 rfl rfl)
theorem dX5_tells_15 : decode cX5_tells 15 = .ok (.invokevirtual 363, 3) := dk_182 1 107 (dk_at dksX5_tells_0 15 rfl rfl)
theorem dX5_tells_18 : decode cX5_tells 18 = .ok (.ifCond .eq 13, 3) := dk_153 0 13 (dk_at dksX5_tells_0 18 rfl rfl)
theorem dX5_tells_21 : decode cX5_tells 21 = .ok (.aload_n 0, 1) := dk_42 (dk_at dksX5_tells_0 21 rfl rfl)
theorem dX5_tells_22 : decode cX5_tells 22 = .ok (.iload_n 1, 1) := dk_27 (dk_at dksX5_tells_0 22 rfl rfl)
theorem dX5_tells_23 : decode cX5_tells 23 = .ok (.iload_n 2, 1) := dk_28 (dk_at dksX5_tells_0 23 rfl rfl)
theorem dX5_tells_24 : decode cX5_tells 24 = .ok (.lload_n 3, 1) := dk_33 (dk_at dksX5_tells_1 0 rfl rfl)
theorem dX5_tells_25 : decode cX5_tells 25 = .ok (.invokevirtual 395, 3) := dk_182 1 139 (dk_at dksX5_tells_1 1 rfl rfl)
theorem dX5_tells_28 : decode cX5_tells 28 = .ok (.goto 4, 3) := dk_167 0 4 (dk_at dksX5_tells_1 4 rfl rfl)
theorem dX5_tells_31 : decode cX5_tells 31 = .ok (.iconst (-1), 1) := dk_2 (dk_at dksX5_tells_1 7 rfl rfl)
theorem dX5_tells_32 : decode cX5_tells 32 = .ok (.ireturn, 1) := dk_172 (dk_at dksX5_tells_1 8 rfl rfl)
abbrev cX5_isTrial : ByteArray := prog_16_method_72_code
def yX5_isTrial : MethodName := ⟨RX5, "isTrial", "(I)Z"⟩
def dkwX5_isTrial_0 : List UInt8 := [27, 155, 0, 15, 27, 42, 180, 1, 133, 162, 0, 7, 4, 167, 0, 4, 3, 172]
abbrev dktX5_isTrial_0 : List UInt8 := dkwX5_isTrial_0 ++ []
theorem dksX5_isTrial_0 : cX5_isTrial.data.toList.drop 0 = dktX5_isTrial_0 := by decide +kernel
theorem dX5_isTrial_0 : decode cX5_isTrial 0 = .ok (.iload_n 1, 1) := dk_27 (dk_at dksX5_isTrial_0 0 rfl rfl)
theorem dX5_isTrial_1 : decode cX5_isTrial 1 = .ok (.ifCond .lt 15, 3) := dk_155 0 15 (dk_at dksX5_isTrial_0 1 rfl rfl)
theorem dX5_isTrial_4 : decode cX5_isTrial 4 = .ok (.iload_n 1, 1) := dk_27 (dk_at dksX5_isTrial_0 4 rfl rfl)
theorem dX5_isTrial_5 : decode cX5_isTrial 5 = .ok (.aload_n 0, 1) := dk_42 (dk_at dksX5_isTrial_0 5 rfl rfl)
theorem dX5_isTrial_6 : decode cX5_isTrial 6 = .ok (.getfield 389, 3) := dk_180 1 133 (dk_at dksX5_isTrial_0 6 rfl rfl)
theorem dX5_isTrial_9 : decode cX5_isTrial 9 = .ok (.if_icmp .ge 7, 3) := dk_162 0 7 (dk_at dksX5_isTrial_0 9 rfl rfl)
theorem dX5_isTrial_12 : decode cX5_isTrial 12 = .ok (.iconst 1, 1) := dk_4 (dk_at dksX5_isTrial_0 12 rfl rfl)
theorem dX5_isTrial_13 : decode cX5_isTrial 13 = .ok (.goto 4, 3) := dk_167 0 4 (dk_at dksX5_isTrial_0 13 rfl rfl)
theorem dX5_isTrial_16 : decode cX5_isTrial 16 = .ok (.iconst 0, 1) := dk_3 (dk_at dksX5_isTrial_0 16 rfl rfl)
theorem dX5_isTrial_17 : decode cX5_isTrial 17 = .ok (.ireturn, 1) := dk_172 (dk_at dksX5_isTrial_0 17 rfl rfl)
abbrev cX5_toldBy : ByteArray := prog_16_method_71_code
def yX5_toldBy : MethodName := ⟨RX5, "toldBy", "(IIJ)I"⟩
def dkwX5_toldBy_1 : List UInt8 := [3, 181, 1, 19, 42, 28, 42, 180, 0, 105, 27, 46, 182, 1, 104, 42, 182, 1, 63, 172]
abbrev dktX5_toldBy_1 : List UInt8 := dkwX5_toldBy_1 ++ []
def dkwX5_toldBy_0 : List UInt8 := [42, 42, 180, 0, 232, 42, 180, 0, 102, 27, 46, 184, 1, 76, 33, 182, 0, 252, 42, 4, 181, 1, 41, 42]
abbrev dktX5_toldBy_0 : List UInt8 := dkwX5_toldBy_0 ++ dktX5_toldBy_1
theorem dksX5_toldBy_0 : cX5_toldBy.data.toList.drop 0 = dktX5_toldBy_0 := by decide +kernel
theorem dksX5_toldBy_1 : cX5_toldBy.data.toList.drop 24 = dktX5_toldBy_1 := dk_seg dksX5_toldBy_0 24 rfl rfl
theorem dX5_toldBy_0 : decode cX5_toldBy 0 = .ok (.aload_n 0, 1) := dk_42 (dk_at dksX5_toldBy_0 0 rfl rfl)
theorem dX5_toldBy_1 : decode cX5_toldBy 1 = .ok (.aload_n 0, 1) := dk_42 (dk_at dksX5_toldBy_0 1 rfl rfl)
theorem dX5_toldBy_2 : decode cX5_toldBy 2 = .ok (.getfield 232, 3) := dk_180 0 232 (dk_at dksX5_toldBy_0 2 rfl rfl)
theorem dX5_toldBy_5 : decode cX5_toldBy 5 = .ok (.aload_n 0, 1) := dk_42 (dk_at dksX5_toldBy_0 5 rfl rfl)
theorem dX5_toldBy_6 : decode cX5_toldBy 6 = .ok (.getfield 102, 3) := dk_180 0 102 (dk_at dksX5_toldBy_0 6 rfl rfl)
theorem dX5_toldBy_9 : decode cX5_toldBy 9 = .ok (.iload_n 1, 1) := dk_27 (dk_at dksX5_toldBy_0 9 rfl rfl)
theorem dX5_toldBy_10 : decode cX5_toldBy 10 = .ok (.iaload, 1) := dk_46 (dk_at dksX5_toldBy_0 10 rfl rfl)
theorem dX5_toldBy_11 : decode cX5_toldBy 11 = .ok (.invokestatic 332, 3) := dk_184 1 76 (dk_at dksX5_toldBy_0 11 rfl rfl)
theorem dX5_toldBy_14 : decode cX5_toldBy 14 = .ok (.lload_n 3, 1) := dk_33 (dk_at dksX5_toldBy_0 14 rfl rfl)
theorem dX5_toldBy_15 : decode cX5_toldBy 15 = .ok (.invokevirtual 252, 3) := dk_182 0 252 (dk_at dksX5_toldBy_0 15 rfl rfl)
theorem dX5_toldBy_18 : decode cX5_toldBy 18 = .ok (.aload_n 0, 1) := dk_42 (dk_at dksX5_toldBy_0 18 rfl rfl)
theorem dX5_toldBy_19 : decode cX5_toldBy 19 = .ok (.iconst 1, 1) := dk_4 (dk_at dksX5_toldBy_0 19 rfl rfl)
theorem dX5_toldBy_20 : decode cX5_toldBy 20 = .ok (.putfield 297, 3) := dk_181 1 41 (dk_at dksX5_toldBy_0 20 rfl rfl)
theorem dX5_toldBy_23 : decode cX5_toldBy 23 = .ok (.aload_n 0, 1) := dk_42 (dk_at dksX5_toldBy_0 23 rfl rfl)
theorem dX5_toldBy_24 : decode cX5_toldBy 24 = .ok (.iconst 0, 1) := dk_3 (dk_at dksX5_toldBy_1 0 rfl rfl)
theorem dX5_toldBy_25 : decode cX5_toldBy 25 = .ok (.putfield 275, 3) := dk_181 1 19 (dk_at dksX5_toldBy_1 1 rfl rfl)
theorem dX5_toldBy_28 : decode cX5_toldBy 28 = .ok (.aload_n 0, 1) := dk_42 (dk_at dksX5_toldBy_1 4 rfl rfl)
theorem dX5_toldBy_29 : decode cX5_toldBy 29 = .ok (.iload_n 2, 1) := dk_28 (dk_at dksX5_toldBy_1 5 rfl rfl)
theorem dX5_toldBy_30 : decode cX5_toldBy 30 = .ok (.aload_n 0, 1) := dk_42 (dk_at dksX5_toldBy_1 6 rfl rfl)
theorem dX5_toldBy_31 : decode cX5_toldBy 31 = .ok (.getfield 105, 3) := dk_180 0 105 (dk_at dksX5_toldBy_1 7 rfl rfl)
theorem dX5_toldBy_34 : decode cX5_toldBy 34 = .ok (.iload_n 1, 1) := dk_27 (dk_at dksX5_toldBy_1 10 rfl rfl)
theorem dX5_toldBy_35 : decode cX5_toldBy 35 = .ok (.iaload, 1) := dk_46 (dk_at dksX5_toldBy_1 11 rfl rfl)
theorem dX5_toldBy_36 : decode cX5_toldBy 36 = .ok (.invokevirtual 360, 3) := dk_182 1 104 (dk_at dksX5_toldBy_1 12 rfl rfl)
theorem dX5_toldBy_39 : decode cX5_toldBy 39 = .ok (.aload_n 0, 1) := dk_42 (dk_at dksX5_toldBy_1 15 rfl rfl)
theorem dX5_toldBy_40 : decode cX5_toldBy 40 = .ok (.invokevirtual 319, 3) := dk_182 1 63 (dk_at dksX5_toldBy_1 16 rfl rfl)
theorem dX5_toldBy_43 : decode cX5_toldBy 43 = .ok (.ireturn, 1) := dk_172 (dk_at dksX5_toldBy_1 19 rfl rfl)
abbrev cX5_parted : ByteArray := prog_16_method_76_code
def yX5_parted : MethodName := ⟨RX5, "parted", "(IIJ)I"⟩
def dkwX5_parted_1 : List UInt8 := [33, 182, 1, 146, 167, 0, 4, 2, 172]
abbrev dktX5_parted_1 : List UInt8 := dkwX5_parted_1 ++ []
def dkwX5_parted_0 : List UInt8 := [42, 3, 181, 0, 111, 42, 27, 182, 1, 136, 153, 0, 21, 42, 28, 182, 1, 143, 153, 0, 13, 42, 27, 28]
abbrev dktX5_parted_0 : List UInt8 := dkwX5_parted_0 ++ dktX5_parted_1
theorem dksX5_parted_0 : cX5_parted.data.toList.drop 0 = dktX5_parted_0 := by decide +kernel
theorem dksX5_parted_1 : cX5_parted.data.toList.drop 24 = dktX5_parted_1 := dk_seg dksX5_parted_0 24 rfl rfl
theorem dX5_parted_0 : decode cX5_parted 0 = .ok (.aload_n 0, 1) := dk_42 (dk_at dksX5_parted_0 0 rfl rfl)
theorem dX5_parted_1 : decode cX5_parted 1 = .ok (.iconst 0, 1) := dk_3 (dk_at dksX5_parted_0 1 rfl rfl)
theorem dX5_parted_2 : decode cX5_parted 2 = .ok (.putfield 111, 3) := dk_181 0 111 (dk_at dksX5_parted_0 2 rfl rfl)
theorem dX5_parted_5 : decode cX5_parted 5 = .ok (.aload_n 0, 1) := dk_42 (dk_at dksX5_parted_0 5 rfl rfl)
theorem dX5_parted_6 : decode cX5_parted 6 = .ok (.iload_n 1, 1) := dk_27 (dk_at dksX5_parted_0 6 rfl rfl)
theorem dX5_parted_7 : decode cX5_parted 7 = .ok (.invokevirtual 392, 3) := dk_182 1 136 (dk_at dksX5_parted_0 7 rfl rfl)
theorem dX5_parted_10 : decode cX5_parted 10 = .ok (.ifCond .eq 21, 3) := dk_153 0 21 (dk_at dksX5_parted_0 10 rfl rfl)
theorem dX5_parted_13 : decode cX5_parted 13 = .ok (.aload_n 0, 1) := dk_42 (dk_at dksX5_parted_0 13 rfl rfl)
theorem dX5_parted_14 : decode cX5_parted 14 = .ok (.iload_n 2, 1) := dk_28 (dk_at dksX5_parted_0 14 rfl rfl)
theorem dX5_parted_15 : decode cX5_parted 15 = .ok (.invokevirtual 399, 3) := dk_182 1 143 (dk_at dksX5_parted_0 15 rfl rfl)
theorem dX5_parted_18 : decode cX5_parted 18 = .ok (.ifCond .eq 13, 3) := dk_153 0 13 (dk_at dksX5_parted_0 18 rfl rfl)
theorem dX5_parted_21 : decode cX5_parted 21 = .ok (.aload_n 0, 1) := dk_42 (dk_at dksX5_parted_0 21 rfl rfl)
theorem dX5_parted_22 : decode cX5_parted 22 = .ok (.iload_n 1, 1) := dk_27 (dk_at dksX5_parted_0 22 rfl rfl)
theorem dX5_parted_23 : decode cX5_parted 23 = .ok (.iload_n 2, 1) := dk_28 (dk_at dksX5_parted_0 23 rfl rfl)
theorem dX5_parted_24 : decode cX5_parted 24 = .ok (.lload_n 3, 1) := dk_33 (dk_at dksX5_parted_1 0 rfl rfl)
theorem dX5_parted_25 : decode cX5_parted 25 = .ok (.invokevirtual 402, 3) := dk_182 1 146 (dk_at dksX5_parted_1 1 rfl rfl)
theorem dX5_parted_28 : decode cX5_parted 28 = .ok (.goto 4, 3) := dk_167 0 4 (dk_at dksX5_parted_1 4 rfl rfl)
theorem dX5_parted_31 : decode cX5_parted 31 = .ok (.iconst (-1), 1) := dk_2 (dk_at dksX5_parted_1 7 rfl rfl)
theorem dX5_parted_32 : decode cX5_parted 32 = .ok (.ireturn, 1) := dk_172 (dk_at dksX5_parted_1 8 rfl rfl)
abbrev cX5_areLaws : ByteArray := prog_16_method_75_code
def yX5_areLaws : MethodName := ⟨RX5, "areLaws", "(I)Z"⟩
def dkwX5_areLaws_0 : List UInt8 := [27, 155, 0, 17, 27, 4, 42, 180, 0, 229, 120, 162, 0, 7, 4, 167, 0, 4, 3, 172]
abbrev dktX5_areLaws_0 : List UInt8 := dkwX5_areLaws_0 ++ []
theorem dksX5_areLaws_0 : cX5_areLaws.data.toList.drop 0 = dktX5_areLaws_0 := by decide +kernel
theorem dX5_areLaws_0 : decode cX5_areLaws 0 = .ok (.iload_n 1, 1) := dk_27 (dk_at dksX5_areLaws_0 0 rfl rfl)
theorem dX5_areLaws_1 : decode cX5_areLaws 1 = .ok (.ifCond .lt 17, 3) := dk_155 0 17 (dk_at dksX5_areLaws_0 1 rfl rfl)
theorem dX5_areLaws_4 : decode cX5_areLaws 4 = .ok (.iload_n 1, 1) := dk_27 (dk_at dksX5_areLaws_0 4 rfl rfl)
theorem dX5_areLaws_5 : decode cX5_areLaws 5 = .ok (.iconst 1, 1) := dk_4 (dk_at dksX5_areLaws_0 5 rfl rfl)
theorem dX5_areLaws_6 : decode cX5_areLaws 6 = .ok (.aload_n 0, 1) := dk_42 (dk_at dksX5_areLaws_0 6 rfl rfl)
theorem dX5_areLaws_7 : decode cX5_areLaws 7 = .ok (.getfield 229, 3) := dk_180 0 229 (dk_at dksX5_areLaws_0 7 rfl rfl)
theorem dX5_areLaws_10 : decode cX5_areLaws 10 = .ok (.ishl, 1) := dk_120 (dk_at dksX5_areLaws_0 10 rfl rfl)
theorem dX5_areLaws_11 : decode cX5_areLaws 11 = .ok (.if_icmp .ge 7, 3) := dk_162 0 7 (dk_at dksX5_areLaws_0 11 rfl rfl)
theorem dX5_areLaws_14 : decode cX5_areLaws 14 = .ok (.iconst 1, 1) := dk_4 (dk_at dksX5_areLaws_0 14 rfl rfl)
theorem dX5_areLaws_15 : decode cX5_areLaws 15 = .ok (.goto 4, 3) := dk_167 0 4 (dk_at dksX5_areLaws_0 15 rfl rfl)
theorem dX5_areLaws_18 : decode cX5_areLaws 18 = .ok (.iconst 0, 1) := dk_3 (dk_at dksX5_areLaws_0 18 rfl rfl)
theorem dX5_areLaws_19 : decode cX5_areLaws 19 = .ok (.ireturn, 1) := dk_172 (dk_at dksX5_areLaws_0 19 rfl rfl)
abbrev cX5_partedBy : ByteArray := prog_16_method_74_code
def yX5_partedBy : MethodName := ⟨RX5, "partedBy", "(IIJ)I"⟩
def dkwX5_partedBy_4 : List UInt8 := [132, 6, 1, 167, 255, 164, 21, 5, 172]
abbrev dktX5_partedBy_4 : List UInt8 := dkwX5_partedBy_4 ++ []
def dkwX5_partedBy_3 : List UInt8 := [42, 180, 0, 108, 21, 6, 46, 159, 0, 7, 4, 167, 0, 4, 3, 96, 54, 5, 132, 7, 1, 167, 255, 209]
abbrev dktX5_partedBy_3 : List UInt8 := dkwX5_partedBy_3 ++ dktX5_partedBy_4
def dkwX5_partedBy_2 : List UInt8 := [21, 6, 162, 0, 46, 21, 5, 28, 21, 7, 122, 4, 126, 4, 160, 0, 24, 42, 180, 0, 108, 21, 7, 46]
abbrev dktX5_partedBy_2 : List UInt8 := dkwX5_partedBy_2 ++ dktX5_partedBy_3
def dkwX5_partedBy_1 : List UInt8 := [167, 0, 71, 42, 180, 0, 108, 21, 6, 42, 27, 21, 6, 33, 182, 1, 139, 79, 3, 54, 7, 21, 7]
abbrev dktX5_partedBy_1 : List UInt8 := dkwX5_partedBy_1 ++ dktX5_partedBy_2
def dkwX5_partedBy_0 : List UInt8 := [3, 54, 5, 3, 54, 6, 21, 6, 42, 180, 0, 229, 162, 0, 89, 28, 21, 6, 122, 4, 126, 154, 0, 6]
abbrev dktX5_partedBy_0 : List UInt8 := dkwX5_partedBy_0 ++ dktX5_partedBy_1
theorem dksX5_partedBy_0 : cX5_partedBy.data.toList.drop 0 = dktX5_partedBy_0 := by decide +kernel
theorem dksX5_partedBy_1 : cX5_partedBy.data.toList.drop 24 = dktX5_partedBy_1 := dk_seg dksX5_partedBy_0 24 rfl rfl
theorem dksX5_partedBy_2 : cX5_partedBy.data.toList.drop 47 = dktX5_partedBy_2 := dk_seg dksX5_partedBy_1 23 rfl rfl
theorem dksX5_partedBy_3 : cX5_partedBy.data.toList.drop 71 = dktX5_partedBy_3 := dk_seg dksX5_partedBy_2 24 rfl rfl
theorem dksX5_partedBy_4 : cX5_partedBy.data.toList.drop 95 = dktX5_partedBy_4 := dk_seg dksX5_partedBy_3 24 rfl rfl
theorem dX5_partedBy_0 : decode cX5_partedBy 0 = .ok (.iconst 0, 1) := dk_3 (dk_at dksX5_partedBy_0 0 rfl rfl)
theorem dX5_partedBy_1 : decode cX5_partedBy 1 = .ok (.istore 5, 2) := dk_54 5 (dk_at dksX5_partedBy_0 1 rfl rfl)
theorem dX5_partedBy_3 : decode cX5_partedBy 3 = .ok (.iconst 0, 1) := dk_3 (dk_at dksX5_partedBy_0 3 rfl rfl)
theorem dX5_partedBy_4 : decode cX5_partedBy 4 = .ok (.istore 6, 2) := dk_54 6 (dk_at dksX5_partedBy_0 4 rfl rfl)
theorem dX5_partedBy_6 : decode cX5_partedBy 6 = .ok (.iload 6, 2) := dk_21 6 (dk_at dksX5_partedBy_0 6 rfl rfl)
theorem dX5_partedBy_8 : decode cX5_partedBy 8 = .ok (.aload_n 0, 1) := dk_42 (dk_at dksX5_partedBy_0 8 rfl rfl)
theorem dX5_partedBy_9 : decode cX5_partedBy 9 = .ok (.getfield 229, 3) := dk_180 0 229 (dk_at dksX5_partedBy_0 9 rfl rfl)
theorem dX5_partedBy_12 : decode cX5_partedBy 12 = .ok (.if_icmp .ge 89, 3) := dk_162 0 89 (dk_at dksX5_partedBy_0 12 rfl rfl)
theorem dX5_partedBy_15 : decode cX5_partedBy 15 = .ok (.iload_n 2, 1) := dk_28 (dk_at dksX5_partedBy_0 15 rfl rfl)
theorem dX5_partedBy_16 : decode cX5_partedBy 16 = .ok (.iload 6, 2) := dk_21 6 (dk_at dksX5_partedBy_0 16 rfl rfl)
theorem dX5_partedBy_18 : decode cX5_partedBy 18 = .ok (.ishr, 1) := dk_122 (dk_at dksX5_partedBy_0 18 rfl rfl)
theorem dX5_partedBy_19 : decode cX5_partedBy 19 = .ok (.iconst 1, 1) := dk_4 (dk_at dksX5_partedBy_0 19 rfl rfl)
theorem dX5_partedBy_20 : decode cX5_partedBy 20 = .ok (.iand, 1) := dk_126 (dk_at dksX5_partedBy_0 20 rfl rfl)
theorem dX5_partedBy_21 : decode cX5_partedBy 21 = .ok (.ifCond .ne 6, 3) := dk_154 0 6 (dk_at dksX5_partedBy_0 21 rfl rfl)
theorem dX5_partedBy_24 : decode cX5_partedBy 24 = .ok (.goto 71, 3) := dk_167 0 71 (dk_at dksX5_partedBy_1 0 rfl rfl)
theorem dX5_partedBy_27 : decode cX5_partedBy 27 = .ok (.aload_n 0, 1) := dk_42 (dk_at dksX5_partedBy_1 3 rfl rfl)
theorem dX5_partedBy_28 : decode cX5_partedBy 28 = .ok (.getfield 108, 3) := dk_180 0 108 (dk_at dksX5_partedBy_1 4 rfl rfl)
theorem dX5_partedBy_31 : decode cX5_partedBy 31 = .ok (.iload 6, 2) := dk_21 6 (dk_at dksX5_partedBy_1 7 rfl rfl)
theorem dX5_partedBy_33 : decode cX5_partedBy 33 = .ok (.aload_n 0, 1) := dk_42 (dk_at dksX5_partedBy_1 9 rfl rfl)
theorem dX5_partedBy_34 : decode cX5_partedBy 34 = .ok (.iload_n 1, 1) := dk_27 (dk_at dksX5_partedBy_1 10 rfl rfl)
theorem dX5_partedBy_35 : decode cX5_partedBy 35 = .ok (.iload 6, 2) := dk_21 6 (dk_at dksX5_partedBy_1 11 rfl rfl)
theorem dX5_partedBy_37 : decode cX5_partedBy 37 = .ok (.lload_n 3, 1) := dk_33 (dk_at dksX5_partedBy_1 13 rfl rfl)
theorem dX5_partedBy_38 : decode cX5_partedBy 38 = .ok (.invokevirtual 395, 3) := dk_182 1 139 (dk_at dksX5_partedBy_1 14 rfl rfl)
theorem dX5_partedBy_41 : decode cX5_partedBy 41 = .ok (.iastore, 1) := dk_79 (dk_at dksX5_partedBy_1 17 rfl rfl)
theorem dX5_partedBy_42 : decode cX5_partedBy 42 = .ok (.iconst 0, 1) := dk_3 (dk_at dksX5_partedBy_1 18 rfl rfl)
theorem dX5_partedBy_43 : decode cX5_partedBy 43 = .ok (.istore 7, 2) := dk_54 7 (dk_at dksX5_partedBy_1 19 rfl rfl)
theorem dX5_partedBy_45 : decode cX5_partedBy 45 = .ok (.iload 7, 2) := dk_21 7 (dk_at dksX5_partedBy_1 21 rfl rfl)
theorem dX5_partedBy_47 : decode cX5_partedBy 47 = .ok (.iload 6, 2) := dk_21 6 (dk_at dksX5_partedBy_2 0 rfl rfl)
theorem dX5_partedBy_49 : decode cX5_partedBy 49 = .ok (.if_icmp .ge 46, 3) := dk_162 0 46 (dk_at dksX5_partedBy_2 2 rfl rfl)
theorem dX5_partedBy_52 : decode cX5_partedBy 52 = .ok (.iload 5, 2) := dk_21 5 (dk_at dksX5_partedBy_2 5 rfl rfl)
theorem dX5_partedBy_54 : decode cX5_partedBy 54 = .ok (.iload_n 2, 1) := dk_28 (dk_at dksX5_partedBy_2 7 rfl rfl)
theorem dX5_partedBy_55 : decode cX5_partedBy 55 = .ok (.iload 7, 2) := dk_21 7 (dk_at dksX5_partedBy_2 8 rfl rfl)
theorem dX5_partedBy_57 : decode cX5_partedBy 57 = .ok (.ishr, 1) := dk_122 (dk_at dksX5_partedBy_2 10 rfl rfl)
theorem dX5_partedBy_58 : decode cX5_partedBy 58 = .ok (.iconst 1, 1) := dk_4 (dk_at dksX5_partedBy_2 11 rfl rfl)
theorem dX5_partedBy_59 : decode cX5_partedBy 59 = .ok (.iand, 1) := dk_126 (dk_at dksX5_partedBy_2 12 rfl rfl)
theorem dX5_partedBy_60 : decode cX5_partedBy 60 = .ok (.iconst 1, 1) := dk_4 (dk_at dksX5_partedBy_2 13 rfl rfl)
theorem dX5_partedBy_61 : decode cX5_partedBy 61 = .ok (.if_icmp .ne 24, 3) := dk_160 0 24 (dk_at dksX5_partedBy_2 14 rfl rfl)
theorem dX5_partedBy_64 : decode cX5_partedBy 64 = .ok (.aload_n 0, 1) := dk_42 (dk_at dksX5_partedBy_2 17 rfl rfl)
theorem dX5_partedBy_65 : decode cX5_partedBy 65 = .ok (.getfield 108, 3) := dk_180 0 108 (dk_at dksX5_partedBy_2 18 rfl rfl)
theorem dX5_partedBy_68 : decode cX5_partedBy 68 = .ok (.iload 7, 2) := dk_21 7 (dk_at dksX5_partedBy_2 21 rfl rfl)
theorem dX5_partedBy_70 : decode cX5_partedBy 70 = .ok (.iaload, 1) := dk_46 (dk_at dksX5_partedBy_2 23 rfl rfl)
theorem dX5_partedBy_71 : decode cX5_partedBy 71 = .ok (.aload_n 0, 1) := dk_42 (dk_at dksX5_partedBy_3 0 rfl rfl)
theorem dX5_partedBy_72 : decode cX5_partedBy 72 = .ok (.getfield 108, 3) := dk_180 0 108 (dk_at dksX5_partedBy_3 1 rfl rfl)
theorem dX5_partedBy_75 : decode cX5_partedBy 75 = .ok (.iload 6, 2) := dk_21 6 (dk_at dksX5_partedBy_3 4 rfl rfl)
theorem dX5_partedBy_77 : decode cX5_partedBy 77 = .ok (.iaload, 1) := dk_46 (dk_at dksX5_partedBy_3 6 rfl rfl)
theorem dX5_partedBy_78 : decode cX5_partedBy 78 = .ok (.if_icmp .eq 7, 3) := dk_159 0 7 (dk_at dksX5_partedBy_3 7 rfl rfl)
theorem dX5_partedBy_81 : decode cX5_partedBy 81 = .ok (.iconst 1, 1) := dk_4 (dk_at dksX5_partedBy_3 10 rfl rfl)
theorem dX5_partedBy_82 : decode cX5_partedBy 82 = .ok (.goto 4, 3) := dk_167 0 4 (dk_at dksX5_partedBy_3 11 rfl rfl)
theorem dX5_partedBy_85 : decode cX5_partedBy 85 = .ok (.iconst 0, 1) := dk_3 (dk_at dksX5_partedBy_3 14 rfl rfl)
theorem dX5_partedBy_86 : decode cX5_partedBy 86 = .ok (.iadd, 1) := dk_96 (dk_at dksX5_partedBy_3 15 rfl rfl)
theorem dX5_partedBy_87 : decode cX5_partedBy 87 = .ok (.istore 5, 2) := dk_54 5 (dk_at dksX5_partedBy_3 16 rfl rfl)
theorem dX5_partedBy_89 : decode cX5_partedBy 89 = .ok (.iinc 7 1, 3) := dk_132 7 1 (dk_at dksX5_partedBy_3 18 rfl rfl)
theorem dX5_partedBy_92 : decode cX5_partedBy 92 = .ok (.goto (-47), 3) := dk_167 255 209 (dk_at dksX5_partedBy_3 21 rfl rfl)
theorem dX5_partedBy_95 : decode cX5_partedBy 95 = .ok (.iinc 6 1, 3) := dk_132 6 1 (dk_at dksX5_partedBy_4 0 rfl rfl)
theorem dX5_partedBy_98 : decode cX5_partedBy 98 = .ok (.goto (-92), 3) := dk_167 255 164 (dk_at dksX5_partedBy_4 3 rfl rfl)
theorem dX5_partedBy_101 : decode cX5_partedBy 101 = .ok (.iload 5, 2) := dk_21 5 (dk_at dksX5_partedBy_4 6 rfl rfl)
theorem dX5_partedBy_103 : decode cX5_partedBy 103 = .ok (.ireturn, 1) := dk_172 (dk_at dksX5_partedBy_4 8 rfl rfl)
abbrev cX5_next : ByteArray := prog_16_method_77_code
def yX5_next : MethodName := ⟨RX5, "next", "(IJ)I"⟩
def dkwX5_next_3 : List UInt8 := [167, 255, 210, 21, 4, 172]
abbrev dktX5_next_3 : List UInt8 := dkwX5_next_3 ++ []
def dkwX5_next_2 : List UInt8 := [159, 0, 13, 21, 7, 21, 5, 163, 0, 6, 167, 0, 11, 21, 6, 54, 4, 21, 7, 54, 5, 132, 6, 1]
abbrev dktX5_next_2 : List UInt8 := dkwX5_next_2 ++ dktX5_next_3
def dkwX5_next_1 : List UInt8 := [21, 6, 42, 180, 1, 133, 162, 0, 43, 42, 21, 6, 27, 32, 182, 1, 146, 54, 7, 21, 4, 2]
abbrev dktX5_next_1 : List UInt8 := dkwX5_next_1 ++ dktX5_next_2
def dkwX5_next_0 : List UInt8 := [42, 3, 181, 0, 111, 42, 27, 182, 1, 143, 154, 0, 5, 2, 172, 2, 54, 4, 3, 54, 5, 3, 54, 6]
abbrev dktX5_next_0 : List UInt8 := dkwX5_next_0 ++ dktX5_next_1
theorem dksX5_next_0 : cX5_next.data.toList.drop 0 = dktX5_next_0 := by decide +kernel
theorem dksX5_next_1 : cX5_next.data.toList.drop 24 = dktX5_next_1 := dk_seg dksX5_next_0 24 rfl rfl
theorem dksX5_next_2 : cX5_next.data.toList.drop 46 = dktX5_next_2 := dk_seg dksX5_next_1 22 rfl rfl
theorem dksX5_next_3 : cX5_next.data.toList.drop 70 = dktX5_next_3 := dk_seg dksX5_next_2 24 rfl rfl
theorem dX5_next_0 : decode cX5_next 0 = .ok (.aload_n 0, 1) := dk_42 (dk_at dksX5_next_0 0 rfl rfl)
theorem dX5_next_1 : decode cX5_next 1 = .ok (.iconst 0, 1) := dk_3 (dk_at dksX5_next_0 1 rfl rfl)
theorem dX5_next_2 : decode cX5_next 2 = .ok (.putfield 111, 3) := dk_181 0 111 (dk_at dksX5_next_0 2 rfl rfl)
theorem dX5_next_5 : decode cX5_next 5 = .ok (.aload_n 0, 1) := dk_42 (dk_at dksX5_next_0 5 rfl rfl)
theorem dX5_next_6 : decode cX5_next 6 = .ok (.iload_n 1, 1) := dk_27 (dk_at dksX5_next_0 6 rfl rfl)
theorem dX5_next_7 : decode cX5_next 7 = .ok (.invokevirtual 399, 3) := dk_182 1 143 (dk_at dksX5_next_0 7 rfl rfl)
theorem dX5_next_10 : decode cX5_next 10 = .ok (.ifCond .ne 5, 3) := dk_154 0 5 (dk_at dksX5_next_0 10 rfl rfl)
theorem dX5_next_13 : decode cX5_next 13 = .ok (.iconst (-1), 1) := dk_2 (dk_at dksX5_next_0 13 rfl rfl)
theorem dX5_next_14 : decode cX5_next 14 = .ok (.ireturn, 1) := dk_172 (dk_at dksX5_next_0 14 rfl rfl)
theorem dX5_next_15 : decode cX5_next 15 = .ok (.iconst (-1), 1) := dk_2 (dk_at dksX5_next_0 15 rfl rfl)
theorem dX5_next_16 : decode cX5_next 16 = .ok (.istore 4, 2) := dk_54 4 (dk_at dksX5_next_0 16 rfl rfl)
theorem dX5_next_18 : decode cX5_next 18 = .ok (.iconst 0, 1) := dk_3 (dk_at dksX5_next_0 18 rfl rfl)
theorem dX5_next_19 : decode cX5_next 19 = .ok (.istore 5, 2) := dk_54 5 (dk_at dksX5_next_0 19 rfl rfl)
theorem dX5_next_21 : decode cX5_next 21 = .ok (.iconst 0, 1) := dk_3 (dk_at dksX5_next_0 21 rfl rfl)
theorem dX5_next_22 : decode cX5_next 22 = .ok (.istore 6, 2) := dk_54 6 (dk_at dksX5_next_0 22 rfl rfl)
theorem dX5_next_24 : decode cX5_next 24 = .ok (.iload 6, 2) := dk_21 6 (dk_at dksX5_next_1 0 rfl rfl)
theorem dX5_next_26 : decode cX5_next 26 = .ok (.aload_n 0, 1) := dk_42 (dk_at dksX5_next_1 2 rfl rfl)
theorem dX5_next_27 : decode cX5_next 27 = .ok (.getfield 389, 3) := dk_180 1 133 (dk_at dksX5_next_1 3 rfl rfl)
theorem dX5_next_30 : decode cX5_next 30 = .ok (.if_icmp .ge 43, 3) := dk_162 0 43 (dk_at dksX5_next_1 6 rfl rfl)
theorem dX5_next_33 : decode cX5_next 33 = .ok (.aload_n 0, 1) := dk_42 (dk_at dksX5_next_1 9 rfl rfl)
theorem dX5_next_34 : decode cX5_next 34 = .ok (.iload 6, 2) := dk_21 6 (dk_at dksX5_next_1 10 rfl rfl)
theorem dX5_next_36 : decode cX5_next 36 = .ok (.iload_n 1, 1) := dk_27 (dk_at dksX5_next_1 12 rfl rfl)
theorem dX5_next_37 : decode cX5_next 37 = .ok (.lload_n 2, 1) := dk_32 (dk_at dksX5_next_1 13 rfl rfl)
theorem dX5_next_38 : decode cX5_next 38 = .ok (.invokevirtual 402, 3) := dk_182 1 146 (dk_at dksX5_next_1 14 rfl rfl)
theorem dX5_next_41 : decode cX5_next 41 = .ok (.istore 7, 2) := dk_54 7 (dk_at dksX5_next_1 17 rfl rfl)
theorem dX5_next_43 : decode cX5_next 43 = .ok (.iload 4, 2) := dk_21 4 (dk_at dksX5_next_1 19 rfl rfl)
theorem dX5_next_45 : decode cX5_next 45 = .ok (.iconst (-1), 1) := dk_2 (dk_at dksX5_next_1 21 rfl rfl)
theorem dX5_next_46 : decode cX5_next 46 = .ok (.if_icmp .eq 13, 3) := dk_159 0 13 (dk_at dksX5_next_2 0 rfl rfl)
theorem dX5_next_49 : decode cX5_next 49 = .ok (.iload 7, 2) := dk_21 7 (dk_at dksX5_next_2 3 rfl rfl)
theorem dX5_next_51 : decode cX5_next 51 = .ok (.iload 5, 2) := dk_21 5 (dk_at dksX5_next_2 5 rfl rfl)
theorem dX5_next_53 : decode cX5_next 53 = .ok (.if_icmp .gt 6, 3) := dk_163 0 6 (dk_at dksX5_next_2 7 rfl rfl)
theorem dX5_next_56 : decode cX5_next 56 = .ok (.goto 11, 3) := dk_167 0 11 (dk_at dksX5_next_2 10 rfl rfl)
theorem dX5_next_59 : decode cX5_next 59 = .ok (.iload 6, 2) := dk_21 6 (dk_at dksX5_next_2 13 rfl rfl)
theorem dX5_next_61 : decode cX5_next 61 = .ok (.istore 4, 2) := dk_54 4 (dk_at dksX5_next_2 15 rfl rfl)
theorem dX5_next_63 : decode cX5_next 63 = .ok (.iload 7, 2) := dk_21 7 (dk_at dksX5_next_2 17 rfl rfl)
theorem dX5_next_65 : decode cX5_next 65 = .ok (.istore 5, 2) := dk_54 5 (dk_at dksX5_next_2 19 rfl rfl)
theorem dX5_next_67 : decode cX5_next 67 = .ok (.iinc 6 1, 3) := dk_132 6 1 (dk_at dksX5_next_2 21 rfl rfl)
theorem dX5_next_70 : decode cX5_next 70 = .ok (.goto (-46), 3) := dk_167 255 210 (dk_at dksX5_next_3 0 rfl rfl)
theorem dX5_next_73 : decode cX5_next 73 = .ok (.iload 4, 2) := dk_21 4 (dk_at dksX5_next_3 3 rfl rfl)
theorem dX5_next_75 : decode cX5_next 75 = .ok (.ireturn, 1) := dk_172 (dk_at dksX5_next_3 5 rfl rfl)
abbrev cX5_count : ByteArray := prog_16_method_78_code
def yX5_count : MethodName := ⟨RX5, "count", "(I)I"⟩
def dkwX5_count_3 : List UInt8 := [172, 42, 180, 0, 56, 172, 42, 180, 0, 60, 172, 17, 252, 24, 172]
abbrev dktX5_count_3 : List UInt8 := dkwX5_count_3 ++ []
def dkwX5_count_2 : List UInt8 := [42, 180, 0, 229, 172, 42, 180, 0, 232, 172, 42, 180, 1, 123, 172, 42, 180, 1, 133, 172, 42, 180, 0, 124]
abbrev dktX5_count_2 : List UInt8 := dkwX5_count_2 ++ dktX5_count_3
def dkwX5_count_1 : List UInt8 := [170, 0, 0, 0, 0, 77, 0, 0, 0, 0, 0, 0, 0, 6, 0, 0, 0, 42, 0, 0, 0, 47, 0, 0, 0, 52, 0, 0, 0, 57, 0, 0, 0, 62, 0, 0, 0, 67, 0, 0, 0, 72]
abbrev dktX5_count_1 : List UInt8 := dkwX5_count_1 ++ dktX5_count_2
def dkwX5_count_0 : List UInt8 := [42, 3, 181, 0, 111, 27]
abbrev dktX5_count_0 : List UInt8 := dkwX5_count_0 ++ dktX5_count_1
theorem dksX5_count_0 : cX5_count.data.toList.drop 0 = dktX5_count_0 := by decide +kernel
theorem dksX5_count_1 : cX5_count.data.toList.drop 6 = dktX5_count_1 := dk_seg dksX5_count_0 6 rfl rfl
theorem dksX5_count_2 : cX5_count.data.toList.drop 48 = dktX5_count_2 := dk_seg dksX5_count_1 42 rfl rfl
theorem dksX5_count_3 : cX5_count.data.toList.drop 72 = dktX5_count_3 := dk_seg dksX5_count_2 24 rfl rfl
theorem dX5_count_0 : decode cX5_count 0 = .ok (.aload_n 0, 1) := dk_42 (dk_at dksX5_count_0 0 rfl rfl)
theorem dX5_count_1 : decode cX5_count 1 = .ok (.iconst 0, 1) := dk_3 (dk_at dksX5_count_0 1 rfl rfl)
theorem dX5_count_2 : decode cX5_count 2 = .ok (.putfield 111, 3) := dk_181 0 111 (dk_at dksX5_count_0 2 rfl rfl)
theorem dX5_count_5 : decode cX5_count 5 = .ok (.iload_n 1, 1) := dk_27 (dk_at dksX5_count_0 5 rfl rfl)
theorem dX5_count_6 : decode cX5_count 6 = .ok (.tableswitch 77 0 6 #[42, 47, 52, 57, 62, 67, 72], 42) := by decide +kernel
theorem dX5_count_48 : decode cX5_count 48 = .ok (.aload_n 0, 1) := dk_42 (dk_at dksX5_count_2 0 rfl rfl)
theorem dX5_count_49 : decode cX5_count 49 = .ok (.getfield 229, 3) := dk_180 0 229 (dk_at dksX5_count_2 1 rfl rfl)
theorem dX5_count_52 : decode cX5_count 52 = .ok (.ireturn, 1) := dk_172 (dk_at dksX5_count_2 4 rfl rfl)
theorem dX5_count_53 : decode cX5_count 53 = .ok (.aload_n 0, 1) := dk_42 (dk_at dksX5_count_2 5 rfl rfl)
theorem dX5_count_54 : decode cX5_count 54 = .ok (.getfield 232, 3) := dk_180 0 232 (dk_at dksX5_count_2 6 rfl rfl)
theorem dX5_count_57 : decode cX5_count 57 = .ok (.ireturn, 1) := dk_172 (dk_at dksX5_count_2 9 rfl rfl)
theorem dX5_count_58 : decode cX5_count 58 = .ok (.aload_n 0, 1) := dk_42 (dk_at dksX5_count_2 10 rfl rfl)
theorem dX5_count_59 : decode cX5_count 59 = .ok (.getfield 379, 3) := dk_180 1 123 (dk_at dksX5_count_2 11 rfl rfl)
theorem dX5_count_62 : decode cX5_count 62 = .ok (.ireturn, 1) := dk_172 (dk_at dksX5_count_2 14 rfl rfl)
theorem dX5_count_63 : decode cX5_count 63 = .ok (.aload_n 0, 1) := dk_42 (dk_at dksX5_count_2 15 rfl rfl)
theorem dX5_count_64 : decode cX5_count 64 = .ok (.getfield 389, 3) := dk_180 1 133 (dk_at dksX5_count_2 16 rfl rfl)
theorem dX5_count_67 : decode cX5_count 67 = .ok (.ireturn, 1) := dk_172 (dk_at dksX5_count_2 19 rfl rfl)
theorem dX5_count_68 : decode cX5_count 68 = .ok (.aload_n 0, 1) := dk_42 (dk_at dksX5_count_2 20 rfl rfl)
theorem dX5_count_69 : decode cX5_count 69 = .ok (.getfield 124, 3) := dk_180 0 124 (dk_at dksX5_count_2 21 rfl rfl)
theorem dX5_count_72 : decode cX5_count 72 = .ok (.ireturn, 1) := dk_172 (dk_at dksX5_count_3 0 rfl rfl)
theorem dX5_count_73 : decode cX5_count 73 = .ok (.aload_n 0, 1) := dk_42 (dk_at dksX5_count_3 1 rfl rfl)
theorem dX5_count_74 : decode cX5_count 74 = .ok (.getfield 56, 3) := dk_180 0 56 (dk_at dksX5_count_3 2 rfl rfl)
theorem dX5_count_77 : decode cX5_count 77 = .ok (.ireturn, 1) := dk_172 (dk_at dksX5_count_3 5 rfl rfl)
theorem dX5_count_78 : decode cX5_count 78 = .ok (.aload_n 0, 1) := dk_42 (dk_at dksX5_count_3 6 rfl rfl)
theorem dX5_count_79 : decode cX5_count 79 = .ok (.getfield 60, 3) := dk_180 0 60 (dk_at dksX5_count_3 7 rfl rfl)
theorem dX5_count_82 : decode cX5_count 82 = .ok (.ireturn, 1) := dk_172 (dk_at dksX5_count_3 10 rfl rfl)
theorem dX5_count_83 : decode cX5_count 83 = .ok (.sipush (-1000), 3) := dk_17 252 24 (dk_at dksX5_count_3 11 rfl rfl)
theorem dX5_count_86 : decode cX5_count 86 = .ok (.ireturn, 1) := dk_172 (dk_at dksX5_count_3 14 rfl rfl)
theorem q84 : (Jvm.Cond.initialized "OneBearsModel") ∈ lw_all := lw_g (lw_at lw_m1 7 rfl) rfl
theorem q989 : (Jvm.Cond.instantiable "OneBearsModel" (57 : Nat)) ∈ lw_all := lw_g (lw_at lw_m4 192 rfl) rfl
theorem q991 : (Jvm.Cond.instanceMethod ({ cls := "OneBearsModel", name := "<init>", desc := "()V" } : Jvm.MethodName)) ∈ lw_all := lw_g (lw_at lw_m4 194 rfl) rfl
theorem q992 : (Jvm.Cond.code ({ cls := "OneBearsModel", name := "<init>", desc := "()V" } : Jvm.MethodName) prog_16_method_1_code (1 : Nat) (Option.none : Option Jvm.ClassFile.FieldType)) ∈ lw_all := lw_g (lw_at lw_m4 195 rfl) rfl
theorem q993 : (Jvm.Cond.methodLink "OneBearsModel" (1 : Nat) ({ cls := "java/lang/Object", name := "<init>", desc := "()V" } : Jvm.MethodName)) ∈ lw_all := lw_g (lw_at lw_m4 196 rfl) rfl
theorem q994 : (Jvm.Cond.stringRef "OneBearsModel" (26 : Nat) "desc") ∈ lw_tbl := lw_at lw_m4 197 rfl
theorem q995 : (Jvm.Cond.stringRef "OneBearsModel" (32 : Nat) "awnrqpkf") ∈ lw_tbl := lw_at lw_m4 198 rfl
theorem q996 : (Jvm.Cond.fieldLink "OneBearsModel" (111 : Nat) "OneBearsModel" "thrown" "I") ∈ lw_all := lw_g (lw_at lw_m4 199 rfl) rfl
theorem q997 : (Jvm.Cond.fieldLink "OneBearsModel" (9 : Nat) "OneBearsModel" "tape" "[B") ∈ lw_all := lw_g (lw_at lw_m4 200 rfl) rfl
theorem q998 : (Jvm.Cond.fieldLink "OneBearsModel" (13 : Nat) "OneBearsModel" "texts" "[B") ∈ lw_all := lw_g (lw_at lw_m4 201 rfl) rfl
theorem q999 : (Jvm.Cond.fieldLink "OneBearsModel" (16 : Nat) "OneBearsModel" "textLong" "[I") ∈ lw_all := lw_g (lw_at lw_m4 202 rfl) rfl
theorem q1000 : (Jvm.Cond.fieldLink "OneBearsModel" (20 : Nat) "OneBearsModel" "letters" "[I") ∈ lw_all := lw_g (lw_at lw_m4 203 rfl) rfl
theorem q1001 : (Jvm.Cond.fieldLink "OneBearsModel" (23 : Nat) "OneBearsModel" "text" "[B") ∈ lw_all := lw_g (lw_at lw_m4 204 rfl) rfl
theorem q1002 : (Jvm.Cond.fieldLink "OneBearsModel" (124 : Nat) "OneBearsModel" "length" "I") ∈ lw_all := lw_g (lw_at lw_m4 205 rfl) rfl
theorem q1003 : (Jvm.Cond.fieldLink "OneBearsModel" (229 : Nat) "OneBearsModel" "laws" "I") ∈ lw_all := lw_g (lw_at lw_m4 206 rfl) rfl
theorem q1004 : (Jvm.Cond.fieldLink "OneBearsModel" (140 : Nat) "OneBearsModel" "begins" "I") ∈ lw_all := lw_g (lw_at lw_m4 207 rfl) rfl
theorem q1005 : (Jvm.Cond.fieldLink "OneBearsModel" (137 : Nat) "OneBearsModel" "ends" "I") ∈ lw_all := lw_g (lw_at lw_m4 208 rfl) rfl
theorem q1006 : (Jvm.Cond.fieldLink "OneBearsModel" (134 : Nat) "OneBearsModel" "at" "I") ∈ lw_all := lw_g (lw_at lw_m4 209 rfl) rfl
theorem q1007 : (Jvm.Cond.fieldLink "OneBearsModel" (143 : Nat) "OneBearsModel" "fault" "I") ∈ lw_all := lw_g (lw_at lw_m4 210 rfl) rfl
theorem q1008 : (Jvm.Cond.fieldLink "OneBearsModel" (146 : Nat) "OneBearsModel" "deep" "I") ∈ lw_all := lw_g (lw_at lw_m4 211 rfl) rfl
theorem q1009 : (Jvm.Cond.fieldLink "OneBearsModel" (216 : Nat) "OneBearsModel" "label" "I") ∈ lw_all := lw_g (lw_at lw_m4 212 rfl) rfl
theorem q1010 : (Jvm.Cond.fieldLink "OneBearsModel" (219 : Nat) "OneBearsModel" "found" "I") ∈ lw_all := lw_g (lw_at lw_m4 213 rfl) rfl
theorem q1011 : (Jvm.Cond.fieldLink "OneBearsModel" (28 : Nat) "OneBearsModel" "labels" "Ljava/lang/String;") ∈ lw_all := lw_g (lw_at lw_m4 214 rfl) rfl
theorem q1012 : (Jvm.Cond.fieldLink "OneBearsModel" (34 : Nat) "OneBearsModel" "allowed" "Ljava/lang/String;") ∈ lw_all := lw_g (lw_at lw_m4 215 rfl) rfl
theorem q1013 : (Jvm.Cond.fieldLink "OneBearsModel" (212 : Nat) "OneBearsModel" "hasFound" "Z") ∈ lw_all := lw_g (lw_at lw_m4 216 rfl) rfl
theorem q1014 : (Jvm.Cond.fieldLink "OneBearsModel" (37 : Nat) "OneBearsModel" "mother" "[I") ∈ lw_all := lw_g (lw_at lw_m4 217 rfl) rfl
theorem q1015 : (Jvm.Cond.fieldLink "OneBearsModel" (40 : Nat) "OneBearsModel" "father" "[I") ∈ lw_all := lw_g (lw_at lw_m4 218 rfl) rfl
theorem q1016 : (Jvm.Cond.fieldLink "OneBearsModel" (43 : Nat) "OneBearsModel" "toldWeight" "[I") ∈ lw_all := lw_g (lw_at lw_m4 219 rfl) rfl
theorem q1017 : (Jvm.Cond.fieldLink "OneBearsModel" (232 : Nat) "OneBearsModel" "animals" "I") ∈ lw_all := lw_g (lw_at lw_m4 220 rfl) rfl
theorem q1018 : (Jvm.Cond.fieldLink "OneBearsModel" (46 : Nat) "OneBearsModel" "dam" "[I") ∈ lw_all := lw_g (lw_at lw_m4 221 rfl) rfl
theorem q1019 : (Jvm.Cond.fieldLink "OneBearsModel" (49 : Nat) "OneBearsModel" "sire" "[I") ∈ lw_all := lw_g (lw_at lw_m4 222 rfl) rfl
theorem q1020 : (Jvm.Cond.fieldLink "OneBearsModel" (52 : Nat) "OneBearsModel" "kins" "[J") ∈ lw_all := lw_g (lw_at lw_m4 223 rfl) rfl
theorem q1021 : (Jvm.Cond.fieldLink "OneBearsModel" (56 : Nat) "OneBearsModel" "toldQueen" "I") ∈ lw_all := lw_g (lw_at lw_m4 224 rfl) rfl
theorem q1022 : (Jvm.Cond.fieldLink "OneBearsModel" (60 : Nat) "OneBearsModel" "toldMate" "I") ∈ lw_all := lw_g (lw_at lw_m4 225 rfl) rfl
theorem q1023 : (Jvm.Cond.fieldLink "OneBearsModel" (63 : Nat) "OneBearsModel" "settings" "[I") ∈ lw_all := lw_g (lw_at lw_m4 226 rfl) rfl
theorem q1024 : (Jvm.Cond.fieldLink "OneBearsModel" (66 : Nat) "OneBearsModel" "rains" "[I") ∈ lw_all := lw_g (lw_at lw_m4 227 rfl) rfl
theorem q1025 : (Jvm.Cond.fieldLink "OneBearsModel" (69 : Nat) "OneBearsModel" "weight" "[I") ∈ lw_all := lw_g (lw_at lw_m4 228 rfl) rfl
theorem q1026 : (Jvm.Cond.fieldLink "OneBearsModel" (72 : Nat) "OneBearsModel" "state" "[I") ∈ lw_all := lw_g (lw_at lw_m4 229 rfl) rfl
theorem q1027 : (Jvm.Cond.fieldLink "OneBearsModel" (75 : Nat) "OneBearsModel" "when" "[I") ∈ lw_all := lw_g (lw_at lw_m4 230 rfl) rfl
theorem q1028 : (Jvm.Cond.fieldLink "OneBearsModel" (78 : Nat) "OneBearsModel" "born" "[I") ∈ lw_all := lw_g (lw_at lw_m4 231 rfl) rfl
theorem q1029 : (Jvm.Cond.fieldLink "OneBearsModel" (81 : Nat) "OneBearsModel" "digs" "[I") ∈ lw_all := lw_g (lw_at lw_m4 232 rfl) rfl
theorem q1030 : (Jvm.Cond.fieldLink "OneBearsModel" (84 : Nat) "OneBearsModel" "eats" "[I") ∈ lw_all := lw_g (lw_at lw_m4 233 rfl) rfl
theorem q1031 : (Jvm.Cond.fieldLink "OneBearsModel" (87 : Nat) "OneBearsModel" "stays" "[I") ∈ lw_all := lw_g (lw_at lw_m4 234 rfl) rfl
theorem q1032 : (Jvm.Cond.fieldLink "OneBearsModel" (90 : Nat) "OneBearsModel" "fights" "[I") ∈ lw_all := lw_g (lw_at lw_m4 235 rfl) rfl
theorem q1033 : (Jvm.Cond.fieldLink "OneBearsModel" (269 : Nat) "OneBearsModel" "glass" "I") ∈ lw_all := lw_g (lw_at lw_m4 236 rfl) rfl
theorem q1034 : (Jvm.Cond.fieldLink "OneBearsModel" (266 : Nat) "OneBearsModel" "ever" "I") ∈ lw_all := lw_g (lw_at lw_m4 237 rfl) rfl
theorem q1035 : (Jvm.Cond.fieldLink "OneBearsModel" (272 : Nat) "OneBearsModel" "store" "I") ∈ lw_all := lw_g (lw_at lw_m4 238 rfl) rfl
theorem q1036 : (Jvm.Cond.fieldLink "OneBearsModel" (281 : Nat) "OneBearsModel" "queen" "I") ∈ lw_all := lw_g (lw_at lw_m4 239 rfl) rfl
theorem q1037 : (Jvm.Cond.fieldLink "OneBearsModel" (284 : Nat) "OneBearsModel" "mate" "I") ∈ lw_all := lw_g (lw_at lw_m5 0 rfl) rfl
theorem q1038 : (Jvm.Cond.fieldLink "OneBearsModel" (287 : Nat) "OneBearsModel" "wars" "I") ∈ lw_all := lw_g (lw_at lw_m5 1 rfl) rfl
theorem q1039 : (Jvm.Cond.fieldLink "OneBearsModel" (290 : Nat) "OneBearsModel" "month" "I") ∈ lw_all := lw_g (lw_at lw_m5 2 rfl) rfl
theorem q1040 : (Jvm.Cond.fieldLink "OneBearsModel" (275 : Nat) "OneBearsModel" "chance" "I") ∈ lw_all := lw_g (lw_at lw_m5 3 rfl) rfl
theorem q1041 : (Jvm.Cond.fieldLink "OneBearsModel" (297 : Nat) "OneBearsModel" "dry" "Z") ∈ lw_all := lw_g (lw_at lw_m5 4 rfl) rfl
theorem q1042 : (Jvm.Cond.fieldLink "OneBearsModel" (300 : Nat) "OneBearsModel" "mild" "Z") ∈ lw_all := lw_g (lw_at lw_m5 5 rfl) rfl
theorem q1043 : (Jvm.Cond.fieldLink "OneBearsModel" (303 : Nat) "OneBearsModel" "nobodyGoes" "Z") ∈ lw_all := lw_g (lw_at lw_m5 6 rfl) rfl
theorem q1044 : (Jvm.Cond.fieldLink "OneBearsModel" (293 : Nat) "OneBearsModel" "x" "J") ∈ lw_all := lw_g (lw_at lw_m5 7 rfl) rfl
theorem q1045 : (Jvm.Cond.fieldLink "OneBearsModel" (93 : Nat) "OneBearsModel" "noteMonth" "[I") ∈ lw_all := lw_g (lw_at lw_m5 8 rfl) rfl
theorem q1046 : (Jvm.Cond.fieldLink "OneBearsModel" (96 : Nat) "OneBearsModel" "noteThere" "[I") ∈ lw_all := lw_g (lw_at lw_m5 9 rfl) rfl
theorem q1047 : (Jvm.Cond.fieldLink "OneBearsModel" (99 : Nat) "OneBearsModel" "noteOff" "[I") ∈ lw_all := lw_g (lw_at lw_m5 10 rfl) rfl
theorem q1048 : (Jvm.Cond.fieldLink "OneBearsModel" (102 : Nat) "OneBearsModel" "trialFirst" "[I") ∈ lw_all := lw_g (lw_at lw_m5 11 rfl) rfl
theorem q1049 : (Jvm.Cond.fieldLink "OneBearsModel" (105 : Nat) "OneBearsModel" "trialMonths" "[I") ∈ lw_all := lw_g (lw_at lw_m5 12 rfl) rfl
theorem q1050 : (Jvm.Cond.fieldLink "OneBearsModel" (379 : Nat) "OneBearsModel" "notes" "I") ∈ lw_all := lw_g (lw_at lw_m5 13 rfl) rfl
theorem q1051 : (Jvm.Cond.fieldLink "OneBearsModel" (389 : Nat) "OneBearsModel" "trials" "I") ∈ lw_all := lw_g (lw_at lw_m5 14 rfl) rfl
theorem q1052 : (Jvm.Cond.fieldLink "OneBearsModel" (108 : Nat) "OneBearsModel" "tell" "[I") ∈ lw_all := lw_g (lw_at lw_m5 15 rfl) rfl
theorem q1053 : (Jvm.Cond.lays "OneBearsModel" "OneBearsModel" "thrown" "I") ∈ lw_all := lw_g (lw_at lw_m5 16 rfl) rfl
theorem q1054 : (Jvm.Cond.soleField "OneBearsModel" "thrown") ∈ lw_all := lw_g (lw_at lw_m5 17 rfl) rfl
theorem q1055 : (Jvm.Cond.laysFinal "OneBearsModel" "OneBearsModel" "tape" "[B") ∈ lw_all := lw_g (lw_at lw_m5 18 rfl) rfl
theorem q1056 : (Jvm.Cond.soleField "OneBearsModel" "tape") ∈ lw_all := lw_g (lw_at lw_m5 19 rfl) rfl
theorem q1057 : (Jvm.Cond.laysFinal "OneBearsModel" "OneBearsModel" "texts" "[B") ∈ lw_all := lw_g (lw_at lw_m5 20 rfl) rfl
theorem q1058 : (Jvm.Cond.soleField "OneBearsModel" "texts") ∈ lw_all := lw_g (lw_at lw_m5 21 rfl) rfl
theorem q1059 : (Jvm.Cond.laysFinal "OneBearsModel" "OneBearsModel" "textLong" "[I") ∈ lw_all := lw_g (lw_at lw_m5 22 rfl) rfl
theorem q1060 : (Jvm.Cond.soleField "OneBearsModel" "textLong") ∈ lw_all := lw_g (lw_at lw_m5 23 rfl) rfl
theorem q1061 : (Jvm.Cond.laysFinal "OneBearsModel" "OneBearsModel" "letters" "[I") ∈ lw_all := lw_g (lw_at lw_m5 24 rfl) rfl
theorem q1062 : (Jvm.Cond.soleField "OneBearsModel" "letters") ∈ lw_all := lw_g (lw_at lw_m5 25 rfl) rfl
theorem q1063 : (Jvm.Cond.lays "OneBearsModel" "OneBearsModel" "text" "[B") ∈ lw_all := lw_g (lw_at lw_m5 26 rfl) rfl
theorem q1064 : (Jvm.Cond.soleField "OneBearsModel" "text") ∈ lw_all := lw_g (lw_at lw_m5 27 rfl) rfl
theorem q1065 : (Jvm.Cond.lays "OneBearsModel" "OneBearsModel" "length" "I") ∈ lw_all := lw_g (lw_at lw_m5 28 rfl) rfl
theorem q1066 : (Jvm.Cond.soleField "OneBearsModel" "length") ∈ lw_all := lw_g (lw_at lw_m5 29 rfl) rfl
theorem q1067 : (Jvm.Cond.lays "OneBearsModel" "OneBearsModel" "laws" "I") ∈ lw_all := lw_g (lw_at lw_m5 30 rfl) rfl
theorem q1068 : (Jvm.Cond.soleField "OneBearsModel" "laws") ∈ lw_all := lw_g (lw_at lw_m5 31 rfl) rfl
theorem q1069 : (Jvm.Cond.lays "OneBearsModel" "OneBearsModel" "begins" "I") ∈ lw_all := lw_g (lw_at lw_m5 32 rfl) rfl
theorem q1070 : (Jvm.Cond.soleField "OneBearsModel" "begins") ∈ lw_all := lw_g (lw_at lw_m5 33 rfl) rfl
theorem q1071 : (Jvm.Cond.lays "OneBearsModel" "OneBearsModel" "ends" "I") ∈ lw_all := lw_g (lw_at lw_m5 34 rfl) rfl
theorem q1072 : (Jvm.Cond.soleField "OneBearsModel" "ends") ∈ lw_all := lw_g (lw_at lw_m5 35 rfl) rfl
theorem q1073 : (Jvm.Cond.lays "OneBearsModel" "OneBearsModel" "at" "I") ∈ lw_all := lw_g (lw_at lw_m5 36 rfl) rfl
theorem q1074 : (Jvm.Cond.soleField "OneBearsModel" "at") ∈ lw_all := lw_g (lw_at lw_m5 37 rfl) rfl
theorem q1075 : (Jvm.Cond.lays "OneBearsModel" "OneBearsModel" "fault" "I") ∈ lw_all := lw_g (lw_at lw_m5 38 rfl) rfl
theorem q1076 : (Jvm.Cond.soleField "OneBearsModel" "fault") ∈ lw_all := lw_g (lw_at lw_m5 39 rfl) rfl
theorem q1077 : (Jvm.Cond.lays "OneBearsModel" "OneBearsModel" "deep" "I") ∈ lw_all := lw_g (lw_at lw_m5 40 rfl) rfl
theorem q1078 : (Jvm.Cond.soleField "OneBearsModel" "deep") ∈ lw_all := lw_g (lw_at lw_m5 41 rfl) rfl
theorem q1079 : (Jvm.Cond.lays "OneBearsModel" "OneBearsModel" "label" "I") ∈ lw_all := lw_g (lw_at lw_m5 42 rfl) rfl
theorem q1080 : (Jvm.Cond.soleField "OneBearsModel" "label") ∈ lw_all := lw_g (lw_at lw_m5 43 rfl) rfl
theorem q1081 : (Jvm.Cond.lays "OneBearsModel" "OneBearsModel" "found" "I") ∈ lw_all := lw_g (lw_at lw_m5 44 rfl) rfl
theorem q1082 : (Jvm.Cond.soleField "OneBearsModel" "found") ∈ lw_all := lw_g (lw_at lw_m5 45 rfl) rfl
theorem q1083 : (Jvm.Cond.laysFinal "OneBearsModel" "OneBearsModel" "labels" "Ljava/lang/String;") ∈ lw_all := lw_g (lw_at lw_m5 46 rfl) rfl
theorem q1084 : (Jvm.Cond.soleField "OneBearsModel" "labels") ∈ lw_all := lw_g (lw_at lw_m5 47 rfl) rfl
theorem q1085 : (Jvm.Cond.laysFinal "OneBearsModel" "OneBearsModel" "allowed" "Ljava/lang/String;") ∈ lw_all := lw_g (lw_at lw_m5 48 rfl) rfl
theorem q1086 : (Jvm.Cond.soleField "OneBearsModel" "allowed") ∈ lw_all := lw_g (lw_at lw_m5 49 rfl) rfl
theorem q1087 : (Jvm.Cond.lays "OneBearsModel" "OneBearsModel" "hasFound" "Z") ∈ lw_all := lw_g (lw_at lw_m5 50 rfl) rfl
theorem q1088 : (Jvm.Cond.soleField "OneBearsModel" "hasFound") ∈ lw_all := lw_g (lw_at lw_m5 51 rfl) rfl
theorem q1089 : (Jvm.Cond.laysFinal "OneBearsModel" "OneBearsModel" "mother" "[I") ∈ lw_all := lw_g (lw_at lw_m5 52 rfl) rfl
theorem q1090 : (Jvm.Cond.soleField "OneBearsModel" "mother") ∈ lw_all := lw_g (lw_at lw_m5 53 rfl) rfl
theorem q1091 : (Jvm.Cond.laysFinal "OneBearsModel" "OneBearsModel" "father" "[I") ∈ lw_all := lw_g (lw_at lw_m5 54 rfl) rfl
theorem q1092 : (Jvm.Cond.soleField "OneBearsModel" "father") ∈ lw_all := lw_g (lw_at lw_m5 55 rfl) rfl
theorem q1093 : (Jvm.Cond.laysFinal "OneBearsModel" "OneBearsModel" "toldWeight" "[I") ∈ lw_all := lw_g (lw_at lw_m5 56 rfl) rfl
theorem q1094 : (Jvm.Cond.soleField "OneBearsModel" "toldWeight") ∈ lw_all := lw_g (lw_at lw_m5 57 rfl) rfl
theorem q1095 : (Jvm.Cond.lays "OneBearsModel" "OneBearsModel" "animals" "I") ∈ lw_all := lw_g (lw_at lw_m5 58 rfl) rfl
theorem q1096 : (Jvm.Cond.soleField "OneBearsModel" "animals") ∈ lw_all := lw_g (lw_at lw_m5 59 rfl) rfl
theorem q1097 : (Jvm.Cond.laysFinal "OneBearsModel" "OneBearsModel" "dam" "[I") ∈ lw_all := lw_g (lw_at lw_m5 60 rfl) rfl
theorem q1098 : (Jvm.Cond.soleField "OneBearsModel" "dam") ∈ lw_all := lw_g (lw_at lw_m5 61 rfl) rfl
theorem q1099 : (Jvm.Cond.laysFinal "OneBearsModel" "OneBearsModel" "sire" "[I") ∈ lw_all := lw_g (lw_at lw_m5 62 rfl) rfl
theorem q1100 : (Jvm.Cond.soleField "OneBearsModel" "sire") ∈ lw_all := lw_g (lw_at lw_m5 63 rfl) rfl
theorem q1101 : (Jvm.Cond.laysFinal "OneBearsModel" "OneBearsModel" "kins" "[J") ∈ lw_all := lw_g (lw_at lw_m5 64 rfl) rfl
theorem q1102 : (Jvm.Cond.soleField "OneBearsModel" "kins") ∈ lw_all := lw_g (lw_at lw_m5 65 rfl) rfl
theorem q1103 : (Jvm.Cond.lays "OneBearsModel" "OneBearsModel" "toldQueen" "I") ∈ lw_all := lw_g (lw_at lw_m5 66 rfl) rfl
theorem q1104 : (Jvm.Cond.soleField "OneBearsModel" "toldQueen") ∈ lw_all := lw_g (lw_at lw_m5 67 rfl) rfl
theorem q1105 : (Jvm.Cond.lays "OneBearsModel" "OneBearsModel" "toldMate" "I") ∈ lw_all := lw_g (lw_at lw_m5 68 rfl) rfl
theorem q1106 : (Jvm.Cond.soleField "OneBearsModel" "toldMate") ∈ lw_all := lw_g (lw_at lw_m5 69 rfl) rfl
theorem q1107 : (Jvm.Cond.laysFinal "OneBearsModel" "OneBearsModel" "settings" "[I") ∈ lw_all := lw_g (lw_at lw_m5 70 rfl) rfl
theorem q1108 : (Jvm.Cond.soleField "OneBearsModel" "settings") ∈ lw_all := lw_g (lw_at lw_m5 71 rfl) rfl
theorem q1109 : (Jvm.Cond.laysFinal "OneBearsModel" "OneBearsModel" "rains" "[I") ∈ lw_all := lw_g (lw_at lw_m5 72 rfl) rfl
theorem q1110 : (Jvm.Cond.soleField "OneBearsModel" "rains") ∈ lw_all := lw_g (lw_at lw_m5 73 rfl) rfl
theorem q1111 : (Jvm.Cond.laysFinal "OneBearsModel" "OneBearsModel" "weight" "[I") ∈ lw_all := lw_g (lw_at lw_m5 74 rfl) rfl
theorem q1112 : (Jvm.Cond.soleField "OneBearsModel" "weight") ∈ lw_all := lw_g (lw_at lw_m5 75 rfl) rfl
theorem q1113 : (Jvm.Cond.laysFinal "OneBearsModel" "OneBearsModel" "state" "[I") ∈ lw_all := lw_g (lw_at lw_m5 76 rfl) rfl
theorem q1114 : (Jvm.Cond.soleField "OneBearsModel" "state") ∈ lw_all := lw_g (lw_at lw_m5 77 rfl) rfl
theorem q1115 : (Jvm.Cond.laysFinal "OneBearsModel" "OneBearsModel" "when" "[I") ∈ lw_all := lw_g (lw_at lw_m5 78 rfl) rfl
theorem q1116 : (Jvm.Cond.soleField "OneBearsModel" "when") ∈ lw_all := lw_g (lw_at lw_m5 79 rfl) rfl
theorem q1117 : (Jvm.Cond.laysFinal "OneBearsModel" "OneBearsModel" "born" "[I") ∈ lw_all := lw_g (lw_at lw_m5 80 rfl) rfl
theorem q1118 : (Jvm.Cond.soleField "OneBearsModel" "born") ∈ lw_all := lw_g (lw_at lw_m5 81 rfl) rfl
theorem q1119 : (Jvm.Cond.laysFinal "OneBearsModel" "OneBearsModel" "digs" "[I") ∈ lw_all := lw_g (lw_at lw_m5 82 rfl) rfl
theorem q1120 : (Jvm.Cond.soleField "OneBearsModel" "digs") ∈ lw_all := lw_g (lw_at lw_m5 83 rfl) rfl
theorem q1121 : (Jvm.Cond.laysFinal "OneBearsModel" "OneBearsModel" "eats" "[I") ∈ lw_all := lw_g (lw_at lw_m5 84 rfl) rfl
theorem q1122 : (Jvm.Cond.soleField "OneBearsModel" "eats") ∈ lw_all := lw_g (lw_at lw_m5 85 rfl) rfl
theorem q1123 : (Jvm.Cond.laysFinal "OneBearsModel" "OneBearsModel" "stays" "[I") ∈ lw_all := lw_g (lw_at lw_m5 86 rfl) rfl
theorem q1124 : (Jvm.Cond.soleField "OneBearsModel" "stays") ∈ lw_all := lw_g (lw_at lw_m5 87 rfl) rfl
theorem q1125 : (Jvm.Cond.laysFinal "OneBearsModel" "OneBearsModel" "fights" "[I") ∈ lw_all := lw_g (lw_at lw_m5 88 rfl) rfl
theorem q1126 : (Jvm.Cond.soleField "OneBearsModel" "fights") ∈ lw_all := lw_g (lw_at lw_m5 89 rfl) rfl
theorem q1127 : (Jvm.Cond.lays "OneBearsModel" "OneBearsModel" "glass" "I") ∈ lw_all := lw_g (lw_at lw_m5 90 rfl) rfl
theorem q1128 : (Jvm.Cond.soleField "OneBearsModel" "glass") ∈ lw_all := lw_g (lw_at lw_m5 91 rfl) rfl
theorem q1129 : (Jvm.Cond.lays "OneBearsModel" "OneBearsModel" "ever" "I") ∈ lw_all := lw_g (lw_at lw_m5 92 rfl) rfl
theorem q1130 : (Jvm.Cond.soleField "OneBearsModel" "ever") ∈ lw_all := lw_g (lw_at lw_m5 93 rfl) rfl
theorem q1131 : (Jvm.Cond.lays "OneBearsModel" "OneBearsModel" "store" "I") ∈ lw_all := lw_g (lw_at lw_m5 94 rfl) rfl
theorem q1132 : (Jvm.Cond.soleField "OneBearsModel" "store") ∈ lw_all := lw_g (lw_at lw_m5 95 rfl) rfl
theorem q1133 : (Jvm.Cond.lays "OneBearsModel" "OneBearsModel" "queen" "I") ∈ lw_all := lw_g (lw_at lw_m5 96 rfl) rfl
theorem q1134 : (Jvm.Cond.soleField "OneBearsModel" "queen") ∈ lw_all := lw_g (lw_at lw_m5 97 rfl) rfl
theorem q1135 : (Jvm.Cond.lays "OneBearsModel" "OneBearsModel" "mate" "I") ∈ lw_all := lw_g (lw_at lw_m5 98 rfl) rfl
theorem q1136 : (Jvm.Cond.soleField "OneBearsModel" "mate") ∈ lw_all := lw_g (lw_at lw_m5 99 rfl) rfl
theorem q1137 : (Jvm.Cond.lays "OneBearsModel" "OneBearsModel" "wars" "I") ∈ lw_all := lw_g (lw_at lw_m5 100 rfl) rfl
theorem q1138 : (Jvm.Cond.soleField "OneBearsModel" "wars") ∈ lw_all := lw_g (lw_at lw_m5 101 rfl) rfl
theorem q1139 : (Jvm.Cond.lays "OneBearsModel" "OneBearsModel" "month" "I") ∈ lw_all := lw_g (lw_at lw_m5 102 rfl) rfl
theorem q1140 : (Jvm.Cond.soleField "OneBearsModel" "month") ∈ lw_all := lw_g (lw_at lw_m5 103 rfl) rfl
theorem q1141 : (Jvm.Cond.lays "OneBearsModel" "OneBearsModel" "chance" "I") ∈ lw_all := lw_g (lw_at lw_m5 104 rfl) rfl
theorem q1142 : (Jvm.Cond.soleField "OneBearsModel" "chance") ∈ lw_all := lw_g (lw_at lw_m5 105 rfl) rfl
theorem q1143 : (Jvm.Cond.lays "OneBearsModel" "OneBearsModel" "dry" "Z") ∈ lw_all := lw_g (lw_at lw_m5 106 rfl) rfl
theorem q1144 : (Jvm.Cond.soleField "OneBearsModel" "dry") ∈ lw_all := lw_g (lw_at lw_m5 107 rfl) rfl
theorem q1145 : (Jvm.Cond.lays "OneBearsModel" "OneBearsModel" "mild" "Z") ∈ lw_all := lw_g (lw_at lw_m5 108 rfl) rfl
theorem q1146 : (Jvm.Cond.soleField "OneBearsModel" "mild") ∈ lw_all := lw_g (lw_at lw_m5 109 rfl) rfl
theorem q1147 : (Jvm.Cond.lays "OneBearsModel" "OneBearsModel" "nobodyGoes" "Z") ∈ lw_all := lw_g (lw_at lw_m5 110 rfl) rfl
theorem q1148 : (Jvm.Cond.soleField "OneBearsModel" "nobodyGoes") ∈ lw_all := lw_g (lw_at lw_m5 111 rfl) rfl
theorem q1149 : (Jvm.Cond.lays "OneBearsModel" "OneBearsModel" "x" "J") ∈ lw_all := lw_g (lw_at lw_m5 112 rfl) rfl
theorem q1150 : (Jvm.Cond.soleField "OneBearsModel" "x") ∈ lw_all := lw_g (lw_at lw_m5 113 rfl) rfl
theorem q1151 : (Jvm.Cond.laysFinal "OneBearsModel" "OneBearsModel" "noteMonth" "[I") ∈ lw_all := lw_g (lw_at lw_m5 114 rfl) rfl
theorem q1152 : (Jvm.Cond.soleField "OneBearsModel" "noteMonth") ∈ lw_all := lw_g (lw_at lw_m5 115 rfl) rfl
theorem q1153 : (Jvm.Cond.laysFinal "OneBearsModel" "OneBearsModel" "noteThere" "[I") ∈ lw_all := lw_g (lw_at lw_m5 116 rfl) rfl
theorem q1154 : (Jvm.Cond.soleField "OneBearsModel" "noteThere") ∈ lw_all := lw_g (lw_at lw_m5 117 rfl) rfl
theorem q1155 : (Jvm.Cond.laysFinal "OneBearsModel" "OneBearsModel" "noteOff" "[I") ∈ lw_all := lw_g (lw_at lw_m5 118 rfl) rfl
theorem q1156 : (Jvm.Cond.soleField "OneBearsModel" "noteOff") ∈ lw_all := lw_g (lw_at lw_m5 119 rfl) rfl
theorem q1157 : (Jvm.Cond.laysFinal "OneBearsModel" "OneBearsModel" "trialFirst" "[I") ∈ lw_all := lw_g (lw_at lw_m5 120 rfl) rfl
theorem q1158 : (Jvm.Cond.soleField "OneBearsModel" "trialFirst") ∈ lw_all := lw_g (lw_at lw_m5 121 rfl) rfl
theorem q1159 : (Jvm.Cond.laysFinal "OneBearsModel" "OneBearsModel" "trialMonths" "[I") ∈ lw_all := lw_g (lw_at lw_m5 122 rfl) rfl
theorem q1160 : (Jvm.Cond.soleField "OneBearsModel" "trialMonths") ∈ lw_all := lw_g (lw_at lw_m5 123 rfl) rfl
theorem q1161 : (Jvm.Cond.lays "OneBearsModel" "OneBearsModel" "notes" "I") ∈ lw_all := lw_g (lw_at lw_m5 124 rfl) rfl
theorem q1162 : (Jvm.Cond.soleField "OneBearsModel" "notes") ∈ lw_all := lw_g (lw_at lw_m5 125 rfl) rfl
theorem q1163 : (Jvm.Cond.lays "OneBearsModel" "OneBearsModel" "trials" "I") ∈ lw_all := lw_g (lw_at lw_m5 126 rfl) rfl
theorem q1164 : (Jvm.Cond.soleField "OneBearsModel" "trials") ∈ lw_all := lw_g (lw_at lw_m5 127 rfl) rfl
theorem q1165 : (Jvm.Cond.laysFinal "OneBearsModel" "OneBearsModel" "tell" "[I") ∈ lw_all := lw_g (lw_at lw_m5 128 rfl) rfl
theorem q1166 : (Jvm.Cond.soleField "OneBearsModel" "tell") ∈ lw_all := lw_g (lw_at lw_m5 129 rfl) rfl
theorem q1167 : (Jvm.Cond.superclass "OneBearsModel" "java/lang/Object") ∈ lw_all := lw_g (lw_at lw_m5 130 rfl) rfl
theorem q1169 : (Jvm.Cond.instanceMethod ({ cls := "OneBearsModel", name := "thrown", desc := "()I" } : Jvm.MethodName)) ∈ lw_all := lw_g (lw_at lw_m5 132 rfl) rfl
theorem q1170 : (Jvm.Cond.selects "OneBearsModel" ({ cls := "OneBearsModel", name := "thrown", desc := "()I" } : Jvm.MethodName) ({ cls := "OneBearsModel", name := "thrown", desc := "()I" } : Jvm.MethodName)) ∈ lw_all := lw_g (lw_at lw_m5 133 rfl) rfl
theorem q1171 : (Jvm.Cond.code ({ cls := "OneBearsModel", name := "thrown", desc := "()I" } : Jvm.MethodName) prog_16_method_2_code (1 : Nat) (Option.some Jvm.ClassFile.FieldType.int)) ∈ lw_all := lw_g (lw_at lw_m5 134 rfl) rfl
theorem q1173 : (Jvm.Cond.instanceMethod ({ cls := "OneBearsModel", name := "feed", desc := "(IIIII)I" } : Jvm.MethodName)) ∈ lw_all := lw_g (lw_at lw_m5 136 rfl) rfl
theorem q1174 : (Jvm.Cond.selects "OneBearsModel" ({ cls := "OneBearsModel", name := "feed", desc := "(IIIII)I" } : Jvm.MethodName) ({ cls := "OneBearsModel", name := "feed", desc := "(IIIII)I" } : Jvm.MethodName)) ∈ lw_all := lw_g (lw_at lw_m5 137 rfl) rfl
theorem q1175 : (Jvm.Cond.code ({ cls := "OneBearsModel", name := "feed", desc := "(IIIII)I" } : Jvm.MethodName) prog_16_method_7_code (6 : Nat) (Option.some Jvm.ClassFile.FieldType.int)) ∈ lw_all := lw_g (lw_at lw_m5 138 rfl) rfl
theorem q1176 : (Jvm.Cond.methodLink "OneBearsModel" (126 : Nat) ({ cls := "OneBearsModel", name := "bytesIn", desc := "(I)I" } : Jvm.MethodName)) ∈ lw_all := lw_g (lw_at lw_m5 139 rfl) rfl
theorem q1177 : (Jvm.Cond.static ({ cls := "OneBearsModel", name := "bytesIn", desc := "(I)I" } : Jvm.MethodName)) ∈ lw_all := lw_g (lw_at lw_m5 140 rfl) rfl
theorem q1178 : (Jvm.Cond.code ({ cls := "OneBearsModel", name := "bytesIn", desc := "(I)I" } : Jvm.MethodName) prog_16_method_5_code (3 : Nat) (Option.some Jvm.ClassFile.FieldType.int)) ∈ lw_all := lw_g (lw_at lw_m5 141 rfl) rfl
theorem q1179 : (Jvm.Cond.methodLink "OneBearsModel" (130 : Nat) ({ cls := "OneBearsModel", name := "put", desc := "(I)V" } : Jvm.MethodName)) ∈ lw_all := lw_g (lw_at lw_m5 142 rfl) rfl
theorem q1180 : (Jvm.Cond.privateMethod ({ cls := "OneBearsModel", name := "put", desc := "(I)V" } : Jvm.MethodName)) ∈ lw_tbl := lw_at lw_m5 143 rfl
theorem q1181 : (Jvm.Cond.instanceMethod ({ cls := "OneBearsModel", name := "put", desc := "(I)V" } : Jvm.MethodName)) ∈ lw_all := lw_g (lw_at lw_m5 144 rfl) rfl
theorem q1182 : (Jvm.Cond.code ({ cls := "OneBearsModel", name := "put", desc := "(I)V" } : Jvm.MethodName) prog_16_method_6_code (3 : Nat) (Option.none : Option Jvm.ClassFile.FieldType)) ∈ lw_all := lw_g (lw_at lw_m5 145 rfl) rfl
theorem q1184 : (Jvm.Cond.instanceMethod ({ cls := "OneBearsModel", name := "end", desc := "(I)Z" } : Jvm.MethodName)) ∈ lw_all := lw_g (lw_at lw_m5 147 rfl) rfl
theorem q1185 : (Jvm.Cond.selects "OneBearsModel" ({ cls := "OneBearsModel", name := "end", desc := "(I)Z" } : Jvm.MethodName) ({ cls := "OneBearsModel", name := "end", desc := "(I)Z" } : Jvm.MethodName)) ∈ lw_all := lw_g (lw_at lw_m5 148 rfl) rfl
theorem q1186 : (Jvm.Cond.code ({ cls := "OneBearsModel", name := "end", desc := "(I)Z" } : Jvm.MethodName) prog_16_method_8_code (2 : Nat) (Option.some Jvm.ClassFile.FieldType.boolean)) ∈ lw_all := lw_g (lw_at lw_m5 149 rfl) rfl
theorem q1188 : (Jvm.Cond.instanceMethod ({ cls := "OneBearsModel", name := "fault", desc := "()I" } : Jvm.MethodName)) ∈ lw_all := lw_g (lw_at lw_m5 151 rfl) rfl
theorem q1189 : (Jvm.Cond.selects "OneBearsModel" ({ cls := "OneBearsModel", name := "fault", desc := "()I" } : Jvm.MethodName) ({ cls := "OneBearsModel", name := "fault", desc := "()I" } : Jvm.MethodName)) ∈ lw_all := lw_g (lw_at lw_m5 152 rfl) rfl
theorem q1190 : (Jvm.Cond.code ({ cls := "OneBearsModel", name := "fault", desc := "()I" } : Jvm.MethodName) prog_16_method_25_code (1 : Nat) (Option.some Jvm.ClassFile.FieldType.int)) ∈ lw_all := lw_g (lw_at lw_m5 153 rfl) rfl
theorem q1191 : (Jvm.Cond.methodLink "OneBearsModel" (225 : Nat) ({ cls := "OneBearsModel", name := "goThrough", desc := "([BIII)V" } : Jvm.MethodName)) ∈ lw_all := lw_g (lw_at lw_m5 154 rfl) rfl
theorem q1192 : (Jvm.Cond.privateMethod ({ cls := "OneBearsModel", name := "goThrough", desc := "([BIII)V" } : Jvm.MethodName)) ∈ lw_tbl := lw_at lw_m5 155 rfl
theorem q1193 : (Jvm.Cond.instanceMethod ({ cls := "OneBearsModel", name := "goThrough", desc := "([BIII)V" } : Jvm.MethodName)) ∈ lw_all := lw_g (lw_at lw_m5 156 rfl) rfl
theorem q1194 : (Jvm.Cond.code ({ cls := "OneBearsModel", name := "goThrough", desc := "([BIII)V" } : Jvm.MethodName) prog_16_method_24_code (5 : Nat) (Option.none : Option Jvm.ClassFile.FieldType)) ∈ lw_all := lw_g (lw_at lw_m5 157 rfl) rfl
theorem q1195 : (Jvm.Cond.methodLink "OneBearsModel" (222 : Nat) ({ cls := "OneBearsModel", name := "clause", desc := "()V" } : Jvm.MethodName)) ∈ lw_all := lw_g (lw_at lw_m5 158 rfl) rfl
theorem q1196 : (Jvm.Cond.privateMethod ({ cls := "OneBearsModel", name := "clause", desc := "()V" } : Jvm.MethodName)) ∈ lw_tbl := lw_at lw_m5 159 rfl
theorem q1197 : (Jvm.Cond.instanceMethod ({ cls := "OneBearsModel", name := "clause", desc := "()V" } : Jvm.MethodName)) ∈ lw_all := lw_g (lw_at lw_m5 160 rfl) rfl
theorem q1198 : (Jvm.Cond.code ({ cls := "OneBearsModel", name := "clause", desc := "()V" } : Jvm.MethodName) prog_16_method_23_code (5 : Nat) (Option.none : Option Jvm.ClassFile.FieldType)) ∈ lw_all := lw_g (lw_at lw_m5 161 rfl) rfl
theorem q1199 : (Jvm.Cond.methodLink "OneBearsModel" (153 : Nat) ({ cls := "OneBearsModel", name := "look", desc := "()I" } : Jvm.MethodName)) ∈ lw_all := lw_g (lw_at lw_m5 162 rfl) rfl
theorem q1200 : (Jvm.Cond.privateMethod ({ cls := "OneBearsModel", name := "look", desc := "()I" } : Jvm.MethodName)) ∈ lw_tbl := lw_at lw_m5 163 rfl
theorem q1201 : (Jvm.Cond.instanceMethod ({ cls := "OneBearsModel", name := "look", desc := "()I" } : Jvm.MethodName)) ∈ lw_all := lw_g (lw_at lw_m5 164 rfl) rfl
theorem q1202 : (Jvm.Cond.code ({ cls := "OneBearsModel", name := "look", desc := "()I" } : Jvm.MethodName) prog_16_method_9_code (1 : Nat) (Option.some Jvm.ClassFile.FieldType.int)) ∈ lw_all := lw_g (lw_at lw_m5 165 rfl) rfl
theorem q1203 : (Jvm.Cond.methodLink "OneBearsModel" (169 : Nat) ({ cls := "OneBearsModel", name := "isAmong", desc := "(Ljava/lang/String;I)Z" } : Jvm.MethodName)) ∈ lw_all := lw_g (lw_at lw_m5 166 rfl) rfl
theorem q1204 : (Jvm.Cond.static ({ cls := "OneBearsModel", name := "isAmong", desc := "(Ljava/lang/String;I)Z" } : Jvm.MethodName)) ∈ lw_all := lw_g (lw_at lw_m5 167 rfl) rfl
theorem q1205 : (Jvm.Cond.code ({ cls := "OneBearsModel", name := "isAmong", desc := "(Ljava/lang/String;I)Z" } : Jvm.MethodName) prog_16_method_4_code (3 : Nat) (Option.some Jvm.ClassFile.FieldType.boolean)) ∈ lw_all := lw_g (lw_at lw_m5 168 rfl) rfl
theorem q1206 : (Jvm.Cond.methodLink "OneBearsModel" (114 : Nat) ({ cls := "java/lang/String", name := "length", desc := "()I" } : Jvm.MethodName)) ∈ lw_all := lw_g (lw_at lw_m5 169 rfl) rfl
theorem q1207 : (Jvm.Cond.methodLink "OneBearsModel" (120 : Nat) ({ cls := "java/lang/String", name := "charAt", desc := "(I)C" } : Jvm.MethodName)) ∈ lw_all := lw_g (lw_at lw_m5 170 rfl) rfl
theorem q1208 : (Jvm.Cond.methodLink "OneBearsModel" (149 : Nat) ({ cls := "OneBearsModel", name := "fails", desc := "()Z" } : Jvm.MethodName)) ∈ lw_all := lw_g (lw_at lw_m5 171 rfl) rfl
theorem q1209 : (Jvm.Cond.privateMethod ({ cls := "OneBearsModel", name := "fails", desc := "()Z" } : Jvm.MethodName)) ∈ lw_tbl := lw_at lw_m5 172 rfl
theorem q1210 : (Jvm.Cond.instanceMethod ({ cls := "OneBearsModel", name := "fails", desc := "()Z" } : Jvm.MethodName)) ∈ lw_all := lw_g (lw_at lw_m5 173 rfl) rfl
theorem q1211 : (Jvm.Cond.code ({ cls := "OneBearsModel", name := "fails", desc := "()Z" } : Jvm.MethodName) prog_16_method_10_code (1 : Nat) (Option.some Jvm.ClassFile.FieldType.boolean)) ∈ lw_all := lw_g (lw_at lw_m5 174 rfl) rfl
theorem q1212 : (Jvm.Cond.methodLink "OneBearsModel" (179 : Nat) ({ cls := "OneBearsModel", name := "takes", desc := "(I)Z" } : Jvm.MethodName)) ∈ lw_all := lw_g (lw_at lw_m5 175 rfl) rfl
theorem q1213 : (Jvm.Cond.privateMethod ({ cls := "OneBearsModel", name := "takes", desc := "(I)Z" } : Jvm.MethodName)) ∈ lw_tbl := lw_at lw_m5 176 rfl
theorem q1214 : (Jvm.Cond.instanceMethod ({ cls := "OneBearsModel", name := "takes", desc := "(I)Z" } : Jvm.MethodName)) ∈ lw_all := lw_g (lw_at lw_m5 177 rfl) rfl
theorem q1215 : (Jvm.Cond.code ({ cls := "OneBearsModel", name := "takes", desc := "(I)Z" } : Jvm.MethodName) prog_16_method_12_code (2 : Nat) (Option.some Jvm.ClassFile.FieldType.boolean)) ∈ lw_all := lw_g (lw_at lw_m5 178 rfl) rfl
theorem q1216 : (Jvm.Cond.methodLink "OneBearsModel" (202 : Nat) ({ cls := "OneBearsModel", name := "condition", desc := "(ZI)Z" } : Jvm.MethodName)) ∈ lw_all := lw_g (lw_at lw_m5 179 rfl) rfl
theorem q1217 : (Jvm.Cond.privateMethod ({ cls := "OneBearsModel", name := "condition", desc := "(ZI)Z" } : Jvm.MethodName)) ∈ lw_tbl := lw_at lw_m5 180 rfl
theorem q1218 : (Jvm.Cond.instanceMethod ({ cls := "OneBearsModel", name := "condition", desc := "(ZI)Z" } : Jvm.MethodName)) ∈ lw_all := lw_g (lw_at lw_m5 181 rfl) rfl
theorem q1219 : (Jvm.Cond.code ({ cls := "OneBearsModel", name := "condition", desc := "(ZI)Z" } : Jvm.MethodName) prog_16_method_22_code (5 : Nat) (Option.some Jvm.ClassFile.FieldType.boolean)) ∈ lw_all := lw_g (lw_at lw_m5 182 rfl) rfl
theorem q1220 : (Jvm.Cond.methodLink "OneBearsModel" (209 : Nat) ({ cls := "OneBearsModel", name := "part", desc := "(ZI)Z" } : Jvm.MethodName)) ∈ lw_all := lw_g (lw_at lw_m5 183 rfl) rfl
theorem q1221 : (Jvm.Cond.privateMethod ({ cls := "OneBearsModel", name := "part", desc := "(ZI)Z" } : Jvm.MethodName)) ∈ lw_tbl := lw_at lw_m5 184 rfl
theorem q1222 : (Jvm.Cond.instanceMethod ({ cls := "OneBearsModel", name := "part", desc := "(ZI)Z" } : Jvm.MethodName)) ∈ lw_all := lw_g (lw_at lw_m5 185 rfl) rfl
theorem q1223 : (Jvm.Cond.code ({ cls := "OneBearsModel", name := "part", desc := "(ZI)Z" } : Jvm.MethodName) prog_16_method_21_code (5 : Nat) (Option.some Jvm.ClassFile.FieldType.boolean)) ∈ lw_all := lw_g (lw_at lw_m5 186 rfl) rfl
theorem q1224 : (Jvm.Cond.methodLink "OneBearsModel" (206 : Nat) ({ cls := "OneBearsModel", name := "compares", desc := "(ZI)Z" } : Jvm.MethodName)) ∈ lw_all := lw_g (lw_at lw_m5 187 rfl) rfl
theorem q1225 : (Jvm.Cond.privateMethod ({ cls := "OneBearsModel", name := "compares", desc := "(ZI)Z" } : Jvm.MethodName)) ∈ lw_tbl := lw_at lw_m5 188 rfl
theorem q1226 : (Jvm.Cond.instanceMethod ({ cls := "OneBearsModel", name := "compares", desc := "(ZI)Z" } : Jvm.MethodName)) ∈ lw_all := lw_g (lw_at lw_m5 189 rfl) rfl
theorem q1227 : (Jvm.Cond.code ({ cls := "OneBearsModel", name := "compares", desc := "(ZI)Z" } : Jvm.MethodName) prog_16_method_19_code (6 : Nat) (Option.some Jvm.ClassFile.FieldType.boolean)) ∈ lw_all := lw_g (lw_at lw_m5 190 rfl) rfl
theorem q1228 : (Jvm.Cond.methodLink "OneBearsModel" (176 : Nat) ({ cls := "OneBearsModel", name := "sum", desc := "()I" } : Jvm.MethodName)) ∈ lw_all := lw_g (lw_at lw_m5 191 rfl) rfl
theorem q1229 : (Jvm.Cond.privateMethod ({ cls := "OneBearsModel", name := "sum", desc := "()I" } : Jvm.MethodName)) ∈ lw_tbl := lw_at lw_m5 192 rfl
theorem q1230 : (Jvm.Cond.instanceMethod ({ cls := "OneBearsModel", name := "sum", desc := "()I" } : Jvm.MethodName)) ∈ lw_all := lw_g (lw_at lw_m5 193 rfl) rfl
theorem q1231 : (Jvm.Cond.code ({ cls := "OneBearsModel", name := "sum", desc := "()I" } : Jvm.MethodName) prog_16_method_17_code (5 : Nat) (Option.some Jvm.ClassFile.FieldType.int)) ∈ lw_all := lw_g (lw_at lw_m5 194 rfl) rfl
theorem q1232 : (Jvm.Cond.methodLink "OneBearsModel" (193 : Nat) ({ cls := "OneBearsModel", name := "term", desc := "()I" } : Jvm.MethodName)) ∈ lw_all := lw_g (lw_at lw_m5 195 rfl) rfl
theorem q1233 : (Jvm.Cond.privateMethod ({ cls := "OneBearsModel", name := "term", desc := "()I" } : Jvm.MethodName)) ∈ lw_tbl := lw_at lw_m5 196 rfl
theorem q1234 : (Jvm.Cond.instanceMethod ({ cls := "OneBearsModel", name := "term", desc := "()I" } : Jvm.MethodName)) ∈ lw_all := lw_g (lw_at lw_m5 197 rfl) rfl
theorem q1235 : (Jvm.Cond.code ({ cls := "OneBearsModel", name := "term", desc := "()I" } : Jvm.MethodName) prog_16_method_16_code (5 : Nat) (Option.some Jvm.ClassFile.FieldType.int)) ∈ lw_all := lw_g (lw_at lw_m5 198 rfl) rfl
theorem q1236 : (Jvm.Cond.methodLink "OneBearsModel" (186 : Nat) ({ cls := "OneBearsModel", name := "atom", desc := "()I" } : Jvm.MethodName)) ∈ lw_all := lw_g (lw_at lw_m5 199 rfl) rfl
theorem q1237 : (Jvm.Cond.privateMethod ({ cls := "OneBearsModel", name := "atom", desc := "()I" } : Jvm.MethodName)) ∈ lw_tbl := lw_at lw_m5 200 rfl
theorem q1238 : (Jvm.Cond.instanceMethod ({ cls := "OneBearsModel", name := "atom", desc := "()I" } : Jvm.MethodName)) ∈ lw_all := lw_g (lw_at lw_m5 201 rfl) rfl
theorem q1239 : (Jvm.Cond.code ({ cls := "OneBearsModel", name := "atom", desc := "()I" } : Jvm.MethodName) prog_16_method_15_code (4 : Nat) (Option.some Jvm.ClassFile.FieldType.int)) ∈ lw_all := lw_g (lw_at lw_m5 202 rfl) rfl
theorem q1240 : (Jvm.Cond.methodLink "OneBearsModel" (173 : Nat) ({ cls := "OneBearsModel", name := "goesIn", desc := "()Z" } : Jvm.MethodName)) ∈ lw_all := lw_g (lw_at lw_m5 203 rfl) rfl
theorem q1241 : (Jvm.Cond.privateMethod ({ cls := "OneBearsModel", name := "goesIn", desc := "()Z" } : Jvm.MethodName)) ∈ lw_tbl := lw_at lw_m5 204 rfl
theorem q1242 : (Jvm.Cond.instanceMethod ({ cls := "OneBearsModel", name := "goesIn", desc := "()Z" } : Jvm.MethodName)) ∈ lw_all := lw_g (lw_at lw_m5 205 rfl) rfl
theorem q1243 : (Jvm.Cond.code ({ cls := "OneBearsModel", name := "goesIn", desc := "()Z" } : Jvm.MethodName) prog_16_method_11_code (1 : Nat) (Option.some Jvm.ClassFile.FieldType.boolean)) ∈ lw_all := lw_g (lw_at lw_m5 206 rfl) rfl
theorem q1244 : (Jvm.Cond.methodLink "OneBearsModel" (183 : Nat) ({ cls := "OneBearsModel", name := "isDigit", desc := "()Z" } : Jvm.MethodName)) ∈ lw_all := lw_g (lw_at lw_m5 207 rfl) rfl
theorem q1245 : (Jvm.Cond.privateMethod ({ cls := "OneBearsModel", name := "isDigit", desc := "()Z" } : Jvm.MethodName)) ∈ lw_tbl := lw_at lw_m5 208 rfl
theorem q1246 : (Jvm.Cond.instanceMethod ({ cls := "OneBearsModel", name := "isDigit", desc := "()Z" } : Jvm.MethodName)) ∈ lw_all := lw_g (lw_at lw_m5 209 rfl) rfl
theorem q1247 : (Jvm.Cond.code ({ cls := "OneBearsModel", name := "isDigit", desc := "()Z" } : Jvm.MethodName) prog_16_method_13_code (1 : Nat) (Option.some Jvm.ClassFile.FieldType.boolean)) ∈ lw_all := lw_g (lw_at lw_m5 210 rfl) rfl
theorem q1248 : (Jvm.Cond.methodLink "OneBearsModel" (189 : Nat) ({ cls := "OneBearsModel", name := "within", desc := "(J)I" } : Jvm.MethodName)) ∈ lw_all := lw_g (lw_at lw_m5 211 rfl) rfl
theorem q1249 : (Jvm.Cond.static ({ cls := "OneBearsModel", name := "within", desc := "(J)I" } : Jvm.MethodName)) ∈ lw_all := lw_g (lw_at lw_m5 212 rfl) rfl
theorem q1250 : (Jvm.Cond.code ({ cls := "OneBearsModel", name := "within", desc := "(J)I" } : Jvm.MethodName) prog_16_method_14_code (2 : Nat) (Option.some Jvm.ClassFile.FieldType.int)) ∈ lw_all := lw_g (lw_at lw_m5 213 rfl) rfl
theorem q1251 : (Jvm.Cond.constantLong "OneBearsModel" (156 : Nat) (-1000000 : Int64)) ∈ lw_all := lw_g (lw_at lw_m5 214 rfl) rfl
theorem q1252 : (Jvm.Cond.constantLong "OneBearsModel" (158 : Nat) (1000000 : Int64)) ∈ lw_all := lw_g (lw_at lw_m5 215 rfl) rfl
theorem q1253 : (Jvm.Cond.methodLink "OneBearsModel" (160 : Nat) ({ cls := "java/lang/Math", name := "min", desc := "(JJ)J" } : Jvm.MethodName)) ∈ lw_all := lw_g (lw_at lw_m5 216 rfl) rfl
theorem q1254 : (Jvm.Cond.methodLink "OneBearsModel" (166 : Nat) ({ cls := "java/lang/Math", name := "max", desc := "(JJ)J" } : Jvm.MethodName)) ∈ lw_all := lw_g (lw_at lw_m5 217 rfl) rfl
theorem q1255 : (Jvm.Cond.methodLink "OneBearsModel" (196 : Nat) ({ cls := "OneBearsModel", name := "isSign", desc := "(I)Z" } : Jvm.MethodName)) ∈ lw_all := lw_g (lw_at lw_m5 218 rfl) rfl
theorem q1256 : (Jvm.Cond.static ({ cls := "OneBearsModel", name := "isSign", desc := "(I)Z" } : Jvm.MethodName)) ∈ lw_all := lw_g (lw_at lw_m5 219 rfl) rfl
theorem q1257 : (Jvm.Cond.code ({ cls := "OneBearsModel", name := "isSign", desc := "(I)Z" } : Jvm.MethodName) prog_16_method_18_code (1 : Nat) (Option.some Jvm.ClassFile.FieldType.boolean)) ∈ lw_all := lw_g (lw_at lw_m5 220 rfl) rfl
theorem q1258 : (Jvm.Cond.methodLink "OneBearsModel" (199 : Nat) ({ cls := "OneBearsModel", name := "unit", desc := "()Z" } : Jvm.MethodName)) ∈ lw_all := lw_g (lw_at lw_m5 221 rfl) rfl
theorem q1259 : (Jvm.Cond.privateMethod ({ cls := "OneBearsModel", name := "unit", desc := "()Z" } : Jvm.MethodName)) ∈ lw_tbl := lw_at lw_m5 222 rfl
theorem q1260 : (Jvm.Cond.instanceMethod ({ cls := "OneBearsModel", name := "unit", desc := "()Z" } : Jvm.MethodName)) ∈ lw_all := lw_g (lw_at lw_m5 223 rfl) rfl
theorem q1261 : (Jvm.Cond.code ({ cls := "OneBearsModel", name := "unit", desc := "()Z" } : Jvm.MethodName) prog_16_method_20_code (3 : Nat) (Option.some Jvm.ClassFile.FieldType.boolean)) ∈ lw_all := lw_g (lw_at lw_m5 224 rfl) rfl
theorem q1263 : (Jvm.Cond.instanceMethod ({ cls := "OneBearsModel", name := "law", desc := "()I" } : Jvm.MethodName)) ∈ lw_all := lw_g (lw_at lw_m5 226 rfl) rfl
theorem q1264 : (Jvm.Cond.selects "OneBearsModel" ({ cls := "OneBearsModel", name := "law", desc := "()I" } : Jvm.MethodName) ({ cls := "OneBearsModel", name := "law", desc := "()I" } : Jvm.MethodName)) ∈ lw_all := lw_g (lw_at lw_m5 227 rfl) rfl
theorem q1265 : (Jvm.Cond.code ({ cls := "OneBearsModel", name := "law", desc := "()I" } : Jvm.MethodName) prog_16_method_26_code (2 : Nat) (Option.some Jvm.ClassFile.FieldType.int)) ∈ lw_all := lw_g (lw_at lw_m5 228 rfl) rfl
theorem q1267 : (Jvm.Cond.instanceMethod ({ cls := "OneBearsModel", name := "animal", desc := "(III)I" } : Jvm.MethodName)) ∈ lw_all := lw_g (lw_at lw_m5 230 rfl) rfl
theorem q1268 : (Jvm.Cond.selects "OneBearsModel" ({ cls := "OneBearsModel", name := "animal", desc := "(III)I" } : Jvm.MethodName) ({ cls := "OneBearsModel", name := "animal", desc := "(III)I" } : Jvm.MethodName)) ∈ lw_all := lw_g (lw_at lw_m5 231 rfl) rfl
theorem q1269 : (Jvm.Cond.code ({ cls := "OneBearsModel", name := "animal", desc := "(III)I" } : Jvm.MethodName) prog_16_method_30_code (5 : Nat) (Option.some Jvm.ClassFile.FieldType.int)) ∈ lw_all := lw_g (lw_at lw_m5 232 rfl) rfl
theorem q1270 : (Jvm.Cond.methodLink "OneBearsModel" (235 : Nat) ({ cls := "OneBearsModel", name := "isIn", desc := "(III)Z" } : Jvm.MethodName)) ∈ lw_all := lw_g (lw_at lw_m5 233 rfl) rfl
theorem q1271 : (Jvm.Cond.static ({ cls := "OneBearsModel", name := "isIn", desc := "(III)Z" } : Jvm.MethodName)) ∈ lw_all := lw_g (lw_at lw_m5 234 rfl) rfl
theorem q1272 : (Jvm.Cond.code ({ cls := "OneBearsModel", name := "isIn", desc := "(III)Z" } : Jvm.MethodName) prog_16_method_3_code (3 : Nat) (Option.some Jvm.ClassFile.FieldType.boolean)) ∈ lw_all := lw_g (lw_at lw_m5 235 rfl) rfl
theorem q1273 : (Jvm.Cond.methodLink "OneBearsModel" (239 : Nat) ({ cls := "OneBearsModel", name := "isAnimal", desc := "(I)Z" } : Jvm.MethodName)) ∈ lw_all := lw_g (lw_at lw_m5 236 rfl) rfl
theorem q1274 : (Jvm.Cond.privateMethod ({ cls := "OneBearsModel", name := "isAnimal", desc := "(I)Z" } : Jvm.MethodName)) ∈ lw_tbl := lw_at lw_m5 237 rfl
theorem q1275 : (Jvm.Cond.instanceMethod ({ cls := "OneBearsModel", name := "isAnimal", desc := "(I)Z" } : Jvm.MethodName)) ∈ lw_all := lw_g (lw_at lw_m5 238 rfl) rfl
theorem q1276 : (Jvm.Cond.code ({ cls := "OneBearsModel", name := "isAnimal", desc := "(I)Z" } : Jvm.MethodName) prog_16_method_29_code (2 : Nat) (Option.some Jvm.ClassFile.FieldType.boolean)) ∈ lw_all := lw_g (lw_at lw_m5 239 rfl) rfl
theorem q1278 : (Jvm.Cond.instanceMethod ({ cls := "OneBearsModel", name := "kin", desc := "(II)J" } : Jvm.MethodName)) ∈ lw_all := lw_g (lw_at lw_m6 1 rfl) rfl
theorem q1279 : (Jvm.Cond.selects "OneBearsModel" ({ cls := "OneBearsModel", name := "kin", desc := "(II)J" } : Jvm.MethodName) ({ cls := "OneBearsModel", name := "kin", desc := "(II)J" } : Jvm.MethodName)) ∈ lw_all := lw_g (lw_at lw_m6 2 rfl) rfl
theorem q1280 : (Jvm.Cond.code ({ cls := "OneBearsModel", name := "kin", desc := "(II)J" } : Jvm.MethodName) prog_16_method_34_code (3 : Nat) (Option.some Jvm.ClassFile.FieldType.long)) ∈ lw_all := lw_g (lw_at lw_m6 3 rfl) rfl
theorem q1281 : (Jvm.Cond.constantLong "OneBearsModel" (250 : Nat) (-1000 : Int64)) ∈ lw_all := lw_g (lw_at lw_m6 4 rfl) rfl
theorem q1282 : (Jvm.Cond.methodLink "OneBearsModel" (252 : Nat) ({ cls := "OneBearsModel", name := "begin", desc := "(IJ)V" } : Jvm.MethodName)) ∈ lw_all := lw_g (lw_at lw_m6 5 rfl) rfl
theorem q1283 : (Jvm.Cond.privateMethod ({ cls := "OneBearsModel", name := "begin", desc := "(IJ)V" } : Jvm.MethodName)) ∈ lw_tbl := lw_at lw_m6 6 rfl
theorem q1284 : (Jvm.Cond.instanceMethod ({ cls := "OneBearsModel", name := "begin", desc := "(IJ)V" } : Jvm.MethodName)) ∈ lw_all := lw_g (lw_at lw_m6 7 rfl) rfl
theorem q1285 : (Jvm.Cond.code ({ cls := "OneBearsModel", name := "begin", desc := "(IJ)V" } : Jvm.MethodName) prog_16_method_45_code (5 : Nat) (Option.none : Option Jvm.ClassFile.FieldType)) ∈ lw_all := lw_g (lw_at lw_m6 8 rfl) rfl
theorem q1286 : (Jvm.Cond.methodLink "OneBearsModel" (278 : Nat) ({ cls := "OneBearsModel", name := "isThere", desc := "(I)Z" } : Jvm.MethodName)) ∈ lw_all := lw_g (lw_at lw_m6 9 rfl) rfl
theorem q1287 : (Jvm.Cond.privateMethod ({ cls := "OneBearsModel", name := "isThere", desc := "(I)Z" } : Jvm.MethodName)) ∈ lw_tbl := lw_at lw_m6 10 rfl
theorem q1288 : (Jvm.Cond.instanceMethod ({ cls := "OneBearsModel", name := "isThere", desc := "(I)Z" } : Jvm.MethodName)) ∈ lw_all := lw_g (lw_at lw_m6 11 rfl) rfl
theorem q1289 : (Jvm.Cond.code ({ cls := "OneBearsModel", name := "isThere", desc := "(I)Z" } : Jvm.MethodName) prog_16_method_43_code (2 : Nat) (Option.some Jvm.ClassFile.FieldType.boolean)) ∈ lw_all := lw_g (lw_at lw_m6 12 rfl) rfl
theorem q1290 : (Jvm.Cond.methodLink "OneBearsModel" (306 : Nat) ({ cls := "OneBearsModel", name := "layKins", desc := "(I)V" } : Jvm.MethodName)) ∈ lw_all := lw_g (lw_at lw_m6 13 rfl) rfl
theorem q1291 : (Jvm.Cond.privateMethod ({ cls := "OneBearsModel", name := "layKins", desc := "(I)V" } : Jvm.MethodName)) ∈ lw_tbl := lw_at lw_m6 14 rfl
theorem q1292 : (Jvm.Cond.instanceMethod ({ cls := "OneBearsModel", name := "layKins", desc := "(I)V" } : Jvm.MethodName)) ∈ lw_all := lw_g (lw_at lw_m6 15 rfl) rfl
theorem q1293 : (Jvm.Cond.code ({ cls := "OneBearsModel", name := "layKins", desc := "(I)V" } : Jvm.MethodName) prog_16_method_31_code (7 : Nat) (Option.none : Option Jvm.ClassFile.FieldType)) ∈ lw_all := lw_g (lw_at lw_m6 16 rfl) rfl
theorem q1294 : (Jvm.Cond.constantLong "OneBearsModel" (242 : Nat) (2 : Int64)) ∈ lw_all := lw_g (lw_at lw_m6 17 rfl) rfl
theorem q1295 : (Jvm.Cond.constantLong "OneBearsModel" (244 : Nat) (576460752303423488 : Int64)) ∈ lw_all := lw_g (lw_at lw_m6 18 rfl) rfl
theorem q1296 : (Jvm.Cond.methodLink "OneBearsModel" (246 : Nat) ({ cls := "OneBearsModel", name := "kinOf", desc := "(II)J" } : Jvm.MethodName)) ∈ lw_all := lw_g (lw_at lw_m6 19 rfl) rfl
theorem q1297 : (Jvm.Cond.privateMethod ({ cls := "OneBearsModel", name := "kinOf", desc := "(II)J" } : Jvm.MethodName)) ∈ lw_tbl := lw_at lw_m6 20 rfl
theorem q1298 : (Jvm.Cond.instanceMethod ({ cls := "OneBearsModel", name := "kinOf", desc := "(II)J" } : Jvm.MethodName)) ∈ lw_all := lw_g (lw_at lw_m6 21 rfl) rfl
theorem q1299 : (Jvm.Cond.code ({ cls := "OneBearsModel", name := "kinOf", desc := "(II)J" } : Jvm.MethodName) prog_16_method_32_code (3 : Nat) (Option.some Jvm.ClassFile.FieldType.long)) ∈ lw_all := lw_g (lw_at lw_m6 22 rfl) rfl
theorem q1301 : (Jvm.Cond.instanceMethod ({ cls := "OneBearsModel", name := "young", desc := "(III)J" } : Jvm.MethodName)) ∈ lw_all := lw_g (lw_at lw_m6 24 rfl) rfl
theorem q1302 : (Jvm.Cond.selects "OneBearsModel" ({ cls := "OneBearsModel", name := "young", desc := "(III)J" } : Jvm.MethodName) ({ cls := "OneBearsModel", name := "young", desc := "(III)J" } : Jvm.MethodName)) ∈ lw_all := lw_g (lw_at lw_m6 25 rfl) rfl
theorem q1303 : (Jvm.Cond.code ({ cls := "OneBearsModel", name := "young", desc := "(III)J" } : Jvm.MethodName) prog_16_method_35_code (4 : Nat) (Option.some Jvm.ClassFile.FieldType.long)) ∈ lw_all := lw_g (lw_at lw_m6 26 rfl) rfl
theorem q1304 : (Jvm.Cond.methodLink "OneBearsModel" (256 : Nat) ({ cls := "OneBearsModel", name := "kinWithYoung", desc := "(III)J" } : Jvm.MethodName)) ∈ lw_all := lw_g (lw_at lw_m6 27 rfl) rfl
theorem q1305 : (Jvm.Cond.privateMethod ({ cls := "OneBearsModel", name := "kinWithYoung", desc := "(III)J" } : Jvm.MethodName)) ∈ lw_tbl := lw_at lw_m6 28 rfl
theorem q1306 : (Jvm.Cond.instanceMethod ({ cls := "OneBearsModel", name := "kinWithYoung", desc := "(III)J" } : Jvm.MethodName)) ∈ lw_all := lw_g (lw_at lw_m6 29 rfl) rfl
theorem q1307 : (Jvm.Cond.code ({ cls := "OneBearsModel", name := "kinWithYoung", desc := "(III)J" } : Jvm.MethodName) prog_16_method_33_code (4 : Nat) (Option.some Jvm.ClassFile.FieldType.long)) ∈ lw_all := lw_g (lw_at lw_m6 30 rfl) rfl
theorem q1309 : (Jvm.Cond.instanceMethod ({ cls := "OneBearsModel", name := "worthIt", desc := "(IIIII)I" } : Jvm.MethodName)) ∈ lw_all := lw_g (lw_at lw_m6 32 rfl) rfl
theorem q1310 : (Jvm.Cond.selects "OneBearsModel" ({ cls := "OneBearsModel", name := "worthIt", desc := "(IIIII)I" } : Jvm.MethodName) ({ cls := "OneBearsModel", name := "worthIt", desc := "(IIIII)I" } : Jvm.MethodName)) ∈ lw_all := lw_g (lw_at lw_m6 33 rfl) rfl
theorem q1311 : (Jvm.Cond.code ({ cls := "OneBearsModel", name := "worthIt", desc := "(IIIII)I" } : Jvm.MethodName) prog_16_method_36_code (11 : Nat) (Option.some Jvm.ClassFile.FieldType.int)) ∈ lw_all := lw_g (lw_at lw_m6 34 rfl) rfl
theorem q1313 : (Jvm.Cond.instanceMethod ({ cls := "OneBearsModel", name := "reign", desc := "(II)Z" } : Jvm.MethodName)) ∈ lw_all := lw_g (lw_at lw_m6 36 rfl) rfl
theorem q1314 : (Jvm.Cond.selects "OneBearsModel" ({ cls := "OneBearsModel", name := "reign", desc := "(II)Z" } : Jvm.MethodName) ({ cls := "OneBearsModel", name := "reign", desc := "(II)Z" } : Jvm.MethodName)) ∈ lw_all := lw_g (lw_at lw_m6 37 rfl) rfl
theorem q1315 : (Jvm.Cond.code ({ cls := "OneBearsModel", name := "reign", desc := "(II)Z" } : Jvm.MethodName) prog_16_method_37_code (3 : Nat) (Option.some Jvm.ClassFile.FieldType.boolean)) ∈ lw_all := lw_g (lw_at lw_m6 38 rfl) rfl
theorem q1317 : (Jvm.Cond.instanceMethod ({ cls := "OneBearsModel", name := "set", desc := "(II)Z" } : Jvm.MethodName)) ∈ lw_all := lw_g (lw_at lw_m6 40 rfl) rfl
theorem q1318 : (Jvm.Cond.selects "OneBearsModel" ({ cls := "OneBearsModel", name := "set", desc := "(II)Z" } : Jvm.MethodName) ({ cls := "OneBearsModel", name := "set", desc := "(II)Z" } : Jvm.MethodName)) ∈ lw_all := lw_g (lw_at lw_m6 41 rfl) rfl
theorem q1319 : (Jvm.Cond.code ({ cls := "OneBearsModel", name := "set", desc := "(II)Z" } : Jvm.MethodName) prog_16_method_40_code (3 : Nat) (Option.some Jvm.ClassFile.FieldType.boolean)) ∈ lw_all := lw_g (lw_at lw_m6 42 rfl) rfl
theorem q1320 : (Jvm.Cond.methodLink "OneBearsModel" (260 : Nat) ({ cls := "OneBearsModel", name := "leastOf", desc := "(I)I" } : Jvm.MethodName)) ∈ lw_all := lw_g (lw_at lw_m6 43 rfl) rfl
theorem q1321 : (Jvm.Cond.static ({ cls := "OneBearsModel", name := "leastOf", desc := "(I)I" } : Jvm.MethodName)) ∈ lw_all := lw_g (lw_at lw_m6 44 rfl) rfl
theorem q1322 : (Jvm.Cond.code ({ cls := "OneBearsModel", name := "leastOf", desc := "(I)I" } : Jvm.MethodName) prog_16_method_38_code (1 : Nat) (Option.some Jvm.ClassFile.FieldType.int)) ∈ lw_all := lw_g (lw_at lw_m6 45 rfl) rfl
theorem q1323 : (Jvm.Cond.methodLink "OneBearsModel" (263 : Nat) ({ cls := "OneBearsModel", name := "mostOf", desc := "(I)I" } : Jvm.MethodName)) ∈ lw_all := lw_g (lw_at lw_m6 46 rfl) rfl
theorem q1324 : (Jvm.Cond.static ({ cls := "OneBearsModel", name := "mostOf", desc := "(I)I" } : Jvm.MethodName)) ∈ lw_all := lw_g (lw_at lw_m6 47 rfl) rfl
theorem q1325 : (Jvm.Cond.code ({ cls := "OneBearsModel", name := "mostOf", desc := "(I)I" } : Jvm.MethodName) prog_16_method_39_code (1 : Nat) (Option.some Jvm.ClassFile.FieldType.int)) ∈ lw_all := lw_g (lw_at lw_m6 48 rfl) rfl
theorem q1327 : (Jvm.Cond.instanceMethod ({ cls := "OneBearsModel", name := "told", desc := "(I)I" } : Jvm.MethodName)) ∈ lw_all := lw_g (lw_at lw_m6 50 rfl) rfl
theorem q1328 : (Jvm.Cond.selects "OneBearsModel" ({ cls := "OneBearsModel", name := "told", desc := "(I)I" } : Jvm.MethodName) ({ cls := "OneBearsModel", name := "told", desc := "(I)I" } : Jvm.MethodName)) ∈ lw_all := lw_g (lw_at lw_m6 51 rfl) rfl
theorem q1329 : (Jvm.Cond.code ({ cls := "OneBearsModel", name := "told", desc := "(I)I" } : Jvm.MethodName) prog_16_method_41_code (2 : Nat) (Option.some Jvm.ClassFile.FieldType.int)) ∈ lw_all := lw_g (lw_at lw_m6 52 rfl) rfl
theorem q1331 : (Jvm.Cond.instanceMethod ({ cls := "OneBearsModel", name := "rain", desc := "(III)Z" } : Jvm.MethodName)) ∈ lw_all := lw_g (lw_at lw_m6 54 rfl) rfl
theorem q1332 : (Jvm.Cond.selects "OneBearsModel" ({ cls := "OneBearsModel", name := "rain", desc := "(III)Z" } : Jvm.MethodName) ({ cls := "OneBearsModel", name := "rain", desc := "(III)Z" } : Jvm.MethodName)) ∈ lw_all := lw_g (lw_at lw_m6 55 rfl) rfl
theorem q1333 : (Jvm.Cond.code ({ cls := "OneBearsModel", name := "rain", desc := "(III)Z" } : Jvm.MethodName) prog_16_method_42_code (5 : Nat) (Option.some Jvm.ClassFile.FieldType.boolean)) ∈ lw_all := lw_g (lw_at lw_m6 56 rfl) rfl
theorem q1335 : (Jvm.Cond.instanceMethod ({ cls := "OneBearsModel", name := "worth", desc := "(III)I" } : Jvm.MethodName)) ∈ lw_all := lw_g (lw_at lw_m6 58 rfl) rfl
theorem q1336 : (Jvm.Cond.selects "OneBearsModel" ({ cls := "OneBearsModel", name := "worth", desc := "(III)I" } : Jvm.MethodName) ({ cls := "OneBearsModel", name := "worth", desc := "(III)I" } : Jvm.MethodName)) ∈ lw_all := lw_g (lw_at lw_m6 59 rfl) rfl
theorem q1337 : (Jvm.Cond.code ({ cls := "OneBearsModel", name := "worth", desc := "(III)I" } : Jvm.MethodName) prog_16_method_59_code (4 : Nat) (Option.some Jvm.ClassFile.FieldType.int)) ∈ lw_all := lw_g (lw_at lw_m6 60 rfl) rfl
theorem q1338 : (Jvm.Cond.methodLink "OneBearsModel" (363 : Nat) ({ cls := "OneBearsModel", name := "isLaw", desc := "(I)Z" } : Jvm.MethodName)) ∈ lw_all := lw_g (lw_at lw_m6 61 rfl) rfl
theorem q1339 : (Jvm.Cond.privateMethod ({ cls := "OneBearsModel", name := "isLaw", desc := "(I)Z" } : Jvm.MethodName)) ∈ lw_tbl := lw_at lw_m6 62 rfl
theorem q1340 : (Jvm.Cond.instanceMethod ({ cls := "OneBearsModel", name := "isLaw", desc := "(I)Z" } : Jvm.MethodName)) ∈ lw_all := lw_g (lw_at lw_m6 63 rfl) rfl
theorem q1341 : (Jvm.Cond.code ({ cls := "OneBearsModel", name := "isLaw", desc := "(I)Z" } : Jvm.MethodName) prog_16_method_27_code (2 : Nat) (Option.some Jvm.ClassFile.FieldType.boolean)) ∈ lw_all := lw_g (lw_at lw_m6 64 rfl) rfl
theorem q1342 : (Jvm.Cond.methodLink "OneBearsModel" (342 : Nat) ({ cls := "OneBearsModel", name := "dies", desc := "()V" } : Jvm.MethodName)) ∈ lw_all := lw_g (lw_at lw_m6 65 rfl) rfl
theorem q1343 : (Jvm.Cond.privateMethod ({ cls := "OneBearsModel", name := "dies", desc := "()V" } : Jvm.MethodName)) ∈ lw_tbl := lw_at lw_m6 66 rfl
theorem q1344 : (Jvm.Cond.instanceMethod ({ cls := "OneBearsModel", name := "dies", desc := "()V" } : Jvm.MethodName)) ∈ lw_all := lw_g (lw_at lw_m6 67 rfl) rfl
theorem q1345 : (Jvm.Cond.code ({ cls := "OneBearsModel", name := "dies", desc := "()V" } : Jvm.MethodName) prog_16_method_48_code (1 : Nat) (Option.none : Option Jvm.ClassFile.FieldType)) ∈ lw_all := lw_g (lw_at lw_m6 68 rfl) rfl
theorem q1346 : (Jvm.Cond.methodLink "OneBearsModel" (315 : Nat) ({ cls := "OneBearsModel", name := "over", desc := "(II)V" } : Jvm.MethodName)) ∈ lw_all := lw_g (lw_at lw_m6 69 rfl) rfl
theorem q1347 : (Jvm.Cond.privateMethod ({ cls := "OneBearsModel", name := "over", desc := "(II)V" } : Jvm.MethodName)) ∈ lw_tbl := lw_at lw_m6 70 rfl
theorem q1348 : (Jvm.Cond.instanceMethod ({ cls := "OneBearsModel", name := "over", desc := "(II)V" } : Jvm.MethodName)) ∈ lw_all := lw_g (lw_at lw_m6 71 rfl) rfl
theorem q1349 : (Jvm.Cond.code ({ cls := "OneBearsModel", name := "over", desc := "(II)V" } : Jvm.MethodName) prog_16_method_47_code (3 : Nat) (Option.none : Option Jvm.ClassFile.FieldType)) ∈ lw_all := lw_g (lw_at lw_m6 72 rfl) rfl
theorem q1350 : (Jvm.Cond.methodLink "OneBearsModel" (325 : Nat) ({ cls := "OneBearsModel", name := "layLetters", desc := "(I)V" } : Jvm.MethodName)) ∈ lw_all := lw_g (lw_at lw_m6 73 rfl) rfl
theorem q1351 : (Jvm.Cond.privateMethod ({ cls := "OneBearsModel", name := "layLetters", desc := "(I)V" } : Jvm.MethodName)) ∈ lw_tbl := lw_at lw_m6 74 rfl
theorem q1352 : (Jvm.Cond.instanceMethod ({ cls := "OneBearsModel", name := "layLetters", desc := "(I)V" } : Jvm.MethodName)) ∈ lw_all := lw_g (lw_at lw_m6 75 rfl) rfl
theorem q1353 : (Jvm.Cond.code ({ cls := "OneBearsModel", name := "layLetters", desc := "(I)V" } : Jvm.MethodName) prog_16_method_50_code (2 : Nat) (Option.none : Option Jvm.ClassFile.FieldType)) ∈ lw_all := lw_g (lw_at lw_m6 76 rfl) rfl
theorem q1354 : (Jvm.Cond.methodLink "OneBearsModel" (319 : Nat) ({ cls := "OneBearsModel", name := "there", desc := "()I" } : Jvm.MethodName)) ∈ lw_all := lw_g (lw_at lw_m6 77 rfl) rfl
theorem q1355 : (Jvm.Cond.privateMethod ({ cls := "OneBearsModel", name := "there", desc := "()I" } : Jvm.MethodName)) ∈ lw_tbl := lw_at lw_m6 78 rfl
theorem q1356 : (Jvm.Cond.instanceMethod ({ cls := "OneBearsModel", name := "there", desc := "()I" } : Jvm.MethodName)) ∈ lw_all := lw_g (lw_at lw_m6 79 rfl) rfl
theorem q1357 : (Jvm.Cond.code ({ cls := "OneBearsModel", name := "there", desc := "()I" } : Jvm.MethodName) prog_16_method_44_code (3 : Nat) (Option.some Jvm.ClassFile.FieldType.int)) ∈ lw_all := lw_g (lw_at lw_m6 80 rfl) rfl
theorem q1358 : (Jvm.Cond.methodLink "OneBearsModel" (322 : Nat) ({ cls := "OneBearsModel", name := "rainNow", desc := "()I" } : Jvm.MethodName)) ∈ lw_all := lw_g (lw_at lw_m6 81 rfl) rfl
theorem q1359 : (Jvm.Cond.privateMethod ({ cls := "OneBearsModel", name := "rainNow", desc := "()I" } : Jvm.MethodName)) ∈ lw_tbl := lw_at lw_m6 82 rfl
theorem q1360 : (Jvm.Cond.instanceMethod ({ cls := "OneBearsModel", name := "rainNow", desc := "()I" } : Jvm.MethodName)) ∈ lw_all := lw_g (lw_at lw_m6 83 rfl) rfl
theorem q1361 : (Jvm.Cond.code ({ cls := "OneBearsModel", name := "rainNow", desc := "()I" } : Jvm.MethodName) prog_16_method_49_code (1 : Nat) (Option.some Jvm.ClassFile.FieldType.int)) ∈ lw_all := lw_g (lw_at lw_m6 84 rfl) rfl
theorem q1362 : (Jvm.Cond.methodLink "OneBearsModel" (328 : Nat) ({ cls := "OneBearsModel", name := "worthOf", desc := "(II)I" } : Jvm.MethodName)) ∈ lw_all := lw_g (lw_at lw_m6 85 rfl) rfl
theorem q1363 : (Jvm.Cond.privateMethod ({ cls := "OneBearsModel", name := "worthOf", desc := "(II)I" } : Jvm.MethodName)) ∈ lw_tbl := lw_at lw_m6 86 rfl
theorem q1364 : (Jvm.Cond.instanceMethod ({ cls := "OneBearsModel", name := "worthOf", desc := "(II)I" } : Jvm.MethodName)) ∈ lw_all := lw_g (lw_at lw_m6 87 rfl) rfl
theorem q1365 : (Jvm.Cond.code ({ cls := "OneBearsModel", name := "worthOf", desc := "(II)I" } : Jvm.MethodName) prog_16_method_28_code (3 : Nat) (Option.some Jvm.ClassFile.FieldType.int)) ∈ lw_all := lw_g (lw_at lw_m6 88 rfl) rfl
theorem q1367 : (Jvm.Cond.instanceMethod ({ cls := "OneBearsModel", name := "run", desc := "(IJIII)I" } : Jvm.MethodName)) ∈ lw_all := lw_g (lw_at lw_m6 90 rfl) rfl
theorem q1368 : (Jvm.Cond.selects "OneBearsModel" ({ cls := "OneBearsModel", name := "run", desc := "(IJIII)I" } : Jvm.MethodName) ({ cls := "OneBearsModel", name := "run", desc := "(IJIII)I" } : Jvm.MethodName)) ∈ lw_all := lw_g (lw_at lw_m6 91 rfl) rfl
theorem q1369 : (Jvm.Cond.code ({ cls := "OneBearsModel", name := "run", desc := "(IJIII)I" } : Jvm.MethodName) prog_16_method_60_code (7 : Nat) (Option.some Jvm.ClassFile.FieldType.int)) ∈ lw_all := lw_g (lw_at lw_m6 92 rfl) rfl
theorem q1370 : (Jvm.Cond.methodLink "OneBearsModel" (366 : Nat) ({ cls := "OneBearsModel", name := "runOf", desc := "(IJI)V" } : Jvm.MethodName)) ∈ lw_all := lw_g (lw_at lw_m6 93 rfl) rfl
theorem q1371 : (Jvm.Cond.privateMethod ({ cls := "OneBearsModel", name := "runOf", desc := "(IJI)V" } : Jvm.MethodName)) ∈ lw_tbl := lw_at lw_m6 94 rfl
theorem q1372 : (Jvm.Cond.instanceMethod ({ cls := "OneBearsModel", name := "runOf", desc := "(IJI)V" } : Jvm.MethodName)) ∈ lw_all := lw_g (lw_at lw_m6 95 rfl) rfl
theorem q1373 : (Jvm.Cond.code ({ cls := "OneBearsModel", name := "runOf", desc := "(IJI)V" } : Jvm.MethodName) prog_16_method_58_code (5 : Nat) (Option.none : Option Jvm.ClassFile.FieldType)) ∈ lw_all := lw_g (lw_at lw_m6 96 rfl) rfl
theorem q1374 : (Jvm.Cond.methodLink "OneBearsModel" (360 : Nat) ({ cls := "OneBearsModel", name := "goOn", desc := "(II)V" } : Jvm.MethodName)) ∈ lw_all := lw_g (lw_at lw_m6 97 rfl) rfl
theorem q1375 : (Jvm.Cond.privateMethod ({ cls := "OneBearsModel", name := "goOn", desc := "(II)V" } : Jvm.MethodName)) ∈ lw_tbl := lw_at lw_m6 98 rfl
theorem q1376 : (Jvm.Cond.instanceMethod ({ cls := "OneBearsModel", name := "goOn", desc := "(II)V" } : Jvm.MethodName)) ∈ lw_all := lw_g (lw_at lw_m6 99 rfl) rfl
theorem q1377 : (Jvm.Cond.code ({ cls := "OneBearsModel", name := "goOn", desc := "(II)V" } : Jvm.MethodName) prog_16_method_57_code (3 : Nat) (Option.none : Option Jvm.ClassFile.FieldType)) ∈ lw_all := lw_g (lw_at lw_m6 100 rfl) rfl
theorem q1378 : (Jvm.Cond.methodLink "OneBearsModel" (357 : Nat) ({ cls := "OneBearsModel", name := "goesBy", desc := "(I)V" } : Jvm.MethodName)) ∈ lw_all := lw_g (lw_at lw_m6 101 rfl) rfl
theorem q1379 : (Jvm.Cond.privateMethod ({ cls := "OneBearsModel", name := "goesBy", desc := "(I)V" } : Jvm.MethodName)) ∈ lw_tbl := lw_at lw_m6 102 rfl
theorem q1380 : (Jvm.Cond.instanceMethod ({ cls := "OneBearsModel", name := "goesBy", desc := "(I)V" } : Jvm.MethodName)) ∈ lw_all := lw_g (lw_at lw_m6 103 rfl) rfl
theorem q1381 : (Jvm.Cond.code ({ cls := "OneBearsModel", name := "goesBy", desc := "(I)V" } : Jvm.MethodName) prog_16_method_56_code (4 : Nat) (Option.none : Option Jvm.ClassFile.FieldType)) ∈ lw_all := lw_g (lw_at lw_m6 104 rfl) rfl
theorem q1382 : (Jvm.Cond.methodLink "OneBearsModel" (345 : Nat) ({ cls := "OneBearsModel", name := "asks", desc := "(I)V" } : Jvm.MethodName)) ∈ lw_all := lw_g (lw_at lw_m6 105 rfl) rfl
theorem q1383 : (Jvm.Cond.privateMethod ({ cls := "OneBearsModel", name := "asks", desc := "(I)V" } : Jvm.MethodName)) ∈ lw_tbl := lw_at lw_m6 106 rfl
theorem q1384 : (Jvm.Cond.instanceMethod ({ cls := "OneBearsModel", name := "asks", desc := "(I)V" } : Jvm.MethodName)) ∈ lw_all := lw_g (lw_at lw_m6 107 rfl) rfl
theorem q1385 : (Jvm.Cond.code ({ cls := "OneBearsModel", name := "asks", desc := "(I)V" } : Jvm.MethodName) prog_16_method_51_code (3 : Nat) (Option.none : Option Jvm.ClassFile.FieldType)) ∈ lw_all := lw_g (lw_at lw_m6 108 rfl) rfl
theorem q1386 : (Jvm.Cond.methodLink "OneBearsModel" (332 : Nat) ({ cls := "java/lang/Math", name := "min", desc := "(II)I" } : Jvm.MethodName)) ∈ lw_all := lw_g (lw_at lw_m6 109 rfl) rfl
theorem q1387 : (Jvm.Cond.methodLink "OneBearsModel" (334 : Nat) ({ cls := "java/lang/Math", name := "max", desc := "(II)I" } : Jvm.MethodName)) ∈ lw_all := lw_g (lw_at lw_m6 110 rfl) rfl
theorem q1388 : (Jvm.Cond.methodLink "OneBearsModel" (339 : Nat) ({ cls := "OneBearsModel", name := "draw", desc := "()I" } : Jvm.MethodName)) ∈ lw_all := lw_g (lw_at lw_m6 111 rfl) rfl
theorem q1389 : (Jvm.Cond.privateMethod ({ cls := "OneBearsModel", name := "draw", desc := "()I" } : Jvm.MethodName)) ∈ lw_tbl := lw_at lw_m6 112 rfl
theorem q1390 : (Jvm.Cond.instanceMethod ({ cls := "OneBearsModel", name := "draw", desc := "()I" } : Jvm.MethodName)) ∈ lw_all := lw_g (lw_at lw_m6 113 rfl) rfl
theorem q1391 : (Jvm.Cond.code ({ cls := "OneBearsModel", name := "draw", desc := "()I" } : Jvm.MethodName) prog_16_method_46_code (1 : Nat) (Option.some Jvm.ClassFile.FieldType.int)) ∈ lw_all := lw_g (lw_at lw_m6 114 rfl) rfl
theorem q1392 : (Jvm.Cond.constantLong "OneBearsModel" (309 : Nat) (6364136223846793005 : Int64)) ∈ lw_all := lw_g (lw_at lw_m6 115 rfl) rfl
theorem q1393 : (Jvm.Cond.constantLong "OneBearsModel" (311 : Nat) (1442695040888963407 : Int64)) ∈ lw_all := lw_g (lw_at lw_m6 116 rfl) rfl
theorem q1394 : (Jvm.Cond.constantLong "OneBearsModel" (313 : Nat) (100 : Int64)) ∈ lw_all := lw_g (lw_at lw_m6 117 rfl) rfl
theorem q1395 : (Jvm.Cond.methodLink "OneBearsModel" (348 : Nat) ({ cls := "OneBearsModel", name := "eat", desc := "(I)V" } : Jvm.MethodName)) ∈ lw_all := lw_g (lw_at lw_m6 118 rfl) rfl
theorem q1396 : (Jvm.Cond.privateMethod ({ cls := "OneBearsModel", name := "eat", desc := "(I)V" } : Jvm.MethodName)) ∈ lw_tbl := lw_at lw_m6 119 rfl
theorem q1397 : (Jvm.Cond.instanceMethod ({ cls := "OneBearsModel", name := "eat", desc := "(I)V" } : Jvm.MethodName)) ∈ lw_all := lw_g (lw_at lw_m6 120 rfl) rfl
theorem q1398 : (Jvm.Cond.code ({ cls := "OneBearsModel", name := "eat", desc := "(I)V" } : Jvm.MethodName) prog_16_method_52_code (2 : Nat) (Option.none : Option Jvm.ClassFile.FieldType)) ∈ lw_all := lw_g (lw_at lw_m6 121 rfl) rfl
theorem q1399 : (Jvm.Cond.methodLink "OneBearsModel" (351 : Nat) ({ cls := "OneBearsModel", name := "bear", desc := "()V" } : Jvm.MethodName)) ∈ lw_all := lw_g (lw_at lw_m6 122 rfl) rfl
theorem q1400 : (Jvm.Cond.privateMethod ({ cls := "OneBearsModel", name := "bear", desc := "()V" } : Jvm.MethodName)) ∈ lw_tbl := lw_at lw_m6 123 rfl
theorem q1401 : (Jvm.Cond.instanceMethod ({ cls := "OneBearsModel", name := "bear", desc := "()V" } : Jvm.MethodName)) ∈ lw_all := lw_g (lw_at lw_m6 124 rfl) rfl
theorem q1402 : (Jvm.Cond.code ({ cls := "OneBearsModel", name := "bear", desc := "()V" } : Jvm.MethodName) prog_16_method_53_code (2 : Nat) (Option.none : Option Jvm.ClassFile.FieldType)) ∈ lw_all := lw_g (lw_at lw_m6 125 rfl) rfl
theorem q1403 : (Jvm.Cond.methodLink "OneBearsModel" (354 : Nat) ({ cls := "OneBearsModel", name := "war", desc := "()V" } : Jvm.MethodName)) ∈ lw_all := lw_g (lw_at lw_m6 126 rfl) rfl
theorem q1404 : (Jvm.Cond.privateMethod ({ cls := "OneBearsModel", name := "war", desc := "()V" } : Jvm.MethodName)) ∈ lw_tbl := lw_at lw_m6 127 rfl
theorem q1405 : (Jvm.Cond.instanceMethod ({ cls := "OneBearsModel", name := "war", desc := "()V" } : Jvm.MethodName)) ∈ lw_all := lw_g (lw_at lw_m6 128 rfl) rfl
theorem q1406 : (Jvm.Cond.code ({ cls := "OneBearsModel", name := "war", desc := "()V" } : Jvm.MethodName) prog_16_method_55_code (3 : Nat) (Option.none : Option Jvm.ClassFile.FieldType)) ∈ lw_all := lw_g (lw_at lw_m6 129 rfl) rfl
theorem q1407 : (Jvm.Cond.methodLink "OneBearsModel" (336 : Nat) ({ cls := "OneBearsModel", name := "isFighter", desc := "(I)Z" } : Jvm.MethodName)) ∈ lw_all := lw_g (lw_at lw_m6 130 rfl) rfl
theorem q1408 : (Jvm.Cond.privateMethod ({ cls := "OneBearsModel", name := "isFighter", desc := "(I)Z" } : Jvm.MethodName)) ∈ lw_tbl := lw_at lw_m6 131 rfl
theorem q1409 : (Jvm.Cond.instanceMethod ({ cls := "OneBearsModel", name := "isFighter", desc := "(I)Z" } : Jvm.MethodName)) ∈ lw_all := lw_g (lw_at lw_m6 132 rfl) rfl
theorem q1410 : (Jvm.Cond.code ({ cls := "OneBearsModel", name := "isFighter", desc := "(I)Z" } : Jvm.MethodName) prog_16_method_54_code (2 : Nat) (Option.some Jvm.ClassFile.FieldType.boolean)) ∈ lw_all := lw_g (lw_at lw_m6 133 rfl) rfl
theorem q1412 : (Jvm.Cond.instanceMethod ({ cls := "OneBearsModel", name := "all", desc := "(IJII)I" } : Jvm.MethodName)) ∈ lw_all := lw_g (lw_at lw_m6 135 rfl) rfl
theorem q1413 : (Jvm.Cond.selects "OneBearsModel" ({ cls := "OneBearsModel", name := "all", desc := "(IJII)I" } : Jvm.MethodName) ({ cls := "OneBearsModel", name := "all", desc := "(IJII)I" } : Jvm.MethodName)) ∈ lw_all := lw_g (lw_at lw_m6 136 rfl) rfl
theorem q1414 : (Jvm.Cond.code ({ cls := "OneBearsModel", name := "all", desc := "(IJII)I" } : Jvm.MethodName) prog_16_method_62_code (6 : Nat) (Option.some Jvm.ClassFile.FieldType.int)) ∈ lw_all := lw_g (lw_at lw_m6 137 rfl) rfl
theorem q1415 : (Jvm.Cond.methodLink "OneBearsModel" (370 : Nat) ({ cls := "OneBearsModel", name := "manyOf", desc := "(I)I" } : Jvm.MethodName)) ∈ lw_all := lw_g (lw_at lw_m6 138 rfl) rfl
theorem q1416 : (Jvm.Cond.privateMethod ({ cls := "OneBearsModel", name := "manyOf", desc := "(I)I" } : Jvm.MethodName)) ∈ lw_tbl := lw_at lw_m6 139 rfl
theorem q1417 : (Jvm.Cond.instanceMethod ({ cls := "OneBearsModel", name := "manyOf", desc := "(I)I" } : Jvm.MethodName)) ∈ lw_all := lw_g (lw_at lw_m6 140 rfl) rfl
theorem q1418 : (Jvm.Cond.code ({ cls := "OneBearsModel", name := "manyOf", desc := "(I)I" } : Jvm.MethodName) prog_16_method_61_code (4 : Nat) (Option.some Jvm.ClassFile.FieldType.int)) ∈ lw_all := lw_g (lw_at lw_m6 141 rfl) rfl
theorem q1420 : (Jvm.Cond.instanceMethod ({ cls := "OneBearsModel", name := "find", desc := "(I)J" } : Jvm.MethodName)) ∈ lw_all := lw_g (lw_at lw_m6 143 rfl) rfl
theorem q1421 : (Jvm.Cond.selects "OneBearsModel" ({ cls := "OneBearsModel", name := "find", desc := "(I)J" } : Jvm.MethodName) ({ cls := "OneBearsModel", name := "find", desc := "(I)J" } : Jvm.MethodName)) ∈ lw_all := lw_g (lw_at lw_m6 144 rfl) rfl
theorem q1422 : (Jvm.Cond.code ({ cls := "OneBearsModel", name := "find", desc := "(I)J" } : Jvm.MethodName) prog_16_method_64_code (2 : Nat) (Option.some Jvm.ClassFile.FieldType.long)) ∈ lw_all := lw_g (lw_at lw_m6 145 rfl) rfl
theorem q1423 : (Jvm.Cond.methodLink "OneBearsModel" (373 : Nat) ({ cls := "OneBearsModel", name := "findOf", desc := "(I)J" } : Jvm.MethodName)) ∈ lw_all := lw_g (lw_at lw_m6 146 rfl) rfl
theorem q1424 : (Jvm.Cond.privateMethod ({ cls := "OneBearsModel", name := "findOf", desc := "(I)J" } : Jvm.MethodName)) ∈ lw_tbl := lw_at lw_m6 147 rfl
theorem q1425 : (Jvm.Cond.instanceMethod ({ cls := "OneBearsModel", name := "findOf", desc := "(I)J" } : Jvm.MethodName)) ∈ lw_all := lw_g (lw_at lw_m6 148 rfl) rfl
theorem q1426 : (Jvm.Cond.code ({ cls := "OneBearsModel", name := "findOf", desc := "(I)J" } : Jvm.MethodName) prog_16_method_63_code (7 : Nat) (Option.some Jvm.ClassFile.FieldType.long)) ∈ lw_all := lw_g (lw_at lw_m6 149 rfl) rfl
theorem q1427 : (Jvm.Cond.constantLong "OneBearsModel" (377 : Nat) (-1 : Int64)) ∈ lw_all := lw_g (lw_at lw_m6 150 rfl) rfl
theorem q1429 : (Jvm.Cond.instanceMethod ({ cls := "OneBearsModel", name := "many", desc := "(II)I" } : Jvm.MethodName)) ∈ lw_all := lw_g (lw_at lw_m6 152 rfl) rfl
theorem q1430 : (Jvm.Cond.selects "OneBearsModel" ({ cls := "OneBearsModel", name := "many", desc := "(II)I" } : Jvm.MethodName) ({ cls := "OneBearsModel", name := "many", desc := "(II)I" } : Jvm.MethodName)) ∈ lw_all := lw_g (lw_at lw_m6 153 rfl) rfl
theorem q1431 : (Jvm.Cond.code ({ cls := "OneBearsModel", name := "many", desc := "(II)I" } : Jvm.MethodName) prog_16_method_65_code (7 : Nat) (Option.some Jvm.ClassFile.FieldType.int)) ∈ lw_all := lw_g (lw_at lw_m6 154 rfl) rfl
theorem q1433 : (Jvm.Cond.instanceMethod ({ cls := "OneBearsModel", name := "note", desc := "(III)I" } : Jvm.MethodName)) ∈ lw_all := lw_g (lw_at lw_m6 156 rfl) rfl
theorem q1434 : (Jvm.Cond.selects "OneBearsModel" ({ cls := "OneBearsModel", name := "note", desc := "(III)I" } : Jvm.MethodName) ({ cls := "OneBearsModel", name := "note", desc := "(III)I" } : Jvm.MethodName)) ∈ lw_all := lw_g (lw_at lw_m6 157 rfl) rfl
theorem q1435 : (Jvm.Cond.code ({ cls := "OneBearsModel", name := "note", desc := "(III)I" } : Jvm.MethodName) prog_16_method_66_code (4 : Nat) (Option.some Jvm.ClassFile.FieldType.int)) ∈ lw_all := lw_g (lw_at lw_m6 158 rfl) rfl
theorem q1437 : (Jvm.Cond.instanceMethod ({ cls := "OneBearsModel", name := "fits", desc := "(J)I" } : Jvm.MethodName)) ∈ lw_all := lw_g (lw_at lw_m6 160 rfl) rfl
theorem q1438 : (Jvm.Cond.selects "OneBearsModel" ({ cls := "OneBearsModel", name := "fits", desc := "(J)I" } : Jvm.MethodName) ({ cls := "OneBearsModel", name := "fits", desc := "(J)I" } : Jvm.MethodName)) ∈ lw_all := lw_g (lw_at lw_m6 161 rfl) rfl
theorem q1439 : (Jvm.Cond.code ({ cls := "OneBearsModel", name := "fits", desc := "(J)I" } : Jvm.MethodName) prog_16_method_68_code (5 : Nat) (Option.some Jvm.ClassFile.FieldType.int)) ∈ lw_all := lw_g (lw_at lw_m6 162 rfl) rfl
theorem q1440 : (Jvm.Cond.methodLink "OneBearsModel" (385 : Nat) ({ cls := "OneBearsModel", name := "fitsAll", desc := "(IJ)Z" } : Jvm.MethodName)) ∈ lw_all := lw_g (lw_at lw_m6 163 rfl) rfl
theorem q1441 : (Jvm.Cond.privateMethod ({ cls := "OneBearsModel", name := "fitsAll", desc := "(IJ)Z" } : Jvm.MethodName)) ∈ lw_tbl := lw_at lw_m6 164 rfl
theorem q1442 : (Jvm.Cond.instanceMethod ({ cls := "OneBearsModel", name := "fitsAll", desc := "(IJ)Z" } : Jvm.MethodName)) ∈ lw_all := lw_g (lw_at lw_m6 165 rfl) rfl
theorem q1443 : (Jvm.Cond.code ({ cls := "OneBearsModel", name := "fitsAll", desc := "(IJ)Z" } : Jvm.MethodName) prog_16_method_67_code (6 : Nat) (Option.some Jvm.ClassFile.FieldType.boolean)) ∈ lw_all := lw_g (lw_at lw_m6 166 rfl) rfl
theorem q1444 : (Jvm.Cond.methodLink "OneBearsModel" (382 : Nat) ({ cls := "java/lang/Math", name := "abs", desc := "(I)I" } : Jvm.MethodName)) ∈ lw_all := lw_g (lw_at lw_m6 167 rfl) rfl
theorem q1446 : (Jvm.Cond.instanceMethod ({ cls := "OneBearsModel", name := "whatIf", desc := "(IJI)I" } : Jvm.MethodName)) ∈ lw_all := lw_g (lw_at lw_m6 169 rfl) rfl
theorem q1447 : (Jvm.Cond.selects "OneBearsModel" ({ cls := "OneBearsModel", name := "whatIf", desc := "(IJI)I" } : Jvm.MethodName) ({ cls := "OneBearsModel", name := "whatIf", desc := "(IJI)I" } : Jvm.MethodName)) ∈ lw_all := lw_g (lw_at lw_m6 170 rfl) rfl
theorem q1448 : (Jvm.Cond.code ({ cls := "OneBearsModel", name := "whatIf", desc := "(IJI)I" } : Jvm.MethodName) prog_16_method_69_code (6 : Nat) (Option.some Jvm.ClassFile.FieldType.int)) ∈ lw_all := lw_g (lw_at lw_m6 171 rfl) rfl
theorem q1450 : (Jvm.Cond.instanceMethod ({ cls := "OneBearsModel", name := "trial", desc := "(II)I" } : Jvm.MethodName)) ∈ lw_all := lw_g (lw_at lw_m6 173 rfl) rfl
theorem q1451 : (Jvm.Cond.selects "OneBearsModel" ({ cls := "OneBearsModel", name := "trial", desc := "(II)I" } : Jvm.MethodName) ({ cls := "OneBearsModel", name := "trial", desc := "(II)I" } : Jvm.MethodName)) ∈ lw_all := lw_g (lw_at lw_m6 174 rfl) rfl
theorem q1452 : (Jvm.Cond.code ({ cls := "OneBearsModel", name := "trial", desc := "(II)I" } : Jvm.MethodName) prog_16_method_70_code (3 : Nat) (Option.some Jvm.ClassFile.FieldType.int)) ∈ lw_all := lw_g (lw_at lw_m6 175 rfl) rfl
theorem q1454 : (Jvm.Cond.instanceMethod ({ cls := "OneBearsModel", name := "tells", desc := "(IIJ)I" } : Jvm.MethodName)) ∈ lw_all := lw_g (lw_at lw_m6 177 rfl) rfl
theorem q1455 : (Jvm.Cond.selects "OneBearsModel" ({ cls := "OneBearsModel", name := "tells", desc := "(IIJ)I" } : Jvm.MethodName) ({ cls := "OneBearsModel", name := "tells", desc := "(IIJ)I" } : Jvm.MethodName)) ∈ lw_all := lw_g (lw_at lw_m6 178 rfl) rfl
theorem q1456 : (Jvm.Cond.code ({ cls := "OneBearsModel", name := "tells", desc := "(IIJ)I" } : Jvm.MethodName) prog_16_method_73_code (5 : Nat) (Option.some Jvm.ClassFile.FieldType.int)) ∈ lw_all := lw_g (lw_at lw_m6 179 rfl) rfl
theorem q1457 : (Jvm.Cond.methodLink "OneBearsModel" (392 : Nat) ({ cls := "OneBearsModel", name := "isTrial", desc := "(I)Z" } : Jvm.MethodName)) ∈ lw_all := lw_g (lw_at lw_m6 180 rfl) rfl
theorem q1458 : (Jvm.Cond.privateMethod ({ cls := "OneBearsModel", name := "isTrial", desc := "(I)Z" } : Jvm.MethodName)) ∈ lw_tbl := lw_at lw_m6 181 rfl
theorem q1459 : (Jvm.Cond.instanceMethod ({ cls := "OneBearsModel", name := "isTrial", desc := "(I)Z" } : Jvm.MethodName)) ∈ lw_all := lw_g (lw_at lw_m6 182 rfl) rfl
theorem q1460 : (Jvm.Cond.code ({ cls := "OneBearsModel", name := "isTrial", desc := "(I)Z" } : Jvm.MethodName) prog_16_method_72_code (2 : Nat) (Option.some Jvm.ClassFile.FieldType.boolean)) ∈ lw_all := lw_g (lw_at lw_m6 183 rfl) rfl
theorem q1461 : (Jvm.Cond.methodLink "OneBearsModel" (395 : Nat) ({ cls := "OneBearsModel", name := "toldBy", desc := "(IIJ)I" } : Jvm.MethodName)) ∈ lw_all := lw_g (lw_at lw_m6 184 rfl) rfl
theorem q1462 : (Jvm.Cond.privateMethod ({ cls := "OneBearsModel", name := "toldBy", desc := "(IIJ)I" } : Jvm.MethodName)) ∈ lw_tbl := lw_at lw_m6 185 rfl
theorem q1463 : (Jvm.Cond.instanceMethod ({ cls := "OneBearsModel", name := "toldBy", desc := "(IIJ)I" } : Jvm.MethodName)) ∈ lw_all := lw_g (lw_at lw_m6 186 rfl) rfl
theorem q1464 : (Jvm.Cond.code ({ cls := "OneBearsModel", name := "toldBy", desc := "(IIJ)I" } : Jvm.MethodName) prog_16_method_71_code (5 : Nat) (Option.some Jvm.ClassFile.FieldType.int)) ∈ lw_all := lw_g (lw_at lw_m6 187 rfl) rfl
theorem q1466 : (Jvm.Cond.instanceMethod ({ cls := "OneBearsModel", name := "parted", desc := "(IIJ)I" } : Jvm.MethodName)) ∈ lw_all := lw_g (lw_at lw_m6 189 rfl) rfl
theorem q1467 : (Jvm.Cond.selects "OneBearsModel" ({ cls := "OneBearsModel", name := "parted", desc := "(IIJ)I" } : Jvm.MethodName) ({ cls := "OneBearsModel", name := "parted", desc := "(IIJ)I" } : Jvm.MethodName)) ∈ lw_all := lw_g (lw_at lw_m6 190 rfl) rfl
theorem q1468 : (Jvm.Cond.code ({ cls := "OneBearsModel", name := "parted", desc := "(IIJ)I" } : Jvm.MethodName) prog_16_method_76_code (5 : Nat) (Option.some Jvm.ClassFile.FieldType.int)) ∈ lw_all := lw_g (lw_at lw_m6 191 rfl) rfl
theorem q1469 : (Jvm.Cond.methodLink "OneBearsModel" (399 : Nat) ({ cls := "OneBearsModel", name := "areLaws", desc := "(I)Z" } : Jvm.MethodName)) ∈ lw_all := lw_g (lw_at lw_m6 192 rfl) rfl
theorem q1470 : (Jvm.Cond.privateMethod ({ cls := "OneBearsModel", name := "areLaws", desc := "(I)Z" } : Jvm.MethodName)) ∈ lw_tbl := lw_at lw_m6 193 rfl
theorem q1471 : (Jvm.Cond.instanceMethod ({ cls := "OneBearsModel", name := "areLaws", desc := "(I)Z" } : Jvm.MethodName)) ∈ lw_all := lw_g (lw_at lw_m6 194 rfl) rfl
theorem q1472 : (Jvm.Cond.code ({ cls := "OneBearsModel", name := "areLaws", desc := "(I)Z" } : Jvm.MethodName) prog_16_method_75_code (2 : Nat) (Option.some Jvm.ClassFile.FieldType.boolean)) ∈ lw_all := lw_g (lw_at lw_m6 195 rfl) rfl
theorem q1473 : (Jvm.Cond.methodLink "OneBearsModel" (402 : Nat) ({ cls := "OneBearsModel", name := "partedBy", desc := "(IIJ)I" } : Jvm.MethodName)) ∈ lw_all := lw_g (lw_at lw_m6 196 rfl) rfl
theorem q1474 : (Jvm.Cond.privateMethod ({ cls := "OneBearsModel", name := "partedBy", desc := "(IIJ)I" } : Jvm.MethodName)) ∈ lw_tbl := lw_at lw_m6 197 rfl
theorem q1475 : (Jvm.Cond.instanceMethod ({ cls := "OneBearsModel", name := "partedBy", desc := "(IIJ)I" } : Jvm.MethodName)) ∈ lw_all := lw_g (lw_at lw_m6 198 rfl) rfl
theorem q1476 : (Jvm.Cond.code ({ cls := "OneBearsModel", name := "partedBy", desc := "(IIJ)I" } : Jvm.MethodName) prog_16_method_74_code (8 : Nat) (Option.some Jvm.ClassFile.FieldType.int)) ∈ lw_all := lw_g (lw_at lw_m6 199 rfl) rfl
theorem q1478 : (Jvm.Cond.instanceMethod ({ cls := "OneBearsModel", name := "next", desc := "(IJ)I" } : Jvm.MethodName)) ∈ lw_all := lw_g (lw_at lw_m6 201 rfl) rfl
theorem q1479 : (Jvm.Cond.selects "OneBearsModel" ({ cls := "OneBearsModel", name := "next", desc := "(IJ)I" } : Jvm.MethodName) ({ cls := "OneBearsModel", name := "next", desc := "(IJ)I" } : Jvm.MethodName)) ∈ lw_all := lw_g (lw_at lw_m6 202 rfl) rfl
theorem q1480 : (Jvm.Cond.code ({ cls := "OneBearsModel", name := "next", desc := "(IJ)I" } : Jvm.MethodName) prog_16_method_77_code (8 : Nat) (Option.some Jvm.ClassFile.FieldType.int)) ∈ lw_all := lw_g (lw_at lw_m6 203 rfl) rfl
theorem q1482 : (Jvm.Cond.instanceMethod ({ cls := "OneBearsModel", name := "count", desc := "(I)I" } : Jvm.MethodName)) ∈ lw_all := lw_g (lw_at lw_m6 205 rfl) rfl
theorem q1483 : (Jvm.Cond.selects "OneBearsModel" ({ cls := "OneBearsModel", name := "count", desc := "(I)I" } : Jvm.MethodName) ({ cls := "OneBearsModel", name := "count", desc := "(I)I" } : Jvm.MethodName)) ∈ lw_all := lw_g (lw_at lw_m6 206 rfl) rfl
theorem q1484 : (Jvm.Cond.code ({ cls := "OneBearsModel", name := "count", desc := "(I)I" } : Jvm.MethodName) prog_16_method_78_code (2 : Nat) (Option.some Jvm.ClassFile.FieldType.int)) ∈ lw_all := lw_g (lw_at lw_m6 207 rfl) rfl
theorem q1491 : (Jvm.Cond.castable "OneBearsModel" "java/lang/Object") ∈ lw_tbl := lw_at lw_m6 214 rfl
theorem in_X5 : ∀ w ∈ wsX50, w ∈ lw_all := lw_in wsX50 [1053, 1055, 1057, 1059, 1061, 1063, 1065, 1067, 1069, 1071, 1073, 1075, 1077, 1079, 1081, 1083, 1085, 1087, 1089, 1091, 1093, 1095, 1097, 1099, 1101, 1103, 1105, 1107, 1109, 1111, 1113, 1115, 1117, 1119, 1121, 1123, 1125, 1127, 1129, 1131, 1133, 1135, 1137, 1139, 1141, 1143, 1145, 1147, 1149, 1151, 1153, 1155, 1157, 1159, 1161, 1163, 1165] (by decide +kernel) (by decide +kernel)
