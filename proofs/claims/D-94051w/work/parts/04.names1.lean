/-! OneBears -/
set_option maxRecDepth 100000
def RX1 : String := "OneBears"
def TX1 : u_T := fun k => match k with
  | 0 => ("OneBears", "fault", "LOneBears$Fault;", true)
  | 1 => ("OneBears", "tape", "[B", true)
  | 2 => ("OneBears", "taped", "I", false)
  | 3 => ("OneBears", "place", "I", false)
  | 4 => ("OneBears", "deep", "I", false)
  | 5 => ("OneBears", "letters", "[I", true)
  | 6 => ("OneBears", "laws", "[LOneBears$Clause;", true)
  | 7 => ("OneBears", "lawMany", "I", false)
  | 8 => ("OneBears", "tree", "LOneBears$Tree;", true)
  | 9 => ("OneBears", "weights", "[I", true)
  | 10 => ("OneBears", "animals", "I", false)
  | 11 => ("OneBears", "queen", "I", false)
  | 12 => ("OneBears", "mate", "I", false)
  | 13 => ("OneBears", "things", "[I", true)
  | 14 => ("OneBears", "rains", "[I", true)
  | 15 => ("OneBears", "colony", "LOneBears$Colony;", true)
  | 16 => ("OneBears", "noteMonth", "[I", true)
  | 17 => ("OneBears", "noteThere", "[I", true)
  | 18 => ("OneBears", "noteOff", "[I", true)
  | 19 => ("OneBears", "trialAnimals", "[I", true)
  | 20 => ("OneBears", "trialMonths", "[I", true)
  | 21 => ("OneBears", "notes", "I", false)
  | 22 => ("OneBears", "trials", "I", false)
  | _ => ("OneBears", "tellings", "[I", true)
def tyX1 : Nat → FieldType := fun k => match k with
  | 0 => .object "OneBears$Fault"
  | 1 => .array .byte
  | 2 => .int
  | 3 => .int
  | 4 => .int
  | 5 => .array .int
  | 6 => .array (.object "OneBears$Clause")
  | 7 => .int
  | 8 => .object "OneBears$Tree"
  | 9 => .array .int
  | 10 => .int
  | 11 => .int
  | 12 => .int
  | 13 => .array .int
  | 14 => .array .int
  | 15 => .object "OneBears$Colony"
  | 16 => .array .int
  | 17 => .array .int
  | 18 => .array .int
  | 19 => .array .int
  | 20 => .array .int
  | 21 => .int
  | 22 => .int
  | _ => .array .int
abbrev wsX10 : List Cond := u_ws RX1 TX1 24
set_option maxRecDepth 100000 in
theorem nmX1 : ∀ a, a < 24 → ∀ b, b < 24 → a ≠ b → (TX1 a).2.1 ≠ (TX1 b).2.1 := by decide +kernel
set_option maxRecDepth 100000 in
theorem tyX1_ok : ∀ k, k < 24 → parseFieldDescriptor (TX1 k).2.2.1 = some (tyX1 k) := by decide +kernel
abbrev cX1_init : ByteArray := prog_1_method_2_code
def yX1_init : MethodName := ⟨RX1, "<init>", "()V"⟩
def dkwX1_init_6 : List UInt8 := [16, 6, 188, 10, 181, 0, 77, 42, 180, 0, 47, 7, 16, 12, 79, 42, 180, 0, 47, 16, 8, 2, 79, 177]
abbrev dktX1_init_6 : List UInt8 := dkwX1_init_6 ++ []
def dkwX1_init_5 : List UInt8 := [16, 12, 188, 10, 181, 0, 68, 42, 16, 6, 188, 10, 181, 0, 71, 42, 16, 6, 188, 10, 181, 0, 74, 42]
abbrev dktX1_init_5 : List UInt8 := dkwX1_init_5 ++ dktX1_init_6
def dkwX1_init_4 : List UInt8 := [183, 0, 55, 181, 0, 58, 42, 16, 12, 188, 10, 181, 0, 62, 42, 16, 12, 188, 10, 181, 0, 65, 42]
abbrev dktX1_init_4 : List UInt8 := dkwX1_init_4 ++ dktX1_init_5
def dkwX1_init_3 : List UInt8 := [42, 16, 9, 188, 10, 181, 0, 47, 42, 16, 24, 188, 10, 181, 0, 50, 42, 187, 0, 53, 89, 42]
abbrev dktX1_init_3 : List UInt8 := dkwX1_init_3 ++ dktX1_init_4
def dkwX1_init_2 : List UInt8 := [183, 0, 32, 181, 0, 33, 42, 16, 16, 188, 10, 181, 0, 37, 42, 2, 181, 0, 40, 42, 2, 181, 0, 44]
abbrev dktX1_init_2 : List UInt8 := dkwX1_init_2 ++ dktX1_init_3
def dkwX1_init_1 : List UInt8 := [17, 0, 128, 188, 10, 181, 0, 20, 42, 16, 6, 189, 0, 24, 181, 0, 26, 42, 187, 0, 30, 89]
abbrev dktX1_init_1 : List UInt8 := dkwX1_init_1 ++ dktX1_init_2
def dkwX1_init_0 : List UInt8 := [42, 183, 0, 1, 42, 187, 0, 7, 89, 183, 0, 9, 181, 0, 10, 42, 16, 120, 188, 8, 181, 0, 16, 42]
abbrev dktX1_init_0 : List UInt8 := dkwX1_init_0 ++ dktX1_init_1
theorem dksX1_init_0 : cX1_init.data.toList.drop 0 = dktX1_init_0 := by decide +kernel
theorem dksX1_init_1 : cX1_init.data.toList.drop 24 = dktX1_init_1 := dk_seg dksX1_init_0 24 rfl rfl
theorem dksX1_init_2 : cX1_init.data.toList.drop 46 = dktX1_init_2 := dk_seg dksX1_init_1 22 rfl rfl
theorem dksX1_init_3 : cX1_init.data.toList.drop 70 = dktX1_init_3 := dk_seg dksX1_init_2 24 rfl rfl
theorem dksX1_init_4 : cX1_init.data.toList.drop 92 = dktX1_init_4 := dk_seg dksX1_init_3 22 rfl rfl
theorem dksX1_init_5 : cX1_init.data.toList.drop 115 = dktX1_init_5 := dk_seg dksX1_init_4 23 rfl rfl
theorem dksX1_init_6 : cX1_init.data.toList.drop 139 = dktX1_init_6 := dk_seg dksX1_init_5 24 rfl rfl
theorem dX1_init_0 : decode cX1_init 0 = .ok (.aload_n 0, 1) := dk_42 (dk_at dksX1_init_0 0 rfl rfl)
theorem dX1_init_1 : decode cX1_init 1 = .ok (.invokespecial 1, 3) := dk_183 0 1 (dk_at dksX1_init_0 1 rfl rfl)
theorem dX1_init_4 : decode cX1_init 4 = .ok (.aload_n 0, 1) := dk_42 (dk_at dksX1_init_0 4 rfl rfl)
theorem dX1_init_5 : decode cX1_init 5 = .ok (.new 7, 3) := dk_187 0 7 (dk_at dksX1_init_0 5 rfl rfl)
theorem dX1_init_8 : decode cX1_init 8 = .ok (.dup, 1) := dk_89 (dk_at dksX1_init_0 8 rfl rfl)
theorem dX1_init_9 : decode cX1_init 9 = .ok (.invokespecial 9, 3) := dk_183 0 9 (dk_at dksX1_init_0 9 rfl rfl)
theorem dX1_init_12 : decode cX1_init 12 = .ok (.putfield 10, 3) := dk_181 0 10 (dk_at dksX1_init_0 12 rfl rfl)
theorem dX1_init_15 : decode cX1_init 15 = .ok (.aload_n 0, 1) := dk_42 (dk_at dksX1_init_0 15 rfl rfl)
theorem dX1_init_16 : decode cX1_init 16 = .ok (.bipush 120, 2) := dk_16 120 (dk_at dksX1_init_0 16 rfl rfl)
theorem dX1_init_18 : decode cX1_init 18 = .ok (.newarray .byte, 2) := dk_188_8 (dk_at dksX1_init_0 18 rfl rfl)
theorem dX1_init_20 : decode cX1_init 20 = .ok (.putfield 16, 3) := dk_181 0 16 (dk_at dksX1_init_0 20 rfl rfl)
theorem dX1_init_23 : decode cX1_init 23 = .ok (.aload_n 0, 1) := dk_42 (dk_at dksX1_init_0 23 rfl rfl)
theorem dX1_init_24 : decode cX1_init 24 = .ok (.sipush 128, 3) := dk_17 0 128 (dk_at dksX1_init_1 0 rfl rfl)
theorem dX1_init_27 : decode cX1_init 27 = .ok (.newarray .int, 2) := dk_188_10 (dk_at dksX1_init_1 3 rfl rfl)
theorem dX1_init_29 : decode cX1_init 29 = .ok (.putfield 20, 3) := dk_181 0 20 (dk_at dksX1_init_1 5 rfl rfl)
theorem dX1_init_32 : decode cX1_init 32 = .ok (.aload_n 0, 1) := dk_42 (dk_at dksX1_init_1 8 rfl rfl)
theorem dX1_init_33 : decode cX1_init 33 = .ok (.bipush 6, 2) := dk_16 6 (dk_at dksX1_init_1 9 rfl rfl)
theorem dX1_init_35 : decode cX1_init 35 = .ok (.anewarray 24, 3) := dk_189 0 24 (dk_at dksX1_init_1 11 rfl rfl)
theorem dX1_init_38 : decode cX1_init 38 = .ok (.putfield 26, 3) := dk_181 0 26 (dk_at dksX1_init_1 14 rfl rfl)
theorem dX1_init_41 : decode cX1_init 41 = .ok (.aload_n 0, 1) := dk_42 (dk_at dksX1_init_1 17 rfl rfl)
theorem dX1_init_42 : decode cX1_init 42 = .ok (.new 30, 3) := dk_187 0 30 (dk_at dksX1_init_1 18 rfl rfl)
theorem dX1_init_45 : decode cX1_init 45 = .ok (.dup, 1) := dk_89 (dk_at dksX1_init_1 21 rfl rfl)
theorem dX1_init_46 : decode cX1_init 46 = .ok (.invokespecial 32, 3) := dk_183 0 32 (dk_at dksX1_init_2 0 rfl rfl)
theorem dX1_init_49 : decode cX1_init 49 = .ok (.putfield 33, 3) := dk_181 0 33 (dk_at dksX1_init_2 3 rfl rfl)
theorem dX1_init_52 : decode cX1_init 52 = .ok (.aload_n 0, 1) := dk_42 (dk_at dksX1_init_2 6 rfl rfl)
theorem dX1_init_53 : decode cX1_init 53 = .ok (.bipush 16, 2) := dk_16 16 (dk_at dksX1_init_2 7 rfl rfl)
theorem dX1_init_55 : decode cX1_init 55 = .ok (.newarray .int, 2) := dk_188_10 (dk_at dksX1_init_2 9 rfl rfl)
theorem dX1_init_57 : decode cX1_init 57 = .ok (.putfield 37, 3) := dk_181 0 37 (dk_at dksX1_init_2 11 rfl rfl)
theorem dX1_init_60 : decode cX1_init 60 = .ok (.aload_n 0, 1) := dk_42 (dk_at dksX1_init_2 14 rfl rfl)
theorem dX1_init_61 : decode cX1_init 61 = .ok (.iconst (-1), 1) := dk_2 (dk_at dksX1_init_2 15 rfl rfl)
theorem dX1_init_62 : decode cX1_init 62 = .ok (.putfield 40, 3) := dk_181 0 40 (dk_at dksX1_init_2 16 rfl rfl)
theorem dX1_init_65 : decode cX1_init 65 = .ok (.aload_n 0, 1) := dk_42 (dk_at dksX1_init_2 19 rfl rfl)
theorem dX1_init_66 : decode cX1_init 66 = .ok (.iconst (-1), 1) := dk_2 (dk_at dksX1_init_2 20 rfl rfl)
theorem dX1_init_67 : decode cX1_init 67 = .ok (.putfield 44, 3) := dk_181 0 44 (dk_at dksX1_init_2 21 rfl rfl)
theorem dX1_init_70 : decode cX1_init 70 = .ok (.aload_n 0, 1) := dk_42 (dk_at dksX1_init_3 0 rfl rfl)
theorem dX1_init_71 : decode cX1_init 71 = .ok (.bipush 9, 2) := dk_16 9 (dk_at dksX1_init_3 1 rfl rfl)
theorem dX1_init_73 : decode cX1_init 73 = .ok (.newarray .int, 2) := dk_188_10 (dk_at dksX1_init_3 3 rfl rfl)
theorem dX1_init_75 : decode cX1_init 75 = .ok (.putfield 47, 3) := dk_181 0 47 (dk_at dksX1_init_3 5 rfl rfl)
theorem dX1_init_78 : decode cX1_init 78 = .ok (.aload_n 0, 1) := dk_42 (dk_at dksX1_init_3 8 rfl rfl)
theorem dX1_init_79 : decode cX1_init 79 = .ok (.bipush 24, 2) := dk_16 24 (dk_at dksX1_init_3 9 rfl rfl)
theorem dX1_init_81 : decode cX1_init 81 = .ok (.newarray .int, 2) := dk_188_10 (dk_at dksX1_init_3 11 rfl rfl)
theorem dX1_init_83 : decode cX1_init 83 = .ok (.putfield 50, 3) := dk_181 0 50 (dk_at dksX1_init_3 13 rfl rfl)
theorem dX1_init_86 : decode cX1_init 86 = .ok (.aload_n 0, 1) := dk_42 (dk_at dksX1_init_3 16 rfl rfl)
theorem dX1_init_87 : decode cX1_init 87 = .ok (.new 53, 3) := dk_187 0 53 (dk_at dksX1_init_3 17 rfl rfl)
theorem dX1_init_90 : decode cX1_init 90 = .ok (.dup, 1) := dk_89 (dk_at dksX1_init_3 20 rfl rfl)
theorem dX1_init_91 : decode cX1_init 91 = .ok (.aload_n 0, 1) := dk_42 (dk_at dksX1_init_3 21 rfl rfl)
theorem dX1_init_92 : decode cX1_init 92 = .ok (.invokespecial 55, 3) := dk_183 0 55 (dk_at dksX1_init_4 0 rfl rfl)
theorem dX1_init_95 : decode cX1_init 95 = .ok (.putfield 58, 3) := dk_181 0 58 (dk_at dksX1_init_4 3 rfl rfl)
theorem dX1_init_98 : decode cX1_init 98 = .ok (.aload_n 0, 1) := dk_42 (dk_at dksX1_init_4 6 rfl rfl)
theorem dX1_init_99 : decode cX1_init 99 = .ok (.bipush 12, 2) := dk_16 12 (dk_at dksX1_init_4 7 rfl rfl)
theorem dX1_init_101 : decode cX1_init 101 = .ok (.newarray .int, 2) := dk_188_10 (dk_at dksX1_init_4 9 rfl rfl)
theorem dX1_init_103 : decode cX1_init 103 = .ok (.putfield 62, 3) := dk_181 0 62 (dk_at dksX1_init_4 11 rfl rfl)
theorem dX1_init_106 : decode cX1_init 106 = .ok (.aload_n 0, 1) := dk_42 (dk_at dksX1_init_4 14 rfl rfl)
theorem dX1_init_107 : decode cX1_init 107 = .ok (.bipush 12, 2) := dk_16 12 (dk_at dksX1_init_4 15 rfl rfl)
theorem dX1_init_109 : decode cX1_init 109 = .ok (.newarray .int, 2) := dk_188_10 (dk_at dksX1_init_4 17 rfl rfl)
theorem dX1_init_111 : decode cX1_init 111 = .ok (.putfield 65, 3) := dk_181 0 65 (dk_at dksX1_init_4 19 rfl rfl)
theorem dX1_init_114 : decode cX1_init 114 = .ok (.aload_n 0, 1) := dk_42 (dk_at dksX1_init_4 22 rfl rfl)
theorem dX1_init_115 : decode cX1_init 115 = .ok (.bipush 12, 2) := dk_16 12 (dk_at dksX1_init_5 0 rfl rfl)
theorem dX1_init_117 : decode cX1_init 117 = .ok (.newarray .int, 2) := dk_188_10 (dk_at dksX1_init_5 2 rfl rfl)
theorem dX1_init_119 : decode cX1_init 119 = .ok (.putfield 68, 3) := dk_181 0 68 (dk_at dksX1_init_5 4 rfl rfl)
theorem dX1_init_122 : decode cX1_init 122 = .ok (.aload_n 0, 1) := dk_42 (dk_at dksX1_init_5 7 rfl rfl)
theorem dX1_init_123 : decode cX1_init 123 = .ok (.bipush 6, 2) := dk_16 6 (dk_at dksX1_init_5 8 rfl rfl)
theorem dX1_init_125 : decode cX1_init 125 = .ok (.newarray .int, 2) := dk_188_10 (dk_at dksX1_init_5 10 rfl rfl)
theorem dX1_init_127 : decode cX1_init 127 = .ok (.putfield 71, 3) := dk_181 0 71 (dk_at dksX1_init_5 12 rfl rfl)
theorem dX1_init_130 : decode cX1_init 130 = .ok (.aload_n 0, 1) := dk_42 (dk_at dksX1_init_5 15 rfl rfl)
theorem dX1_init_131 : decode cX1_init 131 = .ok (.bipush 6, 2) := dk_16 6 (dk_at dksX1_init_5 16 rfl rfl)
theorem dX1_init_133 : decode cX1_init 133 = .ok (.newarray .int, 2) := dk_188_10 (dk_at dksX1_init_5 18 rfl rfl)
theorem dX1_init_135 : decode cX1_init 135 = .ok (.putfield 74, 3) := dk_181 0 74 (dk_at dksX1_init_5 20 rfl rfl)
theorem dX1_init_138 : decode cX1_init 138 = .ok (.aload_n 0, 1) := dk_42 (dk_at dksX1_init_5 23 rfl rfl)
theorem dX1_init_139 : decode cX1_init 139 = .ok (.bipush 6, 2) := dk_16 6 (dk_at dksX1_init_6 0 rfl rfl)
theorem dX1_init_141 : decode cX1_init 141 = .ok (.newarray .int, 2) := dk_188_10 (dk_at dksX1_init_6 2 rfl rfl)
theorem dX1_init_143 : decode cX1_init 143 = .ok (.putfield 77, 3) := dk_181 0 77 (dk_at dksX1_init_6 4 rfl rfl)
theorem dX1_init_146 : decode cX1_init 146 = .ok (.aload_n 0, 1) := dk_42 (dk_at dksX1_init_6 7 rfl rfl)
theorem dX1_init_147 : decode cX1_init 147 = .ok (.getfield 47, 3) := dk_180 0 47 (dk_at dksX1_init_6 8 rfl rfl)
theorem dX1_init_150 : decode cX1_init 150 = .ok (.iconst 4, 1) := dk_7 (dk_at dksX1_init_6 11 rfl rfl)
theorem dX1_init_151 : decode cX1_init 151 = .ok (.bipush 12, 2) := dk_16 12 (dk_at dksX1_init_6 12 rfl rfl)
theorem dX1_init_153 : decode cX1_init 153 = .ok (.iastore, 1) := dk_79 (dk_at dksX1_init_6 14 rfl rfl)
theorem dX1_init_154 : decode cX1_init 154 = .ok (.aload_n 0, 1) := dk_42 (dk_at dksX1_init_6 15 rfl rfl)
theorem dX1_init_155 : decode cX1_init 155 = .ok (.getfield 47, 3) := dk_180 0 47 (dk_at dksX1_init_6 16 rfl rfl)
theorem dX1_init_158 : decode cX1_init 158 = .ok (.bipush 8, 2) := dk_16 8 (dk_at dksX1_init_6 19 rfl rfl)
theorem dX1_init_160 : decode cX1_init 160 = .ok (.iconst (-1), 1) := dk_2 (dk_at dksX1_init_6 21 rfl rfl)
theorem dX1_init_161 : decode cX1_init 161 = .ok (.iastore, 1) := dk_79 (dk_at dksX1_init_6 22 rfl rfl)
theorem dX1_init_162 : decode cX1_init 162 = .ok (.return_, 1) := dk_177 (dk_at dksX1_init_6 23 rfl rfl)
abbrev cX1_feed : ByteArray := prog_1_method_4_code
def yX1_feed : MethodName := ⟨RX1, "feed", "(IIIII)I"⟩
def dkwX1_feed_4 : List UInt8 := [181, 0, 84, 21, 8, 145, 84, 132, 7, 1, 167, 255, 208, 42, 180, 0, 84, 172]
abbrev dktX1_feed_4 : List UInt8 := dkwX1_feed_4 ++ []
def dkwX1_feed_3 : List UInt8 := [184, 0, 80, 54, 8, 21, 8, 153, 0, 22, 42, 180, 0, 16, 42, 89, 180, 0, 84, 90, 4, 96]
abbrev dktX1_feed_3 : List UInt8 := dkwX1_feed_3 ++ dktX1_feed_4
def dkwX1_feed_2 : List UInt8 := [164, 0, 5, 2, 172, 3, 54, 7, 21, 7, 16, 20, 162, 0, 47, 27, 28, 29, 21, 4, 21, 5, 21, 7]
abbrev dktX1_feed_2 : List UInt8 := dkwX1_feed_2 ++ dktX1_feed_3
def dkwX1_feed_1 : List UInt8 := [184, 0, 80, 153, 0, 6, 132, 6, 1, 132, 7, 1, 167, 255, 228, 42, 180, 0, 84, 21, 6, 96, 16, 120]
abbrev dktX1_feed_1 : List UInt8 := dkwX1_feed_1 ++ dktX1_feed_2
def dkwX1_feed_0 : List UInt8 := [3, 54, 6, 3, 54, 7, 21, 7, 16, 20, 162, 0, 27, 27, 28, 29, 21, 4, 21, 5, 21, 7]
abbrev dktX1_feed_0 : List UInt8 := dkwX1_feed_0 ++ dktX1_feed_1
theorem dksX1_feed_0 : cX1_feed.data.toList.drop 0 = dktX1_feed_0 := by decide +kernel
theorem dksX1_feed_1 : cX1_feed.data.toList.drop 22 = dktX1_feed_1 := dk_seg dksX1_feed_0 22 rfl rfl
theorem dksX1_feed_2 : cX1_feed.data.toList.drop 46 = dktX1_feed_2 := dk_seg dksX1_feed_1 24 rfl rfl
theorem dksX1_feed_3 : cX1_feed.data.toList.drop 70 = dktX1_feed_3 := dk_seg dksX1_feed_2 24 rfl rfl
theorem dksX1_feed_4 : cX1_feed.data.toList.drop 92 = dktX1_feed_4 := dk_seg dksX1_feed_3 22 rfl rfl
theorem dX1_feed_0 : decode cX1_feed 0 = .ok (.iconst 0, 1) := dk_3 (dk_at dksX1_feed_0 0 rfl rfl)
theorem dX1_feed_1 : decode cX1_feed 1 = .ok (.istore 6, 2) := dk_54 6 (dk_at dksX1_feed_0 1 rfl rfl)
theorem dX1_feed_3 : decode cX1_feed 3 = .ok (.iconst 0, 1) := dk_3 (dk_at dksX1_feed_0 3 rfl rfl)
theorem dX1_feed_4 : decode cX1_feed 4 = .ok (.istore 7, 2) := dk_54 7 (dk_at dksX1_feed_0 4 rfl rfl)
theorem dX1_feed_6 : decode cX1_feed 6 = .ok (.iload 7, 2) := dk_21 7 (dk_at dksX1_feed_0 6 rfl rfl)
theorem dX1_feed_8 : decode cX1_feed 8 = .ok (.bipush 20, 2) := dk_16 20 (dk_at dksX1_feed_0 8 rfl rfl)
theorem dX1_feed_10 : decode cX1_feed 10 = .ok (.if_icmp .ge 27, 3) := dk_162 0 27 (dk_at dksX1_feed_0 10 rfl rfl)
theorem dX1_feed_13 : decode cX1_feed 13 = .ok (.iload_n 1, 1) := dk_27 (dk_at dksX1_feed_0 13 rfl rfl)
theorem dX1_feed_14 : decode cX1_feed 14 = .ok (.iload_n 2, 1) := dk_28 (dk_at dksX1_feed_0 14 rfl rfl)
theorem dX1_feed_15 : decode cX1_feed 15 = .ok (.iload_n 3, 1) := dk_29 (dk_at dksX1_feed_0 15 rfl rfl)
theorem dX1_feed_16 : decode cX1_feed 16 = .ok (.iload 4, 2) := dk_21 4 (dk_at dksX1_feed_0 16 rfl rfl)
theorem dX1_feed_18 : decode cX1_feed 18 = .ok (.iload 5, 2) := dk_21 5 (dk_at dksX1_feed_0 18 rfl rfl)
theorem dX1_feed_20 : decode cX1_feed 20 = .ok (.iload 7, 2) := dk_21 7 (dk_at dksX1_feed_0 20 rfl rfl)
theorem dX1_feed_22 : decode cX1_feed 22 = .ok (.invokestatic 80, 3) := dk_184 0 80 (dk_at dksX1_feed_1 0 rfl rfl)
theorem dX1_feed_25 : decode cX1_feed 25 = .ok (.ifCond .eq 6, 3) := dk_153 0 6 (dk_at dksX1_feed_1 3 rfl rfl)
theorem dX1_feed_28 : decode cX1_feed 28 = .ok (.iinc 6 1, 3) := dk_132 6 1 (dk_at dksX1_feed_1 6 rfl rfl)
theorem dX1_feed_31 : decode cX1_feed 31 = .ok (.iinc 7 1, 3) := dk_132 7 1 (dk_at dksX1_feed_1 9 rfl rfl)
theorem dX1_feed_34 : decode cX1_feed 34 = .ok (.goto (-28), 3) := dk_167 255 228 (dk_at dksX1_feed_1 12 rfl rfl)
theorem dX1_feed_37 : decode cX1_feed 37 = .ok (.aload_n 0, 1) := dk_42 (dk_at dksX1_feed_1 15 rfl rfl)
theorem dX1_feed_38 : decode cX1_feed 38 = .ok (.getfield 84, 3) := dk_180 0 84 (dk_at dksX1_feed_1 16 rfl rfl)
theorem dX1_feed_41 : decode cX1_feed 41 = .ok (.iload 6, 2) := dk_21 6 (dk_at dksX1_feed_1 19 rfl rfl)
theorem dX1_feed_43 : decode cX1_feed 43 = .ok (.iadd, 1) := dk_96 (dk_at dksX1_feed_1 21 rfl rfl)
theorem dX1_feed_44 : decode cX1_feed 44 = .ok (.bipush 120, 2) := dk_16 120 (dk_at dksX1_feed_1 22 rfl rfl)
theorem dX1_feed_46 : decode cX1_feed 46 = .ok (.if_icmp .le 5, 3) := dk_164 0 5 (dk_at dksX1_feed_2 0 rfl rfl)
theorem dX1_feed_49 : decode cX1_feed 49 = .ok (.iconst (-1), 1) := dk_2 (dk_at dksX1_feed_2 3 rfl rfl)
theorem dX1_feed_50 : decode cX1_feed 50 = .ok (.ireturn, 1) := dk_172 (dk_at dksX1_feed_2 4 rfl rfl)
theorem dX1_feed_51 : decode cX1_feed 51 = .ok (.iconst 0, 1) := dk_3 (dk_at dksX1_feed_2 5 rfl rfl)
theorem dX1_feed_52 : decode cX1_feed 52 = .ok (.istore 7, 2) := dk_54 7 (dk_at dksX1_feed_2 6 rfl rfl)
theorem dX1_feed_54 : decode cX1_feed 54 = .ok (.iload 7, 2) := dk_21 7 (dk_at dksX1_feed_2 8 rfl rfl)
theorem dX1_feed_56 : decode cX1_feed 56 = .ok (.bipush 20, 2) := dk_16 20 (dk_at dksX1_feed_2 10 rfl rfl)
theorem dX1_feed_58 : decode cX1_feed 58 = .ok (.if_icmp .ge 47, 3) := dk_162 0 47 (dk_at dksX1_feed_2 12 rfl rfl)
theorem dX1_feed_61 : decode cX1_feed 61 = .ok (.iload_n 1, 1) := dk_27 (dk_at dksX1_feed_2 15 rfl rfl)
theorem dX1_feed_62 : decode cX1_feed 62 = .ok (.iload_n 2, 1) := dk_28 (dk_at dksX1_feed_2 16 rfl rfl)
theorem dX1_feed_63 : decode cX1_feed 63 = .ok (.iload_n 3, 1) := dk_29 (dk_at dksX1_feed_2 17 rfl rfl)
theorem dX1_feed_64 : decode cX1_feed 64 = .ok (.iload 4, 2) := dk_21 4 (dk_at dksX1_feed_2 18 rfl rfl)
theorem dX1_feed_66 : decode cX1_feed 66 = .ok (.iload 5, 2) := dk_21 5 (dk_at dksX1_feed_2 20 rfl rfl)
theorem dX1_feed_68 : decode cX1_feed 68 = .ok (.iload 7, 2) := dk_21 7 (dk_at dksX1_feed_2 22 rfl rfl)
theorem dX1_feed_70 : decode cX1_feed 70 = .ok (.invokestatic 80, 3) := dk_184 0 80 (dk_at dksX1_feed_3 0 rfl rfl)
theorem dX1_feed_73 : decode cX1_feed 73 = .ok (.istore 8, 2) := dk_54 8 (dk_at dksX1_feed_3 3 rfl rfl)
theorem dX1_feed_75 : decode cX1_feed 75 = .ok (.iload 8, 2) := dk_21 8 (dk_at dksX1_feed_3 5 rfl rfl)
theorem dX1_feed_77 : decode cX1_feed 77 = .ok (.ifCond .eq 22, 3) := dk_153 0 22 (dk_at dksX1_feed_3 7 rfl rfl)
theorem dX1_feed_80 : decode cX1_feed 80 = .ok (.aload_n 0, 1) := dk_42 (dk_at dksX1_feed_3 10 rfl rfl)
theorem dX1_feed_81 : decode cX1_feed 81 = .ok (.getfield 16, 3) := dk_180 0 16 (dk_at dksX1_feed_3 11 rfl rfl)
theorem dX1_feed_84 : decode cX1_feed 84 = .ok (.aload_n 0, 1) := dk_42 (dk_at dksX1_feed_3 14 rfl rfl)
theorem dX1_feed_85 : decode cX1_feed 85 = .ok (.dup, 1) := dk_89 (dk_at dksX1_feed_3 15 rfl rfl)
theorem dX1_feed_86 : decode cX1_feed 86 = .ok (.getfield 84, 3) := dk_180 0 84 (dk_at dksX1_feed_3 16 rfl rfl)
theorem dX1_feed_89 : decode cX1_feed 89 = .ok (.dup_x1, 1) := dk_90 (dk_at dksX1_feed_3 19 rfl rfl)
theorem dX1_feed_90 : decode cX1_feed 90 = .ok (.iconst 1, 1) := dk_4 (dk_at dksX1_feed_3 20 rfl rfl)
theorem dX1_feed_91 : decode cX1_feed 91 = .ok (.iadd, 1) := dk_96 (dk_at dksX1_feed_3 21 rfl rfl)
theorem dX1_feed_92 : decode cX1_feed 92 = .ok (.putfield 84, 3) := dk_181 0 84 (dk_at dksX1_feed_4 0 rfl rfl)
theorem dX1_feed_95 : decode cX1_feed 95 = .ok (.iload 8, 2) := dk_21 8 (dk_at dksX1_feed_4 3 rfl rfl)
theorem dX1_feed_97 : decode cX1_feed 97 = .ok (.i2b, 1) := dk_145 (dk_at dksX1_feed_4 5 rfl rfl)
theorem dX1_feed_98 : decode cX1_feed 98 = .ok (.bastore, 1) := dk_84 (dk_at dksX1_feed_4 6 rfl rfl)
theorem dX1_feed_99 : decode cX1_feed 99 = .ok (.iinc 7 1, 3) := dk_132 7 1 (dk_at dksX1_feed_4 7 rfl rfl)
theorem dX1_feed_102 : decode cX1_feed 102 = .ok (.goto (-48), 3) := dk_167 255 208 (dk_at dksX1_feed_4 10 rfl rfl)
theorem dX1_feed_105 : decode cX1_feed 105 = .ok (.aload_n 0, 1) := dk_42 (dk_at dksX1_feed_4 13 rfl rfl)
theorem dX1_feed_106 : decode cX1_feed 106 = .ok (.getfield 84, 3) := dk_180 0 84 (dk_at dksX1_feed_4 14 rfl rfl)
theorem dX1_feed_109 : decode cX1_feed 109 = .ok (.ireturn, 1) := dk_172 (dk_at dksX1_feed_4 17 rfl rfl)
abbrev cX1_byteOf : ByteArray := prog_1_method_3_code
def yX1_byteOf : MethodName := ⟨RX1, "byteOf", "(IIIIII)I"⟩
def dkwX1_byteOf_2 : List UInt8 := [21, 6, 16, 24, 16, 8, 21, 5, 7, 112, 104, 100, 122, 17, 0, 255, 126, 172]
abbrev dktX1_byteOf_2 : List UInt8 := dkwX1_byteOf_2 ++ []
def dkwX1_byteOf_1 : List UInt8 := [16, 12, 162, 0, 7, 28, 167, 0, 16, 21, 5, 16, 16, 162, 0, 7, 29, 167, 0, 5, 21, 4, 54, 6]
abbrev dktX1_byteOf_1 : List UInt8 := dkwX1_byteOf_1 ++ dktX1_byteOf_2
def dkwX1_byteOf_0 : List UInt8 := [21, 5, 7, 162, 0, 7, 26, 167, 0, 38, 21, 5, 16, 8, 162, 0, 7, 27, 167, 0, 27, 21, 5]
abbrev dktX1_byteOf_0 : List UInt8 := dkwX1_byteOf_0 ++ dktX1_byteOf_1
theorem dksX1_byteOf_0 : cX1_byteOf.data.toList.drop 0 = dktX1_byteOf_0 := by decide +kernel
theorem dksX1_byteOf_1 : cX1_byteOf.data.toList.drop 23 = dktX1_byteOf_1 := dk_seg dksX1_byteOf_0 23 rfl rfl
theorem dksX1_byteOf_2 : cX1_byteOf.data.toList.drop 47 = dktX1_byteOf_2 := dk_seg dksX1_byteOf_1 24 rfl rfl
theorem dX1_byteOf_0 : decode cX1_byteOf 0 = .ok (.iload 5, 2) := dk_21 5 (dk_at dksX1_byteOf_0 0 rfl rfl)
theorem dX1_byteOf_2 : decode cX1_byteOf 2 = .ok (.iconst 4, 1) := dk_7 (dk_at dksX1_byteOf_0 2 rfl rfl)
theorem dX1_byteOf_3 : decode cX1_byteOf 3 = .ok (.if_icmp .ge 7, 3) := dk_162 0 7 (dk_at dksX1_byteOf_0 3 rfl rfl)
theorem dX1_byteOf_6 : decode cX1_byteOf 6 = .ok (.iload_n 0, 1) := dk_26 (dk_at dksX1_byteOf_0 6 rfl rfl)
theorem dX1_byteOf_7 : decode cX1_byteOf 7 = .ok (.goto 38, 3) := dk_167 0 38 (dk_at dksX1_byteOf_0 7 rfl rfl)
theorem dX1_byteOf_10 : decode cX1_byteOf 10 = .ok (.iload 5, 2) := dk_21 5 (dk_at dksX1_byteOf_0 10 rfl rfl)
theorem dX1_byteOf_12 : decode cX1_byteOf 12 = .ok (.bipush 8, 2) := dk_16 8 (dk_at dksX1_byteOf_0 12 rfl rfl)
theorem dX1_byteOf_14 : decode cX1_byteOf 14 = .ok (.if_icmp .ge 7, 3) := dk_162 0 7 (dk_at dksX1_byteOf_0 14 rfl rfl)
theorem dX1_byteOf_17 : decode cX1_byteOf 17 = .ok (.iload_n 1, 1) := dk_27 (dk_at dksX1_byteOf_0 17 rfl rfl)
theorem dX1_byteOf_18 : decode cX1_byteOf 18 = .ok (.goto 27, 3) := dk_167 0 27 (dk_at dksX1_byteOf_0 18 rfl rfl)
theorem dX1_byteOf_21 : decode cX1_byteOf 21 = .ok (.iload 5, 2) := dk_21 5 (dk_at dksX1_byteOf_0 21 rfl rfl)
theorem dX1_byteOf_23 : decode cX1_byteOf 23 = .ok (.bipush 12, 2) := dk_16 12 (dk_at dksX1_byteOf_1 0 rfl rfl)
theorem dX1_byteOf_25 : decode cX1_byteOf 25 = .ok (.if_icmp .ge 7, 3) := dk_162 0 7 (dk_at dksX1_byteOf_1 2 rfl rfl)
theorem dX1_byteOf_28 : decode cX1_byteOf 28 = .ok (.iload_n 2, 1) := dk_28 (dk_at dksX1_byteOf_1 5 rfl rfl)
theorem dX1_byteOf_29 : decode cX1_byteOf 29 = .ok (.goto 16, 3) := dk_167 0 16 (dk_at dksX1_byteOf_1 6 rfl rfl)
theorem dX1_byteOf_32 : decode cX1_byteOf 32 = .ok (.iload 5, 2) := dk_21 5 (dk_at dksX1_byteOf_1 9 rfl rfl)
theorem dX1_byteOf_34 : decode cX1_byteOf 34 = .ok (.bipush 16, 2) := dk_16 16 (dk_at dksX1_byteOf_1 11 rfl rfl)
theorem dX1_byteOf_36 : decode cX1_byteOf 36 = .ok (.if_icmp .ge 7, 3) := dk_162 0 7 (dk_at dksX1_byteOf_1 13 rfl rfl)
theorem dX1_byteOf_39 : decode cX1_byteOf 39 = .ok (.iload_n 3, 1) := dk_29 (dk_at dksX1_byteOf_1 16 rfl rfl)
theorem dX1_byteOf_40 : decode cX1_byteOf 40 = .ok (.goto 5, 3) := dk_167 0 5 (dk_at dksX1_byteOf_1 17 rfl rfl)
theorem dX1_byteOf_43 : decode cX1_byteOf 43 = .ok (.iload 4, 2) := dk_21 4 (dk_at dksX1_byteOf_1 20 rfl rfl)
theorem dX1_byteOf_45 : decode cX1_byteOf 45 = .ok (.istore 6, 2) := dk_54 6 (dk_at dksX1_byteOf_1 22 rfl rfl)
theorem dX1_byteOf_47 : decode cX1_byteOf 47 = .ok (.iload 6, 2) := dk_21 6 (dk_at dksX1_byteOf_2 0 rfl rfl)
theorem dX1_byteOf_49 : decode cX1_byteOf 49 = .ok (.bipush 24, 2) := dk_16 24 (dk_at dksX1_byteOf_2 2 rfl rfl)
theorem dX1_byteOf_51 : decode cX1_byteOf 51 = .ok (.bipush 8, 2) := dk_16 8 (dk_at dksX1_byteOf_2 4 rfl rfl)
theorem dX1_byteOf_53 : decode cX1_byteOf 53 = .ok (.iload 5, 2) := dk_21 5 (dk_at dksX1_byteOf_2 6 rfl rfl)
theorem dX1_byteOf_55 : decode cX1_byteOf 55 = .ok (.iconst 4, 1) := dk_7 (dk_at dksX1_byteOf_2 8 rfl rfl)
theorem dX1_byteOf_56 : decode cX1_byteOf 56 = .ok (.irem, 1) := dk_112 (dk_at dksX1_byteOf_2 9 rfl rfl)
theorem dX1_byteOf_57 : decode cX1_byteOf 57 = .ok (.imul, 1) := dk_104 (dk_at dksX1_byteOf_2 10 rfl rfl)
theorem dX1_byteOf_58 : decode cX1_byteOf 58 = .ok (.isub, 1) := dk_100 (dk_at dksX1_byteOf_2 11 rfl rfl)
theorem dX1_byteOf_59 : decode cX1_byteOf 59 = .ok (.ishr, 1) := dk_122 (dk_at dksX1_byteOf_2 12 rfl rfl)
theorem dX1_byteOf_60 : decode cX1_byteOf 60 = .ok (.sipush 255, 3) := dk_17 0 255 (dk_at dksX1_byteOf_2 13 rfl rfl)
theorem dX1_byteOf_63 : decode cX1_byteOf 63 = .ok (.iand, 1) := dk_126 (dk_at dksX1_byteOf_2 16 rfl rfl)
theorem dX1_byteOf_64 : decode cX1_byteOf 64 = .ok (.ireturn, 1) := dk_172 (dk_at dksX1_byteOf_2 17 rfl rfl)
abbrev cX1_end : ByteArray := prog_1_method_5_code
def yX1_end : MethodName := ⟨RX1, "end", "(I)Z"⟩
def dkwX1_end_0 : List UInt8 := [27, 155, 0, 11, 27, 42, 180, 0, 84, 164, 0, 5, 3, 172, 42, 27, 181, 0, 84, 4, 172]
abbrev dktX1_end_0 : List UInt8 := dkwX1_end_0 ++ []
theorem dksX1_end_0 : cX1_end.data.toList.drop 0 = dktX1_end_0 := by decide +kernel
theorem dX1_end_0 : decode cX1_end 0 = .ok (.iload_n 1, 1) := dk_27 (dk_at dksX1_end_0 0 rfl rfl)
theorem dX1_end_1 : decode cX1_end 1 = .ok (.ifCond .lt 11, 3) := dk_155 0 11 (dk_at dksX1_end_0 1 rfl rfl)
theorem dX1_end_4 : decode cX1_end 4 = .ok (.iload_n 1, 1) := dk_27 (dk_at dksX1_end_0 4 rfl rfl)
theorem dX1_end_5 : decode cX1_end 5 = .ok (.aload_n 0, 1) := dk_42 (dk_at dksX1_end_0 5 rfl rfl)
theorem dX1_end_6 : decode cX1_end 6 = .ok (.getfield 84, 3) := dk_180 0 84 (dk_at dksX1_end_0 6 rfl rfl)
theorem dX1_end_9 : decode cX1_end 9 = .ok (.if_icmp .le 5, 3) := dk_164 0 5 (dk_at dksX1_end_0 9 rfl rfl)
theorem dX1_end_12 : decode cX1_end 12 = .ok (.iconst 0, 1) := dk_3 (dk_at dksX1_end_0 12 rfl rfl)
theorem dX1_end_13 : decode cX1_end 13 = .ok (.ireturn, 1) := dk_172 (dk_at dksX1_end_0 13 rfl rfl)
theorem dX1_end_14 : decode cX1_end 14 = .ok (.aload_n 0, 1) := dk_42 (dk_at dksX1_end_0 14 rfl rfl)
theorem dX1_end_15 : decode cX1_end 15 = .ok (.iload_n 1, 1) := dk_27 (dk_at dksX1_end_0 15 rfl rfl)
theorem dX1_end_16 : decode cX1_end 16 = .ok (.putfield 84, 3) := dk_181 0 84 (dk_at dksX1_end_0 16 rfl rfl)
theorem dX1_end_19 : decode cX1_end 19 = .ok (.iconst 1, 1) := dk_4 (dk_at dksX1_end_0 19 rfl rfl)
theorem dX1_end_20 : decode cX1_end 20 = .ok (.ireturn, 1) := dk_172 (dk_at dksX1_end_0 20 rfl rfl)
abbrev cX1_fault : ByteArray := prog_1_method_21_code
def yX1_fault : MethodName := ⟨RX1, "fault", "()I"⟩
def dkwX1_fault_0 : List UInt8 := [42, 182, 0, 193, 87, 2, 172, 76, 42, 180, 0, 87, 172]
abbrev dktX1_fault_0 : List UInt8 := dkwX1_fault_0 ++ []
theorem dksX1_fault_0 : cX1_fault.data.toList.drop 0 = dktX1_fault_0 := by decide +kernel
theorem dX1_fault_0 : decode cX1_fault 0 = .ok (.aload_n 0, 1) := dk_42 (dk_at dksX1_fault_0 0 rfl rfl)
theorem dX1_fault_1 : decode cX1_fault 1 = .ok (.invokevirtual 193, 3) := dk_182 0 193 (dk_at dksX1_fault_0 1 rfl rfl)
theorem dX1_fault_4 : decode cX1_fault 4 = .ok (.pop, 1) := dk_87 (dk_at dksX1_fault_0 4 rfl rfl)
theorem dX1_fault_5 : decode cX1_fault 5 = .ok (.iconst (-1), 1) := dk_2 (dk_at dksX1_fault_0 5 rfl rfl)
theorem dX1_fault_6 : decode cX1_fault 6 = .ok (.ireturn, 1) := dk_172 (dk_at dksX1_fault_0 6 rfl rfl)
theorem dX1_fault_7 : decode cX1_fault 7 = .ok (.astore_n 1, 1) := dk_76 (dk_at dksX1_fault_0 7 rfl rfl)
theorem dX1_fault_8 : decode cX1_fault 8 = .ok (.aload_n 0, 1) := dk_42 (dk_at dksX1_fault_0 8 rfl rfl)
theorem dX1_fault_9 : decode cX1_fault 9 = .ok (.getfield 87, 3) := dk_180 0 87 (dk_at dksX1_fault_0 9 rfl rfl)
theorem dX1_fault_12 : decode cX1_fault 12 = .ok (.ireturn, 1) := dk_172 (dk_at dksX1_fault_0 12 rfl rfl)
abbrev cX1_whole : ByteArray := prog_1_method_20_code
def yX1_whole : MethodName := ⟨RX1, "whole", "()LOneBears$Clause;"⟩
def dkwX1_whole_3 : List UInt8 := [43, 176]
abbrev dktX1_whole_3 : List UInt8 := dkwX1_whole_3 ++ []
def dkwX1_whole_2 : List UInt8 := [180, 0, 189, 77, 167, 255, 224, 42, 42, 182, 0, 97, 2, 160, 0, 7, 4, 167, 0, 4, 3, 182, 0, 93]
abbrev dktX1_whole_2 : List UInt8 := dkwX1_whole_2 ++ dktX1_whole_3
def dkwX1_whole_1 : List UInt8 := [160, 0, 29, 42, 89, 180, 0, 87, 4, 96, 181, 0, 87, 44, 42, 182, 0, 185, 181, 0, 189, 44]
abbrev dktX1_whole_1 : List UInt8 := dkwX1_whole_1 ++ dktX1_whole_2
def dkwX1_whole_0 : List UInt8 := [42, 3, 181, 0, 87, 42, 3, 181, 0, 90, 42, 182, 0, 185, 76, 43, 77, 42, 182, 0, 97, 16, 59]
abbrev dktX1_whole_0 : List UInt8 := dkwX1_whole_0 ++ dktX1_whole_1
theorem dksX1_whole_0 : cX1_whole.data.toList.drop 0 = dktX1_whole_0 := by decide +kernel
theorem dksX1_whole_1 : cX1_whole.data.toList.drop 23 = dktX1_whole_1 := dk_seg dksX1_whole_0 23 rfl rfl
theorem dksX1_whole_2 : cX1_whole.data.toList.drop 45 = dktX1_whole_2 := dk_seg dksX1_whole_1 22 rfl rfl
theorem dksX1_whole_3 : cX1_whole.data.toList.drop 69 = dktX1_whole_3 := dk_seg dksX1_whole_2 24 rfl rfl
theorem dX1_whole_0 : decode cX1_whole 0 = .ok (.aload_n 0, 1) := dk_42 (dk_at dksX1_whole_0 0 rfl rfl)
theorem dX1_whole_1 : decode cX1_whole 1 = .ok (.iconst 0, 1) := dk_3 (dk_at dksX1_whole_0 1 rfl rfl)
theorem dX1_whole_2 : decode cX1_whole 2 = .ok (.putfield 87, 3) := dk_181 0 87 (dk_at dksX1_whole_0 2 rfl rfl)
theorem dX1_whole_5 : decode cX1_whole 5 = .ok (.aload_n 0, 1) := dk_42 (dk_at dksX1_whole_0 5 rfl rfl)
theorem dX1_whole_6 : decode cX1_whole 6 = .ok (.iconst 0, 1) := dk_3 (dk_at dksX1_whole_0 6 rfl rfl)
theorem dX1_whole_7 : decode cX1_whole 7 = .ok (.putfield 90, 3) := dk_181 0 90 (dk_at dksX1_whole_0 7 rfl rfl)
theorem dX1_whole_10 : decode cX1_whole 10 = .ok (.aload_n 0, 1) := dk_42 (dk_at dksX1_whole_0 10 rfl rfl)
theorem dX1_whole_11 : decode cX1_whole 11 = .ok (.invokevirtual 185, 3) := dk_182 0 185 (dk_at dksX1_whole_0 11 rfl rfl)
theorem dX1_whole_14 : decode cX1_whole 14 = .ok (.astore_n 1, 1) := dk_76 (dk_at dksX1_whole_0 14 rfl rfl)
theorem dX1_whole_15 : decode cX1_whole 15 = .ok (.aload_n 1, 1) := dk_43 (dk_at dksX1_whole_0 15 rfl rfl)
theorem dX1_whole_16 : decode cX1_whole 16 = .ok (.astore_n 2, 1) := dk_77 (dk_at dksX1_whole_0 16 rfl rfl)
theorem dX1_whole_17 : decode cX1_whole 17 = .ok (.aload_n 0, 1) := dk_42 (dk_at dksX1_whole_0 17 rfl rfl)
theorem dX1_whole_18 : decode cX1_whole 18 = .ok (.invokevirtual 97, 3) := dk_182 0 97 (dk_at dksX1_whole_0 18 rfl rfl)
theorem dX1_whole_21 : decode cX1_whole 21 = .ok (.bipush 59, 2) := dk_16 59 (dk_at dksX1_whole_0 21 rfl rfl)
theorem dX1_whole_23 : decode cX1_whole 23 = .ok (.if_icmp .ne 29, 3) := dk_160 0 29 (dk_at dksX1_whole_1 0 rfl rfl)
theorem dX1_whole_26 : decode cX1_whole 26 = .ok (.aload_n 0, 1) := dk_42 (dk_at dksX1_whole_1 3 rfl rfl)
theorem dX1_whole_27 : decode cX1_whole 27 = .ok (.dup, 1) := dk_89 (dk_at dksX1_whole_1 4 rfl rfl)
theorem dX1_whole_28 : decode cX1_whole 28 = .ok (.getfield 87, 3) := dk_180 0 87 (dk_at dksX1_whole_1 5 rfl rfl)
theorem dX1_whole_31 : decode cX1_whole 31 = .ok (.iconst 1, 1) := dk_4 (dk_at dksX1_whole_1 8 rfl rfl)
theorem dX1_whole_32 : decode cX1_whole 32 = .ok (.iadd, 1) := dk_96 (dk_at dksX1_whole_1 9 rfl rfl)
theorem dX1_whole_33 : decode cX1_whole 33 = .ok (.putfield 87, 3) := dk_181 0 87 (dk_at dksX1_whole_1 10 rfl rfl)
theorem dX1_whole_36 : decode cX1_whole 36 = .ok (.aload_n 2, 1) := dk_44 (dk_at dksX1_whole_1 13 rfl rfl)
theorem dX1_whole_37 : decode cX1_whole 37 = .ok (.aload_n 0, 1) := dk_42 (dk_at dksX1_whole_1 14 rfl rfl)
theorem dX1_whole_38 : decode cX1_whole 38 = .ok (.invokevirtual 185, 3) := dk_182 0 185 (dk_at dksX1_whole_1 15 rfl rfl)
theorem dX1_whole_41 : decode cX1_whole 41 = .ok (.putfield 189, 3) := dk_181 0 189 (dk_at dksX1_whole_1 18 rfl rfl)
theorem dX1_whole_44 : decode cX1_whole 44 = .ok (.aload_n 2, 1) := dk_44 (dk_at dksX1_whole_1 21 rfl rfl)
theorem dX1_whole_45 : decode cX1_whole 45 = .ok (.getfield 189, 3) := dk_180 0 189 (dk_at dksX1_whole_2 0 rfl rfl)
theorem dX1_whole_48 : decode cX1_whole 48 = .ok (.astore_n 2, 1) := dk_77 (dk_at dksX1_whole_2 3 rfl rfl)
theorem dX1_whole_49 : decode cX1_whole 49 = .ok (.goto (-32), 3) := dk_167 255 224 (dk_at dksX1_whole_2 4 rfl rfl)
theorem dX1_whole_52 : decode cX1_whole 52 = .ok (.aload_n 0, 1) := dk_42 (dk_at dksX1_whole_2 7 rfl rfl)
theorem dX1_whole_53 : decode cX1_whole 53 = .ok (.aload_n 0, 1) := dk_42 (dk_at dksX1_whole_2 8 rfl rfl)
theorem dX1_whole_54 : decode cX1_whole 54 = .ok (.invokevirtual 97, 3) := dk_182 0 97 (dk_at dksX1_whole_2 9 rfl rfl)
theorem dX1_whole_57 : decode cX1_whole 57 = .ok (.iconst (-1), 1) := dk_2 (dk_at dksX1_whole_2 12 rfl rfl)
theorem dX1_whole_58 : decode cX1_whole 58 = .ok (.if_icmp .ne 7, 3) := dk_160 0 7 (dk_at dksX1_whole_2 13 rfl rfl)
theorem dX1_whole_61 : decode cX1_whole 61 = .ok (.iconst 1, 1) := dk_4 (dk_at dksX1_whole_2 16 rfl rfl)
theorem dX1_whole_62 : decode cX1_whole 62 = .ok (.goto 4, 3) := dk_167 0 4 (dk_at dksX1_whole_2 17 rfl rfl)
theorem dX1_whole_65 : decode cX1_whole 65 = .ok (.iconst 0, 1) := dk_3 (dk_at dksX1_whole_2 20 rfl rfl)
theorem dX1_whole_66 : decode cX1_whole 66 = .ok (.invokevirtual 93, 3) := dk_182 0 93 (dk_at dksX1_whole_2 21 rfl rfl)
theorem dX1_whole_69 : decode cX1_whole 69 = .ok (.aload_n 1, 1) := dk_43 (dk_at dksX1_whole_3 0 rfl rfl)
theorem dX1_whole_70 : decode cX1_whole 70 = .ok (.areturn, 1) := dk_176 (dk_at dksX1_whole_3 1 rfl rfl)
abbrev cX1_clause : ByteArray := prog_1_method_19_code
def yX1_clause : MethodName := ⟨RX1, "clause", "()LOneBears$Clause;"⟩
def dkwX1_clause_6 : List UInt8 := [89, 180, 0, 87, 4, 96, 181, 0, 87, 187, 0, 24, 89, 27, 25, 4, 42, 182, 0, 104, 183, 0, 182, 176]
abbrev dktX1_clause_6 : List UInt8 := dkwX1_clause_6 ++ []
def dkwX1_clause_5 : List UInt8 := [182, 0, 163, 58, 4, 42, 42, 182, 0, 97, 16, 63, 160, 0, 7, 4, 167, 0, 4, 3, 182, 0, 93, 42]
abbrev dktX1_clause_5 : List UInt8 := dkwX1_clause_5 ++ dktX1_clause_6
def dkwX1_clause_4 : List UInt8 := [42, 182, 0, 97, 184, 0, 146, 154, 0, 14, 187, 0, 24, 89, 27, 1, 45, 183, 0, 182, 176, 42, 45]
abbrev dktX1_clause_4 : List UInt8 := dkwX1_clause_4 ++ dktX1_clause_5
def dkwX1_clause_3 : List UInt8 := [16, 33, 159, 0, 9, 28, 16, 40, 160, 0, 7, 1, 167, 0, 7, 42, 182, 0, 104, 78, 45, 198, 0, 24]
abbrev dktX1_clause_3 : List UInt8 := dkwX1_clause_3 ++ dktX1_clause_4
def dkwX1_clause_2 : List UInt8 := [167, 0, 4, 3, 182, 0, 93, 42, 89, 180, 0, 87, 4, 96, 181, 0, 87, 42, 182, 0, 97, 61, 28]
abbrev dktX1_clause_2 : List UInt8 := dkwX1_clause_2 ++ dktX1_clause_3
def dkwX1_clause_1 : List UInt8 := [182, 0, 93, 42, 89, 180, 0, 87, 4, 96, 181, 0, 87, 42, 42, 182, 0, 97, 16, 58, 160, 0, 7, 4]
abbrev dktX1_clause_1 : List UInt8 := dkwX1_clause_1 ++ dktX1_clause_2
def dkwX1_clause_0 : List UInt8 := [42, 182, 0, 97, 60, 42, 27, 158, 0, 16, 18, 180, 27, 182, 0, 114, 155, 0, 7, 4, 167, 0, 4, 3]
abbrev dktX1_clause_0 : List UInt8 := dkwX1_clause_0 ++ dktX1_clause_1
theorem dksX1_clause_0 : cX1_clause.data.toList.drop 0 = dktX1_clause_0 := by decide +kernel
theorem dksX1_clause_1 : cX1_clause.data.toList.drop 24 = dktX1_clause_1 := dk_seg dksX1_clause_0 24 rfl rfl
theorem dksX1_clause_2 : cX1_clause.data.toList.drop 48 = dktX1_clause_2 := dk_seg dksX1_clause_1 24 rfl rfl
theorem dksX1_clause_3 : cX1_clause.data.toList.drop 71 = dktX1_clause_3 := dk_seg dksX1_clause_2 23 rfl rfl
theorem dksX1_clause_4 : cX1_clause.data.toList.drop 95 = dktX1_clause_4 := dk_seg dksX1_clause_3 24 rfl rfl
theorem dksX1_clause_5 : cX1_clause.data.toList.drop 118 = dktX1_clause_5 := dk_seg dksX1_clause_4 23 rfl rfl
theorem dksX1_clause_6 : cX1_clause.data.toList.drop 142 = dktX1_clause_6 := dk_seg dksX1_clause_5 24 rfl rfl
theorem dX1_clause_0 : decode cX1_clause 0 = .ok (.aload_n 0, 1) := dk_42 (dk_at dksX1_clause_0 0 rfl rfl)
theorem dX1_clause_1 : decode cX1_clause 1 = .ok (.invokevirtual 97, 3) := dk_182 0 97 (dk_at dksX1_clause_0 1 rfl rfl)
theorem dX1_clause_4 : decode cX1_clause 4 = .ok (.istore_n 1, 1) := dk_60 (dk_at dksX1_clause_0 4 rfl rfl)
theorem dX1_clause_5 : decode cX1_clause 5 = .ok (.aload_n 0, 1) := dk_42 (dk_at dksX1_clause_0 5 rfl rfl)
theorem dX1_clause_6 : decode cX1_clause 6 = .ok (.iload_n 1, 1) := dk_27 (dk_at dksX1_clause_0 6 rfl rfl)
theorem dX1_clause_7 : decode cX1_clause 7 = .ok (.ifCond .le 16, 3) := dk_158 0 16 (dk_at dksX1_clause_0 7 rfl rfl)
theorem dX1_clause_10 : decode cX1_clause 10 = .ok (.ldc 180, 2) := dk_18 180 (dk_at dksX1_clause_0 10 rfl rfl)
theorem dX1_clause_12 : decode cX1_clause 12 = .ok (.iload_n 1, 1) := dk_27 (dk_at dksX1_clause_0 12 rfl rfl)
theorem dX1_clause_13 : decode cX1_clause 13 = .ok (.invokevirtual 114, 3) := dk_182 0 114 (dk_at dksX1_clause_0 13 rfl rfl)
theorem dX1_clause_16 : decode cX1_clause 16 = .ok (.ifCond .lt 7, 3) := dk_155 0 7 (dk_at dksX1_clause_0 16 rfl rfl)
theorem dX1_clause_19 : decode cX1_clause 19 = .ok (.iconst 1, 1) := dk_4 (dk_at dksX1_clause_0 19 rfl rfl)
theorem dX1_clause_20 : decode cX1_clause 20 = .ok (.goto 4, 3) := dk_167 0 4 (dk_at dksX1_clause_0 20 rfl rfl)
theorem dX1_clause_23 : decode cX1_clause 23 = .ok (.iconst 0, 1) := dk_3 (dk_at dksX1_clause_0 23 rfl rfl)
theorem dX1_clause_24 : decode cX1_clause 24 = .ok (.invokevirtual 93, 3) := dk_182 0 93 (dk_at dksX1_clause_1 0 rfl rfl)
theorem dX1_clause_27 : decode cX1_clause 27 = .ok (.aload_n 0, 1) := dk_42 (dk_at dksX1_clause_1 3 rfl rfl)
theorem dX1_clause_28 : decode cX1_clause 28 = .ok (.dup, 1) := dk_89 (dk_at dksX1_clause_1 4 rfl rfl)
theorem dX1_clause_29 : decode cX1_clause 29 = .ok (.getfield 87, 3) := dk_180 0 87 (dk_at dksX1_clause_1 5 rfl rfl)
theorem dX1_clause_32 : decode cX1_clause 32 = .ok (.iconst 1, 1) := dk_4 (dk_at dksX1_clause_1 8 rfl rfl)
theorem dX1_clause_33 : decode cX1_clause 33 = .ok (.iadd, 1) := dk_96 (dk_at dksX1_clause_1 9 rfl rfl)
theorem dX1_clause_34 : decode cX1_clause 34 = .ok (.putfield 87, 3) := dk_181 0 87 (dk_at dksX1_clause_1 10 rfl rfl)
theorem dX1_clause_37 : decode cX1_clause 37 = .ok (.aload_n 0, 1) := dk_42 (dk_at dksX1_clause_1 13 rfl rfl)
theorem dX1_clause_38 : decode cX1_clause 38 = .ok (.aload_n 0, 1) := dk_42 (dk_at dksX1_clause_1 14 rfl rfl)
theorem dX1_clause_39 : decode cX1_clause 39 = .ok (.invokevirtual 97, 3) := dk_182 0 97 (dk_at dksX1_clause_1 15 rfl rfl)
theorem dX1_clause_42 : decode cX1_clause 42 = .ok (.bipush 58, 2) := dk_16 58 (dk_at dksX1_clause_1 18 rfl rfl)
theorem dX1_clause_44 : decode cX1_clause 44 = .ok (.if_icmp .ne 7, 3) := dk_160 0 7 (dk_at dksX1_clause_1 20 rfl rfl)
theorem dX1_clause_47 : decode cX1_clause 47 = .ok (.iconst 1, 1) := dk_4 (dk_at dksX1_clause_1 23 rfl rfl)
theorem dX1_clause_48 : decode cX1_clause 48 = .ok (.goto 4, 3) := dk_167 0 4 (dk_at dksX1_clause_2 0 rfl rfl)
theorem dX1_clause_51 : decode cX1_clause 51 = .ok (.iconst 0, 1) := dk_3 (dk_at dksX1_clause_2 3 rfl rfl)
theorem dX1_clause_52 : decode cX1_clause 52 = .ok (.invokevirtual 93, 3) := dk_182 0 93 (dk_at dksX1_clause_2 4 rfl rfl)
theorem dX1_clause_55 : decode cX1_clause 55 = .ok (.aload_n 0, 1) := dk_42 (dk_at dksX1_clause_2 7 rfl rfl)
theorem dX1_clause_56 : decode cX1_clause 56 = .ok (.dup, 1) := dk_89 (dk_at dksX1_clause_2 8 rfl rfl)
theorem dX1_clause_57 : decode cX1_clause 57 = .ok (.getfield 87, 3) := dk_180 0 87 (dk_at dksX1_clause_2 9 rfl rfl)
theorem dX1_clause_60 : decode cX1_clause 60 = .ok (.iconst 1, 1) := dk_4 (dk_at dksX1_clause_2 12 rfl rfl)
theorem dX1_clause_61 : decode cX1_clause 61 = .ok (.iadd, 1) := dk_96 (dk_at dksX1_clause_2 13 rfl rfl)
theorem dX1_clause_62 : decode cX1_clause 62 = .ok (.putfield 87, 3) := dk_181 0 87 (dk_at dksX1_clause_2 14 rfl rfl)
theorem dX1_clause_65 : decode cX1_clause 65 = .ok (.aload_n 0, 1) := dk_42 (dk_at dksX1_clause_2 17 rfl rfl)
theorem dX1_clause_66 : decode cX1_clause 66 = .ok (.invokevirtual 97, 3) := dk_182 0 97 (dk_at dksX1_clause_2 18 rfl rfl)
theorem dX1_clause_69 : decode cX1_clause 69 = .ok (.istore_n 2, 1) := dk_61 (dk_at dksX1_clause_2 21 rfl rfl)
theorem dX1_clause_70 : decode cX1_clause 70 = .ok (.iload_n 2, 1) := dk_28 (dk_at dksX1_clause_2 22 rfl rfl)
theorem dX1_clause_71 : decode cX1_clause 71 = .ok (.bipush 33, 2) := dk_16 33 (dk_at dksX1_clause_3 0 rfl rfl)
theorem dX1_clause_73 : decode cX1_clause 73 = .ok (.if_icmp .eq 9, 3) := dk_159 0 9 (dk_at dksX1_clause_3 2 rfl rfl)
theorem dX1_clause_76 : decode cX1_clause 76 = .ok (.iload_n 2, 1) := dk_28 (dk_at dksX1_clause_3 5 rfl rfl)
theorem dX1_clause_77 : decode cX1_clause 77 = .ok (.bipush 40, 2) := dk_16 40 (dk_at dksX1_clause_3 6 rfl rfl)
theorem dX1_clause_79 : decode cX1_clause 79 = .ok (.if_icmp .ne 7, 3) := dk_160 0 7 (dk_at dksX1_clause_3 8 rfl rfl)
theorem dX1_clause_82 : decode cX1_clause 82 = .ok (.aconst_null, 1) := dk_1 (dk_at dksX1_clause_3 11 rfl rfl)
theorem dX1_clause_83 : decode cX1_clause 83 = .ok (.goto 7, 3) := dk_167 0 7 (dk_at dksX1_clause_3 12 rfl rfl)
theorem dX1_clause_86 : decode cX1_clause 86 = .ok (.aload_n 0, 1) := dk_42 (dk_at dksX1_clause_3 15 rfl rfl)
theorem dX1_clause_87 : decode cX1_clause 87 = .ok (.invokevirtual 104, 3) := dk_182 0 104 (dk_at dksX1_clause_3 16 rfl rfl)
theorem dX1_clause_90 : decode cX1_clause 90 = .ok (.astore_n 3, 1) := dk_78 (dk_at dksX1_clause_3 19 rfl rfl)
theorem dX1_clause_91 : decode cX1_clause 91 = .ok (.aload_n 3, 1) := dk_45 (dk_at dksX1_clause_3 20 rfl rfl)
theorem dX1_clause_92 : decode cX1_clause 92 = .ok (.ifnull 24, 3) := dk_198 0 24 (dk_at dksX1_clause_3 21 rfl rfl)
theorem dX1_clause_95 : decode cX1_clause 95 = .ok (.aload_n 0, 1) := dk_42 (dk_at dksX1_clause_4 0 rfl rfl)
theorem dX1_clause_96 : decode cX1_clause 96 = .ok (.invokevirtual 97, 3) := dk_182 0 97 (dk_at dksX1_clause_4 1 rfl rfl)
theorem dX1_clause_99 : decode cX1_clause 99 = .ok (.invokestatic 146, 3) := dk_184 0 146 (dk_at dksX1_clause_4 4 rfl rfl)
theorem dX1_clause_102 : decode cX1_clause 102 = .ok (.ifCond .ne 14, 3) := dk_154 0 14 (dk_at dksX1_clause_4 7 rfl rfl)
theorem dX1_clause_105 : decode cX1_clause 105 = .ok (.new 24, 3) := dk_187 0 24 (dk_at dksX1_clause_4 10 rfl rfl)
theorem dX1_clause_108 : decode cX1_clause 108 = .ok (.dup, 1) := dk_89 (dk_at dksX1_clause_4 13 rfl rfl)
theorem dX1_clause_109 : decode cX1_clause 109 = .ok (.iload_n 1, 1) := dk_27 (dk_at dksX1_clause_4 14 rfl rfl)
theorem dX1_clause_110 : decode cX1_clause 110 = .ok (.aconst_null, 1) := dk_1 (dk_at dksX1_clause_4 15 rfl rfl)
theorem dX1_clause_111 : decode cX1_clause 111 = .ok (.aload_n 3, 1) := dk_45 (dk_at dksX1_clause_4 16 rfl rfl)
theorem dX1_clause_112 : decode cX1_clause 112 = .ok (.invokespecial 182, 3) := dk_183 0 182 (dk_at dksX1_clause_4 17 rfl rfl)
theorem dX1_clause_115 : decode cX1_clause 115 = .ok (.areturn, 1) := dk_176 (dk_at dksX1_clause_4 20 rfl rfl)
theorem dX1_clause_116 : decode cX1_clause 116 = .ok (.aload_n 0, 1) := dk_42 (dk_at dksX1_clause_4 21 rfl rfl)
theorem dX1_clause_117 : decode cX1_clause 117 = .ok (.aload_n 3, 1) := dk_45 (dk_at dksX1_clause_4 22 rfl rfl)
theorem dX1_clause_118 : decode cX1_clause 118 = .ok (.invokevirtual 163, 3) := dk_182 0 163 (dk_at dksX1_clause_5 0 rfl rfl)
theorem dX1_clause_121 : decode cX1_clause 121 = .ok (.astore 4, 2) := dk_58 4 (dk_at dksX1_clause_5 3 rfl rfl)
theorem dX1_clause_123 : decode cX1_clause 123 = .ok (.aload_n 0, 1) := dk_42 (dk_at dksX1_clause_5 5 rfl rfl)
theorem dX1_clause_124 : decode cX1_clause 124 = .ok (.aload_n 0, 1) := dk_42 (dk_at dksX1_clause_5 6 rfl rfl)
theorem dX1_clause_125 : decode cX1_clause 125 = .ok (.invokevirtual 97, 3) := dk_182 0 97 (dk_at dksX1_clause_5 7 rfl rfl)
theorem dX1_clause_128 : decode cX1_clause 128 = .ok (.bipush 63, 2) := dk_16 63 (dk_at dksX1_clause_5 10 rfl rfl)
theorem dX1_clause_130 : decode cX1_clause 130 = .ok (.if_icmp .ne 7, 3) := dk_160 0 7 (dk_at dksX1_clause_5 12 rfl rfl)
theorem dX1_clause_133 : decode cX1_clause 133 = .ok (.iconst 1, 1) := dk_4 (dk_at dksX1_clause_5 15 rfl rfl)
theorem dX1_clause_134 : decode cX1_clause 134 = .ok (.goto 4, 3) := dk_167 0 4 (dk_at dksX1_clause_5 16 rfl rfl)
theorem dX1_clause_137 : decode cX1_clause 137 = .ok (.iconst 0, 1) := dk_3 (dk_at dksX1_clause_5 19 rfl rfl)
theorem dX1_clause_138 : decode cX1_clause 138 = .ok (.invokevirtual 93, 3) := dk_182 0 93 (dk_at dksX1_clause_5 20 rfl rfl)
theorem dX1_clause_141 : decode cX1_clause 141 = .ok (.aload_n 0, 1) := dk_42 (dk_at dksX1_clause_5 23 rfl rfl)
theorem dX1_clause_142 : decode cX1_clause 142 = .ok (.dup, 1) := dk_89 (dk_at dksX1_clause_6 0 rfl rfl)
theorem dX1_clause_143 : decode cX1_clause 143 = .ok (.getfield 87, 3) := dk_180 0 87 (dk_at dksX1_clause_6 1 rfl rfl)
theorem dX1_clause_146 : decode cX1_clause 146 = .ok (.iconst 1, 1) := dk_4 (dk_at dksX1_clause_6 4 rfl rfl)
theorem dX1_clause_147 : decode cX1_clause 147 = .ok (.iadd, 1) := dk_96 (dk_at dksX1_clause_6 5 rfl rfl)
theorem dX1_clause_148 : decode cX1_clause 148 = .ok (.putfield 87, 3) := dk_181 0 87 (dk_at dksX1_clause_6 6 rfl rfl)
theorem dX1_clause_151 : decode cX1_clause 151 = .ok (.new 24, 3) := dk_187 0 24 (dk_at dksX1_clause_6 9 rfl rfl)
theorem dX1_clause_154 : decode cX1_clause 154 = .ok (.dup, 1) := dk_89 (dk_at dksX1_clause_6 12 rfl rfl)
theorem dX1_clause_155 : decode cX1_clause 155 = .ok (.iload_n 1, 1) := dk_27 (dk_at dksX1_clause_6 13 rfl rfl)
theorem dX1_clause_156 : decode cX1_clause 156 = .ok (.aload 4, 2) := dk_25 4 (dk_at dksX1_clause_6 14 rfl rfl)
theorem dX1_clause_158 : decode cX1_clause 158 = .ok (.aload_n 0, 1) := dk_42 (dk_at dksX1_clause_6 16 rfl rfl)
theorem dX1_clause_159 : decode cX1_clause 159 = .ok (.invokevirtual 104, 3) := dk_182 0 104 (dk_at dksX1_clause_6 17 rfl rfl)
theorem dX1_clause_162 : decode cX1_clause 162 = .ok (.invokespecial 182, 3) := dk_183 0 182 (dk_at dksX1_clause_6 20 rfl rfl)
theorem dX1_clause_165 : decode cX1_clause 165 = .ok (.areturn, 1) := dk_176 (dk_at dksX1_clause_6 23 rfl rfl)
abbrev cX1_look : ByteArray := prog_1_method_6_code
def yX1_look : MethodName := ⟨RX1, "look", "()I"⟩
def dkwX1_look_2 : List UInt8 := [162, 0, 19, 42, 180, 0, 16, 42, 180, 0, 87, 51, 17, 0, 255, 126, 167, 0, 4, 2, 172]
abbrev dktX1_look_2 : List UInt8 := dkwX1_look_2 ++ []
def dkwX1_look_1 : List UInt8 := [160, 0, 16, 42, 89, 180, 0, 87, 4, 96, 181, 0, 87, 167, 255, 221, 42, 180, 0, 87, 42, 180, 0, 84]
abbrev dktX1_look_1 : List UInt8 := dkwX1_look_1 ++ dktX1_look_2
def dkwX1_look_0 : List UInt8 := [42, 180, 0, 87, 42, 180, 0, 84, 162, 0, 30, 42, 180, 0, 16, 42, 180, 0, 87, 51, 16, 32]
abbrev dktX1_look_0 : List UInt8 := dkwX1_look_0 ++ dktX1_look_1
theorem dksX1_look_0 : cX1_look.data.toList.drop 0 = dktX1_look_0 := by decide +kernel
theorem dksX1_look_1 : cX1_look.data.toList.drop 22 = dktX1_look_1 := dk_seg dksX1_look_0 22 rfl rfl
theorem dksX1_look_2 : cX1_look.data.toList.drop 46 = dktX1_look_2 := dk_seg dksX1_look_1 24 rfl rfl
theorem dX1_look_0 : decode cX1_look 0 = .ok (.aload_n 0, 1) := dk_42 (dk_at dksX1_look_0 0 rfl rfl)
theorem dX1_look_1 : decode cX1_look 1 = .ok (.getfield 87, 3) := dk_180 0 87 (dk_at dksX1_look_0 1 rfl rfl)
theorem dX1_look_4 : decode cX1_look 4 = .ok (.aload_n 0, 1) := dk_42 (dk_at dksX1_look_0 4 rfl rfl)
theorem dX1_look_5 : decode cX1_look 5 = .ok (.getfield 84, 3) := dk_180 0 84 (dk_at dksX1_look_0 5 rfl rfl)
theorem dX1_look_8 : decode cX1_look 8 = .ok (.if_icmp .ge 30, 3) := dk_162 0 30 (dk_at dksX1_look_0 8 rfl rfl)
theorem dX1_look_11 : decode cX1_look 11 = .ok (.aload_n 0, 1) := dk_42 (dk_at dksX1_look_0 11 rfl rfl)
theorem dX1_look_12 : decode cX1_look 12 = .ok (.getfield 16, 3) := dk_180 0 16 (dk_at dksX1_look_0 12 rfl rfl)
theorem dX1_look_15 : decode cX1_look 15 = .ok (.aload_n 0, 1) := dk_42 (dk_at dksX1_look_0 15 rfl rfl)
theorem dX1_look_16 : decode cX1_look 16 = .ok (.getfield 87, 3) := dk_180 0 87 (dk_at dksX1_look_0 16 rfl rfl)
theorem dX1_look_19 : decode cX1_look 19 = .ok (.baload, 1) := dk_51 (dk_at dksX1_look_0 19 rfl rfl)
theorem dX1_look_20 : decode cX1_look 20 = .ok (.bipush 32, 2) := dk_16 32 (dk_at dksX1_look_0 20 rfl rfl)
theorem dX1_look_22 : decode cX1_look 22 = .ok (.if_icmp .ne 16, 3) := dk_160 0 16 (dk_at dksX1_look_1 0 rfl rfl)
theorem dX1_look_25 : decode cX1_look 25 = .ok (.aload_n 0, 1) := dk_42 (dk_at dksX1_look_1 3 rfl rfl)
theorem dX1_look_26 : decode cX1_look 26 = .ok (.dup, 1) := dk_89 (dk_at dksX1_look_1 4 rfl rfl)
theorem dX1_look_27 : decode cX1_look 27 = .ok (.getfield 87, 3) := dk_180 0 87 (dk_at dksX1_look_1 5 rfl rfl)
theorem dX1_look_30 : decode cX1_look 30 = .ok (.iconst 1, 1) := dk_4 (dk_at dksX1_look_1 8 rfl rfl)
theorem dX1_look_31 : decode cX1_look 31 = .ok (.iadd, 1) := dk_96 (dk_at dksX1_look_1 9 rfl rfl)
theorem dX1_look_32 : decode cX1_look 32 = .ok (.putfield 87, 3) := dk_181 0 87 (dk_at dksX1_look_1 10 rfl rfl)
theorem dX1_look_35 : decode cX1_look 35 = .ok (.goto (-35), 3) := dk_167 255 221 (dk_at dksX1_look_1 13 rfl rfl)
theorem dX1_look_38 : decode cX1_look 38 = .ok (.aload_n 0, 1) := dk_42 (dk_at dksX1_look_1 16 rfl rfl)
theorem dX1_look_39 : decode cX1_look 39 = .ok (.getfield 87, 3) := dk_180 0 87 (dk_at dksX1_look_1 17 rfl rfl)
theorem dX1_look_42 : decode cX1_look 42 = .ok (.aload_n 0, 1) := dk_42 (dk_at dksX1_look_1 20 rfl rfl)
theorem dX1_look_43 : decode cX1_look 43 = .ok (.getfield 84, 3) := dk_180 0 84 (dk_at dksX1_look_1 21 rfl rfl)
theorem dX1_look_46 : decode cX1_look 46 = .ok (.if_icmp .ge 19, 3) := dk_162 0 19 (dk_at dksX1_look_2 0 rfl rfl)
theorem dX1_look_49 : decode cX1_look 49 = .ok (.aload_n 0, 1) := dk_42 (dk_at dksX1_look_2 3 rfl rfl)
theorem dX1_look_50 : decode cX1_look 50 = .ok (.getfield 16, 3) := dk_180 0 16 (dk_at dksX1_look_2 4 rfl rfl)
theorem dX1_look_53 : decode cX1_look 53 = .ok (.aload_n 0, 1) := dk_42 (dk_at dksX1_look_2 7 rfl rfl)
theorem dX1_look_54 : decode cX1_look 54 = .ok (.getfield 87, 3) := dk_180 0 87 (dk_at dksX1_look_2 8 rfl rfl)
theorem dX1_look_57 : decode cX1_look 57 = .ok (.baload, 1) := dk_51 (dk_at dksX1_look_2 11 rfl rfl)
theorem dX1_look_58 : decode cX1_look 58 = .ok (.sipush 255, 3) := dk_17 0 255 (dk_at dksX1_look_2 12 rfl rfl)
theorem dX1_look_61 : decode cX1_look 61 = .ok (.iand, 1) := dk_126 (dk_at dksX1_look_2 15 rfl rfl)
theorem dX1_look_62 : decode cX1_look 62 = .ok (.goto 4, 3) := dk_167 0 4 (dk_at dksX1_look_2 16 rfl rfl)
theorem dX1_look_65 : decode cX1_look 65 = .ok (.iconst (-1), 1) := dk_2 (dk_at dksX1_look_2 19 rfl rfl)
theorem dX1_look_66 : decode cX1_look 66 = .ok (.ireturn, 1) := dk_172 (dk_at dksX1_look_2 20 rfl rfl)
abbrev cX1_need : ByteArray := prog_1_method_8_code
def yX1_need : MethodName := ⟨RX1, "need", "(Z)V"⟩
def dkwX1_need_0 : List UInt8 := [27, 154, 0, 8, 42, 180, 0, 10, 191, 177]
abbrev dktX1_need_0 : List UInt8 := dkwX1_need_0 ++ []
theorem dksX1_need_0 : cX1_need.data.toList.drop 0 = dktX1_need_0 := by decide +kernel
theorem dX1_need_0 : decode cX1_need 0 = .ok (.iload_n 1, 1) := dk_27 (dk_at dksX1_need_0 0 rfl rfl)
theorem dX1_need_1 : decode cX1_need 1 = .ok (.ifCond .ne 8, 3) := dk_154 0 8 (dk_at dksX1_need_0 1 rfl rfl)
theorem dX1_need_4 : decode cX1_need 4 = .ok (.aload_n 0, 1) := dk_42 (dk_at dksX1_need_0 4 rfl rfl)
theorem dX1_need_5 : decode cX1_need 5 = .ok (.getfield 10, 3) := dk_180 0 10 (dk_at dksX1_need_0 5 rfl rfl)
theorem dX1_need_8 : decode cX1_need 8 = .ok (.athrow, 1) := dk_191 (dk_at dksX1_need_0 8 rfl rfl)
theorem dX1_need_9 : decode cX1_need 9 = .ok (.return_, 1) := dk_177 (dk_at dksX1_need_0 9 rfl rfl)
abbrev cX1_sum : ByteArray := prog_1_method_13_code
def yX1_sum : MethodName := ⟨RX1, "sum", "()LOneBears$Sum;"⟩
def dkwX1_sum_3 : List UInt8 := [44, 176]
abbrev dktX1_sum_3 : List UInt8 := dkwX1_sum_3 ++ []
def dkwX1_sum_2 : List UInt8 := [29, 42, 182, 0, 143, 182, 0, 139, 42, 182, 0, 97, 62, 167, 255, 207, 44, 199, 0, 7, 43, 167, 0, 4]
abbrev dktX1_sum_2 : List UInt8 := dkwX1_sum_2 ++ dktX1_sum_3
def dkwX1_sum_1 : List UInt8 := [42, 89, 180, 0, 87, 4, 96, 181, 0, 87, 44, 199, 0, 12, 187, 0, 134, 89, 43, 183, 0, 136, 77, 44]
abbrev dktX1_sum_1 : List UInt8 := dkwX1_sum_1 ++ dktX1_sum_2
def dkwX1_sum_0 : List UInt8 := [42, 182, 0, 143, 76, 1, 77, 42, 182, 0, 97, 62, 29, 16, 43, 159, 0, 9, 29, 16, 45, 160, 0, 43]
abbrev dktX1_sum_0 : List UInt8 := dkwX1_sum_0 ++ dktX1_sum_1
theorem dksX1_sum_0 : cX1_sum.data.toList.drop 0 = dktX1_sum_0 := by decide +kernel
theorem dksX1_sum_1 : cX1_sum.data.toList.drop 24 = dktX1_sum_1 := dk_seg dksX1_sum_0 24 rfl rfl
theorem dksX1_sum_2 : cX1_sum.data.toList.drop 48 = dktX1_sum_2 := dk_seg dksX1_sum_1 24 rfl rfl
theorem dksX1_sum_3 : cX1_sum.data.toList.drop 72 = dktX1_sum_3 := dk_seg dksX1_sum_2 24 rfl rfl
theorem dX1_sum_0 : decode cX1_sum 0 = .ok (.aload_n 0, 1) := dk_42 (dk_at dksX1_sum_0 0 rfl rfl)
theorem dX1_sum_1 : decode cX1_sum 1 = .ok (.invokevirtual 143, 3) := dk_182 0 143 (dk_at dksX1_sum_0 1 rfl rfl)
theorem dX1_sum_4 : decode cX1_sum 4 = .ok (.astore_n 1, 1) := dk_76 (dk_at dksX1_sum_0 4 rfl rfl)
theorem dX1_sum_5 : decode cX1_sum 5 = .ok (.aconst_null, 1) := dk_1 (dk_at dksX1_sum_0 5 rfl rfl)
theorem dX1_sum_6 : decode cX1_sum 6 = .ok (.astore_n 2, 1) := dk_77 (dk_at dksX1_sum_0 6 rfl rfl)
theorem dX1_sum_7 : decode cX1_sum 7 = .ok (.aload_n 0, 1) := dk_42 (dk_at dksX1_sum_0 7 rfl rfl)
theorem dX1_sum_8 : decode cX1_sum 8 = .ok (.invokevirtual 97, 3) := dk_182 0 97 (dk_at dksX1_sum_0 8 rfl rfl)
theorem dX1_sum_11 : decode cX1_sum 11 = .ok (.istore_n 3, 1) := dk_62 (dk_at dksX1_sum_0 11 rfl rfl)
theorem dX1_sum_12 : decode cX1_sum 12 = .ok (.iload_n 3, 1) := dk_29 (dk_at dksX1_sum_0 12 rfl rfl)
theorem dX1_sum_13 : decode cX1_sum 13 = .ok (.bipush 43, 2) := dk_16 43 (dk_at dksX1_sum_0 13 rfl rfl)
theorem dX1_sum_15 : decode cX1_sum 15 = .ok (.if_icmp .eq 9, 3) := dk_159 0 9 (dk_at dksX1_sum_0 15 rfl rfl)
theorem dX1_sum_18 : decode cX1_sum 18 = .ok (.iload_n 3, 1) := dk_29 (dk_at dksX1_sum_0 18 rfl rfl)
theorem dX1_sum_19 : decode cX1_sum 19 = .ok (.bipush 45, 2) := dk_16 45 (dk_at dksX1_sum_0 19 rfl rfl)
theorem dX1_sum_21 : decode cX1_sum 21 = .ok (.if_icmp .ne 43, 3) := dk_160 0 43 (dk_at dksX1_sum_0 21 rfl rfl)
theorem dX1_sum_24 : decode cX1_sum 24 = .ok (.aload_n 0, 1) := dk_42 (dk_at dksX1_sum_1 0 rfl rfl)
theorem dX1_sum_25 : decode cX1_sum 25 = .ok (.dup, 1) := dk_89 (dk_at dksX1_sum_1 1 rfl rfl)
theorem dX1_sum_26 : decode cX1_sum 26 = .ok (.getfield 87, 3) := dk_180 0 87 (dk_at dksX1_sum_1 2 rfl rfl)
theorem dX1_sum_29 : decode cX1_sum 29 = .ok (.iconst 1, 1) := dk_4 (dk_at dksX1_sum_1 5 rfl rfl)
theorem dX1_sum_30 : decode cX1_sum 30 = .ok (.iadd, 1) := dk_96 (dk_at dksX1_sum_1 6 rfl rfl)
theorem dX1_sum_31 : decode cX1_sum 31 = .ok (.putfield 87, 3) := dk_181 0 87 (dk_at dksX1_sum_1 7 rfl rfl)
theorem dX1_sum_34 : decode cX1_sum 34 = .ok (.aload_n 2, 1) := dk_44 (dk_at dksX1_sum_1 10 rfl rfl)
theorem dX1_sum_35 : decode cX1_sum 35 = .ok (.ifnonnull 12, 3) := dk_199 0 12 (dk_at dksX1_sum_1 11 rfl rfl)
theorem dX1_sum_38 : decode cX1_sum 38 = .ok (.new 134, 3) := dk_187 0 134 (dk_at dksX1_sum_1 14 rfl rfl)
theorem dX1_sum_41 : decode cX1_sum 41 = .ok (.dup, 1) := dk_89 (dk_at dksX1_sum_1 17 rfl rfl)
theorem dX1_sum_42 : decode cX1_sum 42 = .ok (.aload_n 1, 1) := dk_43 (dk_at dksX1_sum_1 18 rfl rfl)
theorem dX1_sum_43 : decode cX1_sum 43 = .ok (.invokespecial 136, 3) := dk_183 0 136 (dk_at dksX1_sum_1 19 rfl rfl)
theorem dX1_sum_46 : decode cX1_sum 46 = .ok (.astore_n 2, 1) := dk_77 (dk_at dksX1_sum_1 22 rfl rfl)
theorem dX1_sum_47 : decode cX1_sum 47 = .ok (.aload_n 2, 1) := dk_44 (dk_at dksX1_sum_1 23 rfl rfl)
theorem dX1_sum_48 : decode cX1_sum 48 = .ok (.iload_n 3, 1) := dk_29 (dk_at dksX1_sum_2 0 rfl rfl)
theorem dX1_sum_49 : decode cX1_sum 49 = .ok (.aload_n 0, 1) := dk_42 (dk_at dksX1_sum_2 1 rfl rfl)
theorem dX1_sum_50 : decode cX1_sum 50 = .ok (.invokevirtual 143, 3) := dk_182 0 143 (dk_at dksX1_sum_2 2 rfl rfl)
theorem dX1_sum_53 : decode cX1_sum 53 = .ok (.invokevirtual 139, 3) := dk_182 0 139 (dk_at dksX1_sum_2 5 rfl rfl)
theorem dX1_sum_56 : decode cX1_sum 56 = .ok (.aload_n 0, 1) := dk_42 (dk_at dksX1_sum_2 8 rfl rfl)
theorem dX1_sum_57 : decode cX1_sum 57 = .ok (.invokevirtual 97, 3) := dk_182 0 97 (dk_at dksX1_sum_2 9 rfl rfl)
theorem dX1_sum_60 : decode cX1_sum 60 = .ok (.istore_n 3, 1) := dk_62 (dk_at dksX1_sum_2 12 rfl rfl)
theorem dX1_sum_61 : decode cX1_sum 61 = .ok (.goto (-49), 3) := dk_167 255 207 (dk_at dksX1_sum_2 13 rfl rfl)
theorem dX1_sum_64 : decode cX1_sum 64 = .ok (.aload_n 2, 1) := dk_44 (dk_at dksX1_sum_2 16 rfl rfl)
theorem dX1_sum_65 : decode cX1_sum 65 = .ok (.ifnonnull 7, 3) := dk_199 0 7 (dk_at dksX1_sum_2 17 rfl rfl)
theorem dX1_sum_68 : decode cX1_sum 68 = .ok (.aload_n 1, 1) := dk_43 (dk_at dksX1_sum_2 20 rfl rfl)
theorem dX1_sum_69 : decode cX1_sum 69 = .ok (.goto 4, 3) := dk_167 0 4 (dk_at dksX1_sum_2 21 rfl rfl)
theorem dX1_sum_72 : decode cX1_sum 72 = .ok (.aload_n 2, 1) := dk_44 (dk_at dksX1_sum_3 0 rfl rfl)
theorem dX1_sum_73 : decode cX1_sum 73 = .ok (.areturn, 1) := dk_176 (dk_at dksX1_sum_3 1 rfl rfl)
abbrev cX1_term : ByteArray := prog_1_method_12_code
def yX1_term : MethodName := ⟨RX1, "term", "()LOneBears$Sum;"⟩
def dkwX1_term_3 : List UInt8 := [44, 176]
abbrev dktX1_term_3 : List UInt8 := dkwX1_term_3 ++ []
def dkwX1_term_2 : List UInt8 := [29, 42, 182, 0, 131, 182, 0, 139, 42, 182, 0, 97, 62, 167, 255, 207, 44, 199, 0, 7, 43, 167, 0, 4]
abbrev dktX1_term_2 : List UInt8 := dkwX1_term_2 ++ dktX1_term_3
def dkwX1_term_1 : List UInt8 := [42, 89, 180, 0, 87, 4, 96, 181, 0, 87, 44, 199, 0, 12, 187, 0, 134, 89, 43, 183, 0, 136, 77, 44]
abbrev dktX1_term_1 : List UInt8 := dkwX1_term_1 ++ dktX1_term_2
def dkwX1_term_0 : List UInt8 := [42, 182, 0, 131, 76, 1, 77, 42, 182, 0, 97, 62, 29, 16, 42, 159, 0, 9, 29, 16, 47, 160, 0, 43]
abbrev dktX1_term_0 : List UInt8 := dkwX1_term_0 ++ dktX1_term_1
theorem dksX1_term_0 : cX1_term.data.toList.drop 0 = dktX1_term_0 := by decide +kernel
theorem dksX1_term_1 : cX1_term.data.toList.drop 24 = dktX1_term_1 := dk_seg dksX1_term_0 24 rfl rfl
theorem dksX1_term_2 : cX1_term.data.toList.drop 48 = dktX1_term_2 := dk_seg dksX1_term_1 24 rfl rfl
theorem dksX1_term_3 : cX1_term.data.toList.drop 72 = dktX1_term_3 := dk_seg dksX1_term_2 24 rfl rfl
theorem dX1_term_0 : decode cX1_term 0 = .ok (.aload_n 0, 1) := dk_42 (dk_at dksX1_term_0 0 rfl rfl)
theorem dX1_term_1 : decode cX1_term 1 = .ok (.invokevirtual 131, 3) := dk_182 0 131 (dk_at dksX1_term_0 1 rfl rfl)
theorem dX1_term_4 : decode cX1_term 4 = .ok (.astore_n 1, 1) := dk_76 (dk_at dksX1_term_0 4 rfl rfl)
theorem dX1_term_5 : decode cX1_term 5 = .ok (.aconst_null, 1) := dk_1 (dk_at dksX1_term_0 5 rfl rfl)
theorem dX1_term_6 : decode cX1_term 6 = .ok (.astore_n 2, 1) := dk_77 (dk_at dksX1_term_0 6 rfl rfl)
theorem dX1_term_7 : decode cX1_term 7 = .ok (.aload_n 0, 1) := dk_42 (dk_at dksX1_term_0 7 rfl rfl)
theorem dX1_term_8 : decode cX1_term 8 = .ok (.invokevirtual 97, 3) := dk_182 0 97 (dk_at dksX1_term_0 8 rfl rfl)
theorem dX1_term_11 : decode cX1_term 11 = .ok (.istore_n 3, 1) := dk_62 (dk_at dksX1_term_0 11 rfl rfl)
theorem dX1_term_12 : decode cX1_term 12 = .ok (.iload_n 3, 1) := dk_29 (dk_at dksX1_term_0 12 rfl rfl)
theorem dX1_term_13 : decode cX1_term 13 = .ok (.bipush 42, 2) := dk_16 42 (dk_at dksX1_term_0 13 rfl rfl)
theorem dX1_term_15 : decode cX1_term 15 = .ok (.if_icmp .eq 9, 3) := dk_159 0 9 (dk_at dksX1_term_0 15 rfl rfl)
theorem dX1_term_18 : decode cX1_term 18 = .ok (.iload_n 3, 1) := dk_29 (dk_at dksX1_term_0 18 rfl rfl)
theorem dX1_term_19 : decode cX1_term 19 = .ok (.bipush 47, 2) := dk_16 47 (dk_at dksX1_term_0 19 rfl rfl)
theorem dX1_term_21 : decode cX1_term 21 = .ok (.if_icmp .ne 43, 3) := dk_160 0 43 (dk_at dksX1_term_0 21 rfl rfl)
theorem dX1_term_24 : decode cX1_term 24 = .ok (.aload_n 0, 1) := dk_42 (dk_at dksX1_term_1 0 rfl rfl)
theorem dX1_term_25 : decode cX1_term 25 = .ok (.dup, 1) := dk_89 (dk_at dksX1_term_1 1 rfl rfl)
theorem dX1_term_26 : decode cX1_term 26 = .ok (.getfield 87, 3) := dk_180 0 87 (dk_at dksX1_term_1 2 rfl rfl)
theorem dX1_term_29 : decode cX1_term 29 = .ok (.iconst 1, 1) := dk_4 (dk_at dksX1_term_1 5 rfl rfl)
theorem dX1_term_30 : decode cX1_term 30 = .ok (.iadd, 1) := dk_96 (dk_at dksX1_term_1 6 rfl rfl)
theorem dX1_term_31 : decode cX1_term 31 = .ok (.putfield 87, 3) := dk_181 0 87 (dk_at dksX1_term_1 7 rfl rfl)
theorem dX1_term_34 : decode cX1_term 34 = .ok (.aload_n 2, 1) := dk_44 (dk_at dksX1_term_1 10 rfl rfl)
theorem dX1_term_35 : decode cX1_term 35 = .ok (.ifnonnull 12, 3) := dk_199 0 12 (dk_at dksX1_term_1 11 rfl rfl)
theorem dX1_term_38 : decode cX1_term 38 = .ok (.new 134, 3) := dk_187 0 134 (dk_at dksX1_term_1 14 rfl rfl)
theorem dX1_term_41 : decode cX1_term 41 = .ok (.dup, 1) := dk_89 (dk_at dksX1_term_1 17 rfl rfl)
theorem dX1_term_42 : decode cX1_term 42 = .ok (.aload_n 1, 1) := dk_43 (dk_at dksX1_term_1 18 rfl rfl)
theorem dX1_term_43 : decode cX1_term 43 = .ok (.invokespecial 136, 3) := dk_183 0 136 (dk_at dksX1_term_1 19 rfl rfl)
theorem dX1_term_46 : decode cX1_term 46 = .ok (.astore_n 2, 1) := dk_77 (dk_at dksX1_term_1 22 rfl rfl)
theorem dX1_term_47 : decode cX1_term 47 = .ok (.aload_n 2, 1) := dk_44 (dk_at dksX1_term_1 23 rfl rfl)
theorem dX1_term_48 : decode cX1_term 48 = .ok (.iload_n 3, 1) := dk_29 (dk_at dksX1_term_2 0 rfl rfl)
theorem dX1_term_49 : decode cX1_term 49 = .ok (.aload_n 0, 1) := dk_42 (dk_at dksX1_term_2 1 rfl rfl)
theorem dX1_term_50 : decode cX1_term 50 = .ok (.invokevirtual 131, 3) := dk_182 0 131 (dk_at dksX1_term_2 2 rfl rfl)
theorem dX1_term_53 : decode cX1_term 53 = .ok (.invokevirtual 139, 3) := dk_182 0 139 (dk_at dksX1_term_2 5 rfl rfl)
theorem dX1_term_56 : decode cX1_term 56 = .ok (.aload_n 0, 1) := dk_42 (dk_at dksX1_term_2 8 rfl rfl)
theorem dX1_term_57 : decode cX1_term 57 = .ok (.invokevirtual 97, 3) := dk_182 0 97 (dk_at dksX1_term_2 9 rfl rfl)
theorem dX1_term_60 : decode cX1_term 60 = .ok (.istore_n 3, 1) := dk_62 (dk_at dksX1_term_2 12 rfl rfl)
theorem dX1_term_61 : decode cX1_term 61 = .ok (.goto (-49), 3) := dk_167 255 207 (dk_at dksX1_term_2 13 rfl rfl)
theorem dX1_term_64 : decode cX1_term 64 = .ok (.aload_n 2, 1) := dk_44 (dk_at dksX1_term_2 16 rfl rfl)
theorem dX1_term_65 : decode cX1_term 65 = .ok (.ifnonnull 7, 3) := dk_199 0 7 (dk_at dksX1_term_2 17 rfl rfl)
theorem dX1_term_68 : decode cX1_term 68 = .ok (.aload_n 1, 1) := dk_43 (dk_at dksX1_term_2 20 rfl rfl)
theorem dX1_term_69 : decode cX1_term 69 = .ok (.goto 4, 3) := dk_167 0 4 (dk_at dksX1_term_2 21 rfl rfl)
theorem dX1_term_72 : decode cX1_term 72 = .ok (.aload_n 2, 1) := dk_44 (dk_at dksX1_term_3 0 rfl rfl)
theorem dX1_term_73 : decode cX1_term 73 = .ok (.areturn, 1) := dk_176 (dk_at dksX1_term_3 1 rfl rfl)
abbrev cX1_atom : ByteArray := prog_1_method_11_code
def yX1_atom : MethodName := ⟨RX1, "atom", "()LOneBears$Sum;"⟩
def dkwX1_atom_6 : List UInt8 := [132, 3, 1, 167, 255, 185, 187, 0, 128, 89, 28, 183, 0, 130, 176]
abbrev dktX1_atom_6 : List UInt8 := dkwX1_atom_6 ++ []
def dkwX1_atom_5 : List UInt8 := [180, 0, 16, 42, 180, 0, 87, 51, 96, 16, 48, 100, 61, 42, 89, 180, 0, 87, 4, 96, 181, 0, 87]
abbrev dktX1_atom_5 : List UInt8 := dkwX1_atom_5 ++ dktX1_atom_6
def dkwX1_atom_4 : List UInt8 := [153, 0, 51, 42, 29, 7, 162, 0, 7, 4, 167, 0, 4, 3, 182, 0, 93, 16, 10, 28, 104, 42]
abbrev dktX1_atom_4 : List UInt8 := dkwX1_atom_4 ++ dktX1_atom_5
def dkwX1_atom_3 : List UInt8 := [62, 42, 180, 0, 87, 42, 180, 0, 84, 162, 0, 66, 42, 180, 0, 16, 42, 180, 0, 87, 51, 184, 0, 124]
abbrev dktX1_atom_3 : List UInt8 := dkwX1_atom_3 ++ dktX1_atom_4
def dkwX1_atom_2 : List UInt8 := [96, 181, 0, 87, 187, 0, 120, 89, 27, 183, 0, 122, 176, 42, 27, 184, 0, 124, 182, 0, 93, 3, 61, 3]
abbrev dktX1_atom_2 : List UInt8 := dkwX1_atom_2 ++ dktX1_atom_3
def dkwX1_atom_1 : List UInt8 := [182, 0, 108, 44, 176, 27, 158, 0, 31, 18, 112, 27, 182, 0, 114, 155, 0, 22, 42, 89, 180, 0, 87, 4]
abbrev dktX1_atom_1 : List UInt8 := dkwX1_atom_1 ++ dktX1_atom_2
def dkwX1_atom_0 : List UInt8 := [42, 182, 0, 97, 60, 27, 16, 91, 160, 0, 20, 42, 182, 0, 101, 42, 182, 0, 104, 77, 42, 16, 93]
abbrev dktX1_atom_0 : List UInt8 := dkwX1_atom_0 ++ dktX1_atom_1
theorem dksX1_atom_0 : cX1_atom.data.toList.drop 0 = dktX1_atom_0 := by decide +kernel
theorem dksX1_atom_1 : cX1_atom.data.toList.drop 23 = dktX1_atom_1 := dk_seg dksX1_atom_0 23 rfl rfl
theorem dksX1_atom_2 : cX1_atom.data.toList.drop 47 = dktX1_atom_2 := dk_seg dksX1_atom_1 24 rfl rfl
theorem dksX1_atom_3 : cX1_atom.data.toList.drop 71 = dktX1_atom_3 := dk_seg dksX1_atom_2 24 rfl rfl
theorem dksX1_atom_4 : cX1_atom.data.toList.drop 95 = dktX1_atom_4 := dk_seg dksX1_atom_3 24 rfl rfl
theorem dksX1_atom_5 : cX1_atom.data.toList.drop 117 = dktX1_atom_5 := dk_seg dksX1_atom_4 22 rfl rfl
theorem dksX1_atom_6 : cX1_atom.data.toList.drop 140 = dktX1_atom_6 := dk_seg dksX1_atom_5 23 rfl rfl
theorem dX1_atom_0 : decode cX1_atom 0 = .ok (.aload_n 0, 1) := dk_42 (dk_at dksX1_atom_0 0 rfl rfl)
theorem dX1_atom_1 : decode cX1_atom 1 = .ok (.invokevirtual 97, 3) := dk_182 0 97 (dk_at dksX1_atom_0 1 rfl rfl)
theorem dX1_atom_4 : decode cX1_atom 4 = .ok (.istore_n 1, 1) := dk_60 (dk_at dksX1_atom_0 4 rfl rfl)
theorem dX1_atom_5 : decode cX1_atom 5 = .ok (.iload_n 1, 1) := dk_27 (dk_at dksX1_atom_0 5 rfl rfl)
theorem dX1_atom_6 : decode cX1_atom 6 = .ok (.bipush 91, 2) := dk_16 91 (dk_at dksX1_atom_0 6 rfl rfl)
theorem dX1_atom_8 : decode cX1_atom 8 = .ok (.if_icmp .ne 20, 3) := dk_160 0 20 (dk_at dksX1_atom_0 8 rfl rfl)
theorem dX1_atom_11 : decode cX1_atom 11 = .ok (.aload_n 0, 1) := dk_42 (dk_at dksX1_atom_0 11 rfl rfl)
theorem dX1_atom_12 : decode cX1_atom 12 = .ok (.invokevirtual 101, 3) := dk_182 0 101 (dk_at dksX1_atom_0 12 rfl rfl)
theorem dX1_atom_15 : decode cX1_atom 15 = .ok (.aload_n 0, 1) := dk_42 (dk_at dksX1_atom_0 15 rfl rfl)
theorem dX1_atom_16 : decode cX1_atom 16 = .ok (.invokevirtual 104, 3) := dk_182 0 104 (dk_at dksX1_atom_0 16 rfl rfl)
theorem dX1_atom_19 : decode cX1_atom 19 = .ok (.astore_n 2, 1) := dk_77 (dk_at dksX1_atom_0 19 rfl rfl)
theorem dX1_atom_20 : decode cX1_atom 20 = .ok (.aload_n 0, 1) := dk_42 (dk_at dksX1_atom_0 20 rfl rfl)
theorem dX1_atom_21 : decode cX1_atom 21 = .ok (.bipush 93, 2) := dk_16 93 (dk_at dksX1_atom_0 21 rfl rfl)
theorem dX1_atom_23 : decode cX1_atom 23 = .ok (.invokevirtual 108, 3) := dk_182 0 108 (dk_at dksX1_atom_1 0 rfl rfl)
theorem dX1_atom_26 : decode cX1_atom 26 = .ok (.aload_n 2, 1) := dk_44 (dk_at dksX1_atom_1 3 rfl rfl)
theorem dX1_atom_27 : decode cX1_atom 27 = .ok (.areturn, 1) := dk_176 (dk_at dksX1_atom_1 4 rfl rfl)
theorem dX1_atom_28 : decode cX1_atom 28 = .ok (.iload_n 1, 1) := dk_27 (dk_at dksX1_atom_1 5 rfl rfl)
theorem dX1_atom_29 : decode cX1_atom 29 = .ok (.ifCond .le 31, 3) := dk_158 0 31 (dk_at dksX1_atom_1 6 rfl rfl)
theorem dX1_atom_32 : decode cX1_atom 32 = .ok (.ldc 112, 2) := dk_18 112 (dk_at dksX1_atom_1 9 rfl rfl)
theorem dX1_atom_34 : decode cX1_atom 34 = .ok (.iload_n 1, 1) := dk_27 (dk_at dksX1_atom_1 11 rfl rfl)
theorem dX1_atom_35 : decode cX1_atom 35 = .ok (.invokevirtual 114, 3) := dk_182 0 114 (dk_at dksX1_atom_1 12 rfl rfl)
theorem dX1_atom_38 : decode cX1_atom 38 = .ok (.ifCond .lt 22, 3) := dk_155 0 22 (dk_at dksX1_atom_1 15 rfl rfl)
theorem dX1_atom_41 : decode cX1_atom 41 = .ok (.aload_n 0, 1) := dk_42 (dk_at dksX1_atom_1 18 rfl rfl)
theorem dX1_atom_42 : decode cX1_atom 42 = .ok (.dup, 1) := dk_89 (dk_at dksX1_atom_1 19 rfl rfl)
theorem dX1_atom_43 : decode cX1_atom 43 = .ok (.getfield 87, 3) := dk_180 0 87 (dk_at dksX1_atom_1 20 rfl rfl)
theorem dX1_atom_46 : decode cX1_atom 46 = .ok (.iconst 1, 1) := dk_4 (dk_at dksX1_atom_1 23 rfl rfl)
theorem dX1_atom_47 : decode cX1_atom 47 = .ok (.iadd, 1) := dk_96 (dk_at dksX1_atom_2 0 rfl rfl)
theorem dX1_atom_48 : decode cX1_atom 48 = .ok (.putfield 87, 3) := dk_181 0 87 (dk_at dksX1_atom_2 1 rfl rfl)
theorem dX1_atom_51 : decode cX1_atom 51 = .ok (.new 120, 3) := dk_187 0 120 (dk_at dksX1_atom_2 4 rfl rfl)
theorem dX1_atom_54 : decode cX1_atom 54 = .ok (.dup, 1) := dk_89 (dk_at dksX1_atom_2 7 rfl rfl)
theorem dX1_atom_55 : decode cX1_atom 55 = .ok (.iload_n 1, 1) := dk_27 (dk_at dksX1_atom_2 8 rfl rfl)
theorem dX1_atom_56 : decode cX1_atom 56 = .ok (.invokespecial 122, 3) := dk_183 0 122 (dk_at dksX1_atom_2 9 rfl rfl)
theorem dX1_atom_59 : decode cX1_atom 59 = .ok (.areturn, 1) := dk_176 (dk_at dksX1_atom_2 12 rfl rfl)
theorem dX1_atom_60 : decode cX1_atom 60 = .ok (.aload_n 0, 1) := dk_42 (dk_at dksX1_atom_2 13 rfl rfl)
theorem dX1_atom_61 : decode cX1_atom 61 = .ok (.iload_n 1, 1) := dk_27 (dk_at dksX1_atom_2 14 rfl rfl)
theorem dX1_atom_62 : decode cX1_atom 62 = .ok (.invokestatic 124, 3) := dk_184 0 124 (dk_at dksX1_atom_2 15 rfl rfl)
theorem dX1_atom_65 : decode cX1_atom 65 = .ok (.invokevirtual 93, 3) := dk_182 0 93 (dk_at dksX1_atom_2 18 rfl rfl)
theorem dX1_atom_68 : decode cX1_atom 68 = .ok (.iconst 0, 1) := dk_3 (dk_at dksX1_atom_2 21 rfl rfl)
theorem dX1_atom_69 : decode cX1_atom 69 = .ok (.istore_n 2, 1) := dk_61 (dk_at dksX1_atom_2 22 rfl rfl)
theorem dX1_atom_70 : decode cX1_atom 70 = .ok (.iconst 0, 1) := dk_3 (dk_at dksX1_atom_2 23 rfl rfl)
theorem dX1_atom_71 : decode cX1_atom 71 = .ok (.istore_n 3, 1) := dk_62 (dk_at dksX1_atom_3 0 rfl rfl)
theorem dX1_atom_72 : decode cX1_atom 72 = .ok (.aload_n 0, 1) := dk_42 (dk_at dksX1_atom_3 1 rfl rfl)
theorem dX1_atom_73 : decode cX1_atom 73 = .ok (.getfield 87, 3) := dk_180 0 87 (dk_at dksX1_atom_3 2 rfl rfl)
theorem dX1_atom_76 : decode cX1_atom 76 = .ok (.aload_n 0, 1) := dk_42 (dk_at dksX1_atom_3 5 rfl rfl)
theorem dX1_atom_77 : decode cX1_atom 77 = .ok (.getfield 84, 3) := dk_180 0 84 (dk_at dksX1_atom_3 6 rfl rfl)
theorem dX1_atom_80 : decode cX1_atom 80 = .ok (.if_icmp .ge 66, 3) := dk_162 0 66 (dk_at dksX1_atom_3 9 rfl rfl)
theorem dX1_atom_83 : decode cX1_atom 83 = .ok (.aload_n 0, 1) := dk_42 (dk_at dksX1_atom_3 12 rfl rfl)
theorem dX1_atom_84 : decode cX1_atom 84 = .ok (.getfield 16, 3) := dk_180 0 16 (dk_at dksX1_atom_3 13 rfl rfl)
theorem dX1_atom_87 : decode cX1_atom 87 = .ok (.aload_n 0, 1) := dk_42 (dk_at dksX1_atom_3 16 rfl rfl)
theorem dX1_atom_88 : decode cX1_atom 88 = .ok (.getfield 87, 3) := dk_180 0 87 (dk_at dksX1_atom_3 17 rfl rfl)
theorem dX1_atom_91 : decode cX1_atom 91 = .ok (.baload, 1) := dk_51 (dk_at dksX1_atom_3 20 rfl rfl)
theorem dX1_atom_92 : decode cX1_atom 92 = .ok (.invokestatic 124, 3) := dk_184 0 124 (dk_at dksX1_atom_3 21 rfl rfl)
theorem dX1_atom_95 : decode cX1_atom 95 = .ok (.ifCond .eq 51, 3) := dk_153 0 51 (dk_at dksX1_atom_4 0 rfl rfl)
theorem dX1_atom_98 : decode cX1_atom 98 = .ok (.aload_n 0, 1) := dk_42 (dk_at dksX1_atom_4 3 rfl rfl)
theorem dX1_atom_99 : decode cX1_atom 99 = .ok (.iload_n 3, 1) := dk_29 (dk_at dksX1_atom_4 4 rfl rfl)
theorem dX1_atom_100 : decode cX1_atom 100 = .ok (.iconst 4, 1) := dk_7 (dk_at dksX1_atom_4 5 rfl rfl)
theorem dX1_atom_101 : decode cX1_atom 101 = .ok (.if_icmp .ge 7, 3) := dk_162 0 7 (dk_at dksX1_atom_4 6 rfl rfl)
theorem dX1_atom_104 : decode cX1_atom 104 = .ok (.iconst 1, 1) := dk_4 (dk_at dksX1_atom_4 9 rfl rfl)
theorem dX1_atom_105 : decode cX1_atom 105 = .ok (.goto 4, 3) := dk_167 0 4 (dk_at dksX1_atom_4 10 rfl rfl)
theorem dX1_atom_108 : decode cX1_atom 108 = .ok (.iconst 0, 1) := dk_3 (dk_at dksX1_atom_4 13 rfl rfl)
theorem dX1_atom_109 : decode cX1_atom 109 = .ok (.invokevirtual 93, 3) := dk_182 0 93 (dk_at dksX1_atom_4 14 rfl rfl)
theorem dX1_atom_112 : decode cX1_atom 112 = .ok (.bipush 10, 2) := dk_16 10 (dk_at dksX1_atom_4 17 rfl rfl)
theorem dX1_atom_114 : decode cX1_atom 114 = .ok (.iload_n 2, 1) := dk_28 (dk_at dksX1_atom_4 19 rfl rfl)
theorem dX1_atom_115 : decode cX1_atom 115 = .ok (.imul, 1) := dk_104 (dk_at dksX1_atom_4 20 rfl rfl)
theorem dX1_atom_116 : decode cX1_atom 116 = .ok (.aload_n 0, 1) := dk_42 (dk_at dksX1_atom_4 21 rfl rfl)
theorem dX1_atom_117 : decode cX1_atom 117 = .ok (.getfield 16, 3) := dk_180 0 16 (dk_at dksX1_atom_5 0 rfl rfl)
theorem dX1_atom_120 : decode cX1_atom 120 = .ok (.aload_n 0, 1) := dk_42 (dk_at dksX1_atom_5 3 rfl rfl)
theorem dX1_atom_121 : decode cX1_atom 121 = .ok (.getfield 87, 3) := dk_180 0 87 (dk_at dksX1_atom_5 4 rfl rfl)
theorem dX1_atom_124 : decode cX1_atom 124 = .ok (.baload, 1) := dk_51 (dk_at dksX1_atom_5 7 rfl rfl)
theorem dX1_atom_125 : decode cX1_atom 125 = .ok (.iadd, 1) := dk_96 (dk_at dksX1_atom_5 8 rfl rfl)
theorem dX1_atom_126 : decode cX1_atom 126 = .ok (.bipush 48, 2) := dk_16 48 (dk_at dksX1_atom_5 9 rfl rfl)
theorem dX1_atom_128 : decode cX1_atom 128 = .ok (.isub, 1) := dk_100 (dk_at dksX1_atom_5 11 rfl rfl)
theorem dX1_atom_129 : decode cX1_atom 129 = .ok (.istore_n 2, 1) := dk_61 (dk_at dksX1_atom_5 12 rfl rfl)
theorem dX1_atom_130 : decode cX1_atom 130 = .ok (.aload_n 0, 1) := dk_42 (dk_at dksX1_atom_5 13 rfl rfl)
theorem dX1_atom_131 : decode cX1_atom 131 = .ok (.dup, 1) := dk_89 (dk_at dksX1_atom_5 14 rfl rfl)
theorem dX1_atom_132 : decode cX1_atom 132 = .ok (.getfield 87, 3) := dk_180 0 87 (dk_at dksX1_atom_5 15 rfl rfl)
theorem dX1_atom_135 : decode cX1_atom 135 = .ok (.iconst 1, 1) := dk_4 (dk_at dksX1_atom_5 18 rfl rfl)
theorem dX1_atom_136 : decode cX1_atom 136 = .ok (.iadd, 1) := dk_96 (dk_at dksX1_atom_5 19 rfl rfl)
theorem dX1_atom_137 : decode cX1_atom 137 = .ok (.putfield 87, 3) := dk_181 0 87 (dk_at dksX1_atom_5 20 rfl rfl)
theorem dX1_atom_140 : decode cX1_atom 140 = .ok (.iinc 3 1, 3) := dk_132 3 1 (dk_at dksX1_atom_6 0 rfl rfl)
theorem dX1_atom_143 : decode cX1_atom 143 = .ok (.goto (-71), 3) := dk_167 255 185 (dk_at dksX1_atom_6 3 rfl rfl)
theorem dX1_atom_146 : decode cX1_atom 146 = .ok (.new 128, 3) := dk_187 0 128 (dk_at dksX1_atom_6 6 rfl rfl)
theorem dX1_atom_149 : decode cX1_atom 149 = .ok (.dup, 1) := dk_89 (dk_at dksX1_atom_6 9 rfl rfl)
theorem dX1_atom_150 : decode cX1_atom 150 = .ok (.iload_n 2, 1) := dk_28 (dk_at dksX1_atom_6 10 rfl rfl)
theorem dX1_atom_151 : decode cX1_atom 151 = .ok (.invokespecial 130, 3) := dk_183 0 130 (dk_at dksX1_atom_6 11 rfl rfl)
theorem dX1_atom_154 : decode cX1_atom 154 = .ok (.areturn, 1) := dk_176 (dk_at dksX1_atom_6 14 rfl rfl)
abbrev cX1_opens : ByteArray := prog_1_method_9_code
def yX1_opens : MethodName := ⟨RX1, "opens", "()V"⟩
def dkwX1_opens_1 : List UInt8 := [96, 181, 0, 90, 42, 89, 180, 0, 87, 4, 96, 181, 0, 87, 177]
abbrev dktX1_opens_1 : List UInt8 := dkwX1_opens_1 ++ []
def dkwX1_opens_0 : List UInt8 := [42, 42, 180, 0, 90, 16, 6, 162, 0, 7, 4, 167, 0, 4, 3, 182, 0, 93, 42, 89, 180, 0, 90, 4]
abbrev dktX1_opens_0 : List UInt8 := dkwX1_opens_0 ++ dktX1_opens_1
theorem dksX1_opens_0 : cX1_opens.data.toList.drop 0 = dktX1_opens_0 := by decide +kernel
theorem dksX1_opens_1 : cX1_opens.data.toList.drop 24 = dktX1_opens_1 := dk_seg dksX1_opens_0 24 rfl rfl
theorem dX1_opens_0 : decode cX1_opens 0 = .ok (.aload_n 0, 1) := dk_42 (dk_at dksX1_opens_0 0 rfl rfl)
theorem dX1_opens_1 : decode cX1_opens 1 = .ok (.aload_n 0, 1) := dk_42 (dk_at dksX1_opens_0 1 rfl rfl)
theorem dX1_opens_2 : decode cX1_opens 2 = .ok (.getfield 90, 3) := dk_180 0 90 (dk_at dksX1_opens_0 2 rfl rfl)
theorem dX1_opens_5 : decode cX1_opens 5 = .ok (.bipush 6, 2) := dk_16 6 (dk_at dksX1_opens_0 5 rfl rfl)
theorem dX1_opens_7 : decode cX1_opens 7 = .ok (.if_icmp .ge 7, 3) := dk_162 0 7 (dk_at dksX1_opens_0 7 rfl rfl)
theorem dX1_opens_10 : decode cX1_opens 10 = .ok (.iconst 1, 1) := dk_4 (dk_at dksX1_opens_0 10 rfl rfl)
theorem dX1_opens_11 : decode cX1_opens 11 = .ok (.goto 4, 3) := dk_167 0 4 (dk_at dksX1_opens_0 11 rfl rfl)
theorem dX1_opens_14 : decode cX1_opens 14 = .ok (.iconst 0, 1) := dk_3 (dk_at dksX1_opens_0 14 rfl rfl)
theorem dX1_opens_15 : decode cX1_opens 15 = .ok (.invokevirtual 93, 3) := dk_182 0 93 (dk_at dksX1_opens_0 15 rfl rfl)
theorem dX1_opens_18 : decode cX1_opens 18 = .ok (.aload_n 0, 1) := dk_42 (dk_at dksX1_opens_0 18 rfl rfl)
theorem dX1_opens_19 : decode cX1_opens 19 = .ok (.dup, 1) := dk_89 (dk_at dksX1_opens_0 19 rfl rfl)
theorem dX1_opens_20 : decode cX1_opens 20 = .ok (.getfield 90, 3) := dk_180 0 90 (dk_at dksX1_opens_0 20 rfl rfl)
theorem dX1_opens_23 : decode cX1_opens 23 = .ok (.iconst 1, 1) := dk_4 (dk_at dksX1_opens_0 23 rfl rfl)
theorem dX1_opens_24 : decode cX1_opens 24 = .ok (.iadd, 1) := dk_96 (dk_at dksX1_opens_1 0 rfl rfl)
theorem dX1_opens_25 : decode cX1_opens 25 = .ok (.putfield 90, 3) := dk_181 0 90 (dk_at dksX1_opens_1 1 rfl rfl)
theorem dX1_opens_28 : decode cX1_opens 28 = .ok (.aload_n 0, 1) := dk_42 (dk_at dksX1_opens_1 4 rfl rfl)
theorem dX1_opens_29 : decode cX1_opens 29 = .ok (.dup, 1) := dk_89 (dk_at dksX1_opens_1 5 rfl rfl)
theorem dX1_opens_30 : decode cX1_opens 30 = .ok (.getfield 87, 3) := dk_180 0 87 (dk_at dksX1_opens_1 6 rfl rfl)
theorem dX1_opens_33 : decode cX1_opens 33 = .ok (.iconst 1, 1) := dk_4 (dk_at dksX1_opens_1 9 rfl rfl)
theorem dX1_opens_34 : decode cX1_opens 34 = .ok (.iadd, 1) := dk_96 (dk_at dksX1_opens_1 10 rfl rfl)
theorem dX1_opens_35 : decode cX1_opens 35 = .ok (.putfield 87, 3) := dk_181 0 87 (dk_at dksX1_opens_1 11 rfl rfl)
theorem dX1_opens_38 : decode cX1_opens 38 = .ok (.return_, 1) := dk_177 (dk_at dksX1_opens_1 14 rfl rfl)
abbrev cX1_closes : ByteArray := prog_1_method_10_code
def yX1_closes : MethodName := ⟨RX1, "closes", "(I)V"⟩
def dkwX1_closes_1 : List UInt8 := [181, 0, 87, 42, 89, 180, 0, 90, 4, 100, 181, 0, 90, 177]
abbrev dktX1_closes_1 : List UInt8 := dkwX1_closes_1 ++ []
def dkwX1_closes_0 : List UInt8 := [42, 42, 182, 0, 97, 27, 160, 0, 7, 4, 167, 0, 4, 3, 182, 0, 93, 42, 89, 180, 0, 87, 4, 96]
abbrev dktX1_closes_0 : List UInt8 := dkwX1_closes_0 ++ dktX1_closes_1
theorem dksX1_closes_0 : cX1_closes.data.toList.drop 0 = dktX1_closes_0 := by decide +kernel
theorem dksX1_closes_1 : cX1_closes.data.toList.drop 24 = dktX1_closes_1 := dk_seg dksX1_closes_0 24 rfl rfl
theorem dX1_closes_0 : decode cX1_closes 0 = .ok (.aload_n 0, 1) := dk_42 (dk_at dksX1_closes_0 0 rfl rfl)
theorem dX1_closes_1 : decode cX1_closes 1 = .ok (.aload_n 0, 1) := dk_42 (dk_at dksX1_closes_0 1 rfl rfl)
theorem dX1_closes_2 : decode cX1_closes 2 = .ok (.invokevirtual 97, 3) := dk_182 0 97 (dk_at dksX1_closes_0 2 rfl rfl)
theorem dX1_closes_5 : decode cX1_closes 5 = .ok (.iload_n 1, 1) := dk_27 (dk_at dksX1_closes_0 5 rfl rfl)
theorem dX1_closes_6 : decode cX1_closes 6 = .ok (.if_icmp .ne 7, 3) := dk_160 0 7 (dk_at dksX1_closes_0 6 rfl rfl)
theorem dX1_closes_9 : decode cX1_closes 9 = .ok (.iconst 1, 1) := dk_4 (dk_at dksX1_closes_0 9 rfl rfl)
theorem dX1_closes_10 : decode cX1_closes 10 = .ok (.goto 4, 3) := dk_167 0 4 (dk_at dksX1_closes_0 10 rfl rfl)
theorem dX1_closes_13 : decode cX1_closes 13 = .ok (.iconst 0, 1) := dk_3 (dk_at dksX1_closes_0 13 rfl rfl)
theorem dX1_closes_14 : decode cX1_closes 14 = .ok (.invokevirtual 93, 3) := dk_182 0 93 (dk_at dksX1_closes_0 14 rfl rfl)
theorem dX1_closes_17 : decode cX1_closes 17 = .ok (.aload_n 0, 1) := dk_42 (dk_at dksX1_closes_0 17 rfl rfl)
theorem dX1_closes_18 : decode cX1_closes 18 = .ok (.dup, 1) := dk_89 (dk_at dksX1_closes_0 18 rfl rfl)
theorem dX1_closes_19 : decode cX1_closes 19 = .ok (.getfield 87, 3) := dk_180 0 87 (dk_at dksX1_closes_0 19 rfl rfl)
theorem dX1_closes_22 : decode cX1_closes 22 = .ok (.iconst 1, 1) := dk_4 (dk_at dksX1_closes_0 22 rfl rfl)
theorem dX1_closes_23 : decode cX1_closes 23 = .ok (.iadd, 1) := dk_96 (dk_at dksX1_closes_0 23 rfl rfl)
theorem dX1_closes_24 : decode cX1_closes 24 = .ok (.putfield 87, 3) := dk_181 0 87 (dk_at dksX1_closes_1 0 rfl rfl)
theorem dX1_closes_27 : decode cX1_closes 27 = .ok (.aload_n 0, 1) := dk_42 (dk_at dksX1_closes_1 3 rfl rfl)
theorem dX1_closes_28 : decode cX1_closes 28 = .ok (.dup, 1) := dk_89 (dk_at dksX1_closes_1 4 rfl rfl)
theorem dX1_closes_29 : decode cX1_closes 29 = .ok (.getfield 90, 3) := dk_180 0 90 (dk_at dksX1_closes_1 5 rfl rfl)
theorem dX1_closes_32 : decode cX1_closes 32 = .ok (.iconst 1, 1) := dk_4 (dk_at dksX1_closes_1 8 rfl rfl)
theorem dX1_closes_33 : decode cX1_closes 33 = .ok (.isub, 1) := dk_100 (dk_at dksX1_closes_1 9 rfl rfl)
theorem dX1_closes_34 : decode cX1_closes 34 = .ok (.putfield 90, 3) := dk_181 0 90 (dk_at dksX1_closes_1 10 rfl rfl)
theorem dX1_closes_37 : decode cX1_closes 37 = .ok (.return_, 1) := dk_177 (dk_at dksX1_closes_1 13 rfl rfl)
abbrev cX1_isDigit : ByteArray := prog_1_method_7_code
def yX1_isDigit : MethodName := ⟨RX1, "isDigit", "(I)Z"⟩
def dkwX1_isDigit_0 : List UInt8 := [26, 16, 48, 161, 0, 13, 26, 16, 57, 163, 0, 7, 4, 167, 0, 4, 3, 172]
abbrev dktX1_isDigit_0 : List UInt8 := dkwX1_isDigit_0 ++ []
theorem dksX1_isDigit_0 : cX1_isDigit.data.toList.drop 0 = dktX1_isDigit_0 := by decide +kernel
theorem dX1_isDigit_0 : decode cX1_isDigit 0 = .ok (.iload_n 0, 1) := dk_26 (dk_at dksX1_isDigit_0 0 rfl rfl)
theorem dX1_isDigit_1 : decode cX1_isDigit 1 = .ok (.bipush 48, 2) := dk_16 48 (dk_at dksX1_isDigit_0 1 rfl rfl)
theorem dX1_isDigit_3 : decode cX1_isDigit 3 = .ok (.if_icmp .lt 13, 3) := dk_161 0 13 (dk_at dksX1_isDigit_0 3 rfl rfl)
theorem dX1_isDigit_6 : decode cX1_isDigit 6 = .ok (.iload_n 0, 1) := dk_26 (dk_at dksX1_isDigit_0 6 rfl rfl)
theorem dX1_isDigit_7 : decode cX1_isDigit 7 = .ok (.bipush 57, 2) := dk_16 57 (dk_at dksX1_isDigit_0 7 rfl rfl)
theorem dX1_isDigit_9 : decode cX1_isDigit 9 = .ok (.if_icmp .gt 7, 3) := dk_163 0 7 (dk_at dksX1_isDigit_0 9 rfl rfl)
theorem dX1_isDigit_12 : decode cX1_isDigit 12 = .ok (.iconst 1, 1) := dk_4 (dk_at dksX1_isDigit_0 12 rfl rfl)
theorem dX1_isDigit_13 : decode cX1_isDigit 13 = .ok (.goto 4, 3) := dk_167 0 4 (dk_at dksX1_isDigit_0 13 rfl rfl)
theorem dX1_isDigit_16 : decode cX1_isDigit 16 = .ok (.iconst 0, 1) := dk_3 (dk_at dksX1_isDigit_0 16 rfl rfl)
theorem dX1_isDigit_17 : decode cX1_isDigit 17 = .ok (.ireturn, 1) := dk_172 (dk_at dksX1_isDigit_0 17 rfl rfl)
abbrev cX1_isSign : ByteArray := prog_1_method_14_code
def yX1_isSign : MethodName := ⟨RX1, "isSign", "(I)Z"⟩
def dkwX1_isSign_0 : List UInt8 := [26, 16, 61, 159, 0, 15, 26, 16, 60, 159, 0, 9, 26, 16, 62, 160, 0, 7, 4, 167, 0, 4, 3, 172]
abbrev dktX1_isSign_0 : List UInt8 := dkwX1_isSign_0 ++ []
theorem dksX1_isSign_0 : cX1_isSign.data.toList.drop 0 = dktX1_isSign_0 := by decide +kernel
theorem dX1_isSign_0 : decode cX1_isSign 0 = .ok (.iload_n 0, 1) := dk_26 (dk_at dksX1_isSign_0 0 rfl rfl)
theorem dX1_isSign_1 : decode cX1_isSign 1 = .ok (.bipush 61, 2) := dk_16 61 (dk_at dksX1_isSign_0 1 rfl rfl)
theorem dX1_isSign_3 : decode cX1_isSign 3 = .ok (.if_icmp .eq 15, 3) := dk_159 0 15 (dk_at dksX1_isSign_0 3 rfl rfl)
theorem dX1_isSign_6 : decode cX1_isSign 6 = .ok (.iload_n 0, 1) := dk_26 (dk_at dksX1_isSign_0 6 rfl rfl)
theorem dX1_isSign_7 : decode cX1_isSign 7 = .ok (.bipush 60, 2) := dk_16 60 (dk_at dksX1_isSign_0 7 rfl rfl)
theorem dX1_isSign_9 : decode cX1_isSign 9 = .ok (.if_icmp .eq 9, 3) := dk_159 0 9 (dk_at dksX1_isSign_0 9 rfl rfl)
theorem dX1_isSign_12 : decode cX1_isSign 12 = .ok (.iload_n 0, 1) := dk_26 (dk_at dksX1_isSign_0 12 rfl rfl)
theorem dX1_isSign_13 : decode cX1_isSign 13 = .ok (.bipush 62, 2) := dk_16 62 (dk_at dksX1_isSign_0 13 rfl rfl)
theorem dX1_isSign_15 : decode cX1_isSign 15 = .ok (.if_icmp .ne 7, 3) := dk_160 0 7 (dk_at dksX1_isSign_0 15 rfl rfl)
theorem dX1_isSign_18 : decode cX1_isSign 18 = .ok (.iconst 1, 1) := dk_4 (dk_at dksX1_isSign_0 18 rfl rfl)
theorem dX1_isSign_19 : decode cX1_isSign 19 = .ok (.goto 4, 3) := dk_167 0 4 (dk_at dksX1_isSign_0 19 rfl rfl)
theorem dX1_isSign_22 : decode cX1_isSign 22 = .ok (.iconst 0, 1) := dk_3 (dk_at dksX1_isSign_0 22 rfl rfl)
theorem dX1_isSign_23 : decode cX1_isSign 23 = .ok (.ireturn, 1) := dk_172 (dk_at dksX1_isSign_0 23 rfl rfl)
abbrev cX1_condition : ByteArray := prog_1_method_18_code
def yX1_condition : MethodName := ⟨RX1, "condition", "(LOneBears$Sum;)LOneBears$Test;"⟩
def dkwX1_condition_2 : List UInt8 := [182, 0, 175, 167, 255, 214, 45, 199, 0, 7, 44, 167, 0, 4, 45, 176]
abbrev dktX1_condition_2 : List UInt8 := dkwX1_condition_2 ++ []
def dkwX1_condition_1 : List UInt8 := [181, 0, 87, 45, 199, 0, 13, 187, 0, 170, 89, 3, 44, 183, 0, 172, 78, 45, 42, 1, 182, 0, 177]
abbrev dktX1_condition_1 : List UInt8 := dkwX1_condition_1 ++ dktX1_condition_2
def dkwX1_condition_0 : List UInt8 := [42, 43, 182, 0, 177, 77, 1, 78, 42, 182, 0, 97, 16, 124, 160, 0, 39, 42, 89, 180, 0, 87, 4, 96]
abbrev dktX1_condition_0 : List UInt8 := dkwX1_condition_0 ++ dktX1_condition_1
theorem dksX1_condition_0 : cX1_condition.data.toList.drop 0 = dktX1_condition_0 := by decide +kernel
theorem dksX1_condition_1 : cX1_condition.data.toList.drop 24 = dktX1_condition_1 := dk_seg dksX1_condition_0 24 rfl rfl
theorem dksX1_condition_2 : cX1_condition.data.toList.drop 47 = dktX1_condition_2 := dk_seg dksX1_condition_1 23 rfl rfl
theorem dX1_condition_0 : decode cX1_condition 0 = .ok (.aload_n 0, 1) := dk_42 (dk_at dksX1_condition_0 0 rfl rfl)
theorem dX1_condition_1 : decode cX1_condition 1 = .ok (.aload_n 1, 1) := dk_43 (dk_at dksX1_condition_0 1 rfl rfl)
theorem dX1_condition_2 : decode cX1_condition 2 = .ok (.invokevirtual 177, 3) := dk_182 0 177 (dk_at dksX1_condition_0 2 rfl rfl)
theorem dX1_condition_5 : decode cX1_condition 5 = .ok (.astore_n 2, 1) := dk_77 (dk_at dksX1_condition_0 5 rfl rfl)
theorem dX1_condition_6 : decode cX1_condition 6 = .ok (.aconst_null, 1) := dk_1 (dk_at dksX1_condition_0 6 rfl rfl)
theorem dX1_condition_7 : decode cX1_condition 7 = .ok (.astore_n 3, 1) := dk_78 (dk_at dksX1_condition_0 7 rfl rfl)
theorem dX1_condition_8 : decode cX1_condition 8 = .ok (.aload_n 0, 1) := dk_42 (dk_at dksX1_condition_0 8 rfl rfl)
theorem dX1_condition_9 : decode cX1_condition 9 = .ok (.invokevirtual 97, 3) := dk_182 0 97 (dk_at dksX1_condition_0 9 rfl rfl)
theorem dX1_condition_12 : decode cX1_condition 12 = .ok (.bipush 124, 2) := dk_16 124 (dk_at dksX1_condition_0 12 rfl rfl)
theorem dX1_condition_14 : decode cX1_condition 14 = .ok (.if_icmp .ne 39, 3) := dk_160 0 39 (dk_at dksX1_condition_0 14 rfl rfl)
theorem dX1_condition_17 : decode cX1_condition 17 = .ok (.aload_n 0, 1) := dk_42 (dk_at dksX1_condition_0 17 rfl rfl)
theorem dX1_condition_18 : decode cX1_condition 18 = .ok (.dup, 1) := dk_89 (dk_at dksX1_condition_0 18 rfl rfl)
theorem dX1_condition_19 : decode cX1_condition 19 = .ok (.getfield 87, 3) := dk_180 0 87 (dk_at dksX1_condition_0 19 rfl rfl)
theorem dX1_condition_22 : decode cX1_condition 22 = .ok (.iconst 1, 1) := dk_4 (dk_at dksX1_condition_0 22 rfl rfl)
theorem dX1_condition_23 : decode cX1_condition 23 = .ok (.iadd, 1) := dk_96 (dk_at dksX1_condition_0 23 rfl rfl)
theorem dX1_condition_24 : decode cX1_condition 24 = .ok (.putfield 87, 3) := dk_181 0 87 (dk_at dksX1_condition_1 0 rfl rfl)
theorem dX1_condition_27 : decode cX1_condition 27 = .ok (.aload_n 3, 1) := dk_45 (dk_at dksX1_condition_1 3 rfl rfl)
theorem dX1_condition_28 : decode cX1_condition 28 = .ok (.ifnonnull 13, 3) := dk_199 0 13 (dk_at dksX1_condition_1 4 rfl rfl)
theorem dX1_condition_31 : decode cX1_condition 31 = .ok (.new 170, 3) := dk_187 0 170 (dk_at dksX1_condition_1 7 rfl rfl)
theorem dX1_condition_34 : decode cX1_condition 34 = .ok (.dup, 1) := dk_89 (dk_at dksX1_condition_1 10 rfl rfl)
theorem dX1_condition_35 : decode cX1_condition 35 = .ok (.iconst 0, 1) := dk_3 (dk_at dksX1_condition_1 11 rfl rfl)
theorem dX1_condition_36 : decode cX1_condition 36 = .ok (.aload_n 2, 1) := dk_44 (dk_at dksX1_condition_1 12 rfl rfl)
theorem dX1_condition_37 : decode cX1_condition 37 = .ok (.invokespecial 172, 3) := dk_183 0 172 (dk_at dksX1_condition_1 13 rfl rfl)
theorem dX1_condition_40 : decode cX1_condition 40 = .ok (.astore_n 3, 1) := dk_78 (dk_at dksX1_condition_1 16 rfl rfl)
theorem dX1_condition_41 : decode cX1_condition 41 = .ok (.aload_n 3, 1) := dk_45 (dk_at dksX1_condition_1 17 rfl rfl)
theorem dX1_condition_42 : decode cX1_condition 42 = .ok (.aload_n 0, 1) := dk_42 (dk_at dksX1_condition_1 18 rfl rfl)
theorem dX1_condition_43 : decode cX1_condition 43 = .ok (.aconst_null, 1) := dk_1 (dk_at dksX1_condition_1 19 rfl rfl)
theorem dX1_condition_44 : decode cX1_condition 44 = .ok (.invokevirtual 177, 3) := dk_182 0 177 (dk_at dksX1_condition_1 20 rfl rfl)
theorem dX1_condition_47 : decode cX1_condition 47 = .ok (.invokevirtual 175, 3) := dk_182 0 175 (dk_at dksX1_condition_2 0 rfl rfl)
theorem dX1_condition_50 : decode cX1_condition 50 = .ok (.goto (-42), 3) := dk_167 255 214 (dk_at dksX1_condition_2 3 rfl rfl)
theorem dX1_condition_53 : decode cX1_condition 53 = .ok (.aload_n 3, 1) := dk_45 (dk_at dksX1_condition_2 6 rfl rfl)
theorem dX1_condition_54 : decode cX1_condition 54 = .ok (.ifnonnull 7, 3) := dk_199 0 7 (dk_at dksX1_condition_2 7 rfl rfl)
theorem dX1_condition_57 : decode cX1_condition 57 = .ok (.aload_n 2, 1) := dk_44 (dk_at dksX1_condition_2 10 rfl rfl)
theorem dX1_condition_58 : decode cX1_condition 58 = .ok (.goto 4, 3) := dk_167 0 4 (dk_at dksX1_condition_2 11 rfl rfl)
theorem dX1_condition_61 : decode cX1_condition 61 = .ok (.aload_n 3, 1) := dk_45 (dk_at dksX1_condition_2 14 rfl rfl)
theorem dX1_condition_62 : decode cX1_condition 62 = .ok (.areturn, 1) := dk_176 (dk_at dksX1_condition_2 15 rfl rfl)
abbrev cX1_part : ByteArray := prog_1_method_17_code
def yX1_part : MethodName := ⟨RX1, "part", "(LOneBears$Sum;)LOneBears$Test;"⟩
def dkwX1_part_3 : List UInt8 := [45, 176]
abbrev dktX1_part_3 : List UInt8 := dkwX1_part_3 ++ []
def dkwX1_part_2 : List UInt8 := [44, 183, 0, 172, 78, 45, 42, 182, 0, 154, 182, 0, 175, 167, 255, 215, 45, 199, 0, 7, 44, 167, 0, 4]
abbrev dktX1_part_2 : List UInt8 := dkwX1_part_2 ++ dktX1_part_3
def dkwX1_part_1 : List UInt8 := [16, 38, 160, 0, 38, 42, 89, 180, 0, 87, 4, 96, 181, 0, 87, 45, 199, 0, 13, 187, 0, 170, 89, 4]
abbrev dktX1_part_1 : List UInt8 := dkwX1_part_1 ++ dktX1_part_2
def dkwX1_part_0 : List UInt8 := [43, 199, 0, 10, 42, 182, 0, 154, 167, 0, 8, 42, 43, 182, 0, 167, 77, 1, 78, 42, 182, 0, 97]
abbrev dktX1_part_0 : List UInt8 := dkwX1_part_0 ++ dktX1_part_1
theorem dksX1_part_0 : cX1_part.data.toList.drop 0 = dktX1_part_0 := by decide +kernel
theorem dksX1_part_1 : cX1_part.data.toList.drop 23 = dktX1_part_1 := dk_seg dksX1_part_0 23 rfl rfl
theorem dksX1_part_2 : cX1_part.data.toList.drop 47 = dktX1_part_2 := dk_seg dksX1_part_1 24 rfl rfl
theorem dksX1_part_3 : cX1_part.data.toList.drop 71 = dktX1_part_3 := dk_seg dksX1_part_2 24 rfl rfl
theorem dX1_part_0 : decode cX1_part 0 = .ok (.aload_n 1, 1) := dk_43 (dk_at dksX1_part_0 0 rfl rfl)
theorem dX1_part_1 : decode cX1_part 1 = .ok (.ifnonnull 10, 3) := dk_199 0 10 (dk_at dksX1_part_0 1 rfl rfl)
theorem dX1_part_4 : decode cX1_part 4 = .ok (.aload_n 0, 1) := dk_42 (dk_at dksX1_part_0 4 rfl rfl)
theorem dX1_part_5 : decode cX1_part 5 = .ok (.invokevirtual 154, 3) := dk_182 0 154 (dk_at dksX1_part_0 5 rfl rfl)
theorem dX1_part_8 : decode cX1_part 8 = .ok (.goto 8, 3) := dk_167 0 8 (dk_at dksX1_part_0 8 rfl rfl)
theorem dX1_part_11 : decode cX1_part 11 = .ok (.aload_n 0, 1) := dk_42 (dk_at dksX1_part_0 11 rfl rfl)
theorem dX1_part_12 : decode cX1_part 12 = .ok (.aload_n 1, 1) := dk_43 (dk_at dksX1_part_0 12 rfl rfl)
theorem dX1_part_13 : decode cX1_part 13 = .ok (.invokevirtual 167, 3) := dk_182 0 167 (dk_at dksX1_part_0 13 rfl rfl)
theorem dX1_part_16 : decode cX1_part 16 = .ok (.astore_n 2, 1) := dk_77 (dk_at dksX1_part_0 16 rfl rfl)
theorem dX1_part_17 : decode cX1_part 17 = .ok (.aconst_null, 1) := dk_1 (dk_at dksX1_part_0 17 rfl rfl)
theorem dX1_part_18 : decode cX1_part 18 = .ok (.astore_n 3, 1) := dk_78 (dk_at dksX1_part_0 18 rfl rfl)
theorem dX1_part_19 : decode cX1_part 19 = .ok (.aload_n 0, 1) := dk_42 (dk_at dksX1_part_0 19 rfl rfl)
theorem dX1_part_20 : decode cX1_part 20 = .ok (.invokevirtual 97, 3) := dk_182 0 97 (dk_at dksX1_part_0 20 rfl rfl)
theorem dX1_part_23 : decode cX1_part 23 = .ok (.bipush 38, 2) := dk_16 38 (dk_at dksX1_part_1 0 rfl rfl)
theorem dX1_part_25 : decode cX1_part 25 = .ok (.if_icmp .ne 38, 3) := dk_160 0 38 (dk_at dksX1_part_1 2 rfl rfl)
theorem dX1_part_28 : decode cX1_part 28 = .ok (.aload_n 0, 1) := dk_42 (dk_at dksX1_part_1 5 rfl rfl)
theorem dX1_part_29 : decode cX1_part 29 = .ok (.dup, 1) := dk_89 (dk_at dksX1_part_1 6 rfl rfl)
theorem dX1_part_30 : decode cX1_part 30 = .ok (.getfield 87, 3) := dk_180 0 87 (dk_at dksX1_part_1 7 rfl rfl)
theorem dX1_part_33 : decode cX1_part 33 = .ok (.iconst 1, 1) := dk_4 (dk_at dksX1_part_1 10 rfl rfl)
theorem dX1_part_34 : decode cX1_part 34 = .ok (.iadd, 1) := dk_96 (dk_at dksX1_part_1 11 rfl rfl)
theorem dX1_part_35 : decode cX1_part 35 = .ok (.putfield 87, 3) := dk_181 0 87 (dk_at dksX1_part_1 12 rfl rfl)
theorem dX1_part_38 : decode cX1_part 38 = .ok (.aload_n 3, 1) := dk_45 (dk_at dksX1_part_1 15 rfl rfl)
theorem dX1_part_39 : decode cX1_part 39 = .ok (.ifnonnull 13, 3) := dk_199 0 13 (dk_at dksX1_part_1 16 rfl rfl)
theorem dX1_part_42 : decode cX1_part 42 = .ok (.new 170, 3) := dk_187 0 170 (dk_at dksX1_part_1 19 rfl rfl)
theorem dX1_part_45 : decode cX1_part 45 = .ok (.dup, 1) := dk_89 (dk_at dksX1_part_1 22 rfl rfl)
theorem dX1_part_46 : decode cX1_part 46 = .ok (.iconst 1, 1) := dk_4 (dk_at dksX1_part_1 23 rfl rfl)
theorem dX1_part_47 : decode cX1_part 47 = .ok (.aload_n 2, 1) := dk_44 (dk_at dksX1_part_2 0 rfl rfl)
theorem dX1_part_48 : decode cX1_part 48 = .ok (.invokespecial 172, 3) := dk_183 0 172 (dk_at dksX1_part_2 1 rfl rfl)
theorem dX1_part_51 : decode cX1_part 51 = .ok (.astore_n 3, 1) := dk_78 (dk_at dksX1_part_2 4 rfl rfl)
theorem dX1_part_52 : decode cX1_part 52 = .ok (.aload_n 3, 1) := dk_45 (dk_at dksX1_part_2 5 rfl rfl)
theorem dX1_part_53 : decode cX1_part 53 = .ok (.aload_n 0, 1) := dk_42 (dk_at dksX1_part_2 6 rfl rfl)
theorem dX1_part_54 : decode cX1_part 54 = .ok (.invokevirtual 154, 3) := dk_182 0 154 (dk_at dksX1_part_2 7 rfl rfl)
theorem dX1_part_57 : decode cX1_part 57 = .ok (.invokevirtual 175, 3) := dk_182 0 175 (dk_at dksX1_part_2 10 rfl rfl)
theorem dX1_part_60 : decode cX1_part 60 = .ok (.goto (-41), 3) := dk_167 255 215 (dk_at dksX1_part_2 13 rfl rfl)
theorem dX1_part_63 : decode cX1_part 63 = .ok (.aload_n 3, 1) := dk_45 (dk_at dksX1_part_2 16 rfl rfl)
theorem dX1_part_64 : decode cX1_part 64 = .ok (.ifnonnull 7, 3) := dk_199 0 7 (dk_at dksX1_part_2 17 rfl rfl)
theorem dX1_part_67 : decode cX1_part 67 = .ok (.aload_n 2, 1) := dk_44 (dk_at dksX1_part_2 20 rfl rfl)
theorem dX1_part_68 : decode cX1_part 68 = .ok (.goto 4, 3) := dk_167 0 4 (dk_at dksX1_part_2 21 rfl rfl)
theorem dX1_part_71 : decode cX1_part 71 = .ok (.aload_n 3, 1) := dk_45 (dk_at dksX1_part_3 0 rfl rfl)
theorem dX1_part_72 : decode cX1_part 72 = .ok (.areturn, 1) := dk_176 (dk_at dksX1_part_3 1 rfl rfl)
abbrev cX1_unit : ByteArray := prog_1_method_16_code
def yX1_unit : MethodName := ⟨RX1, "unit", "()LOneBears$Test;"⟩
def dkwX1_unit_3 : List UInt8 := [182, 0, 167, 176]
abbrev dktX1_unit_3 : List UInt8 := dkwX1_unit_3 ++ []
def dkwX1_unit_2 : List UInt8 := [182, 0, 101, 42, 1, 182, 0, 163, 77, 42, 16, 41, 182, 0, 108, 44, 176, 42, 42, 182, 0, 104]
abbrev dktX1_unit_2 : List UInt8 := dkwX1_unit_2 ++ dktX1_unit_3
def dkwX1_unit_1 : List UInt8 := [180, 0, 90, 4, 100, 181, 0, 90, 187, 0, 158, 89, 44, 183, 0, 160, 176, 27, 16, 40, 160, 0, 21, 42]
abbrev dktX1_unit_1 : List UInt8 := dkwX1_unit_1 ++ dktX1_unit_2
def dkwX1_unit_0 : List UInt8 := [42, 182, 0, 97, 60, 27, 16, 33, 160, 0, 31, 42, 182, 0, 101, 42, 182, 0, 154, 77, 42, 89]
abbrev dktX1_unit_0 : List UInt8 := dkwX1_unit_0 ++ dktX1_unit_1
theorem dksX1_unit_0 : cX1_unit.data.toList.drop 0 = dktX1_unit_0 := by decide +kernel
theorem dksX1_unit_1 : cX1_unit.data.toList.drop 22 = dktX1_unit_1 := dk_seg dksX1_unit_0 22 rfl rfl
theorem dksX1_unit_2 : cX1_unit.data.toList.drop 46 = dktX1_unit_2 := dk_seg dksX1_unit_1 24 rfl rfl
theorem dksX1_unit_3 : cX1_unit.data.toList.drop 68 = dktX1_unit_3 := dk_seg dksX1_unit_2 22 rfl rfl
theorem dX1_unit_0 : decode cX1_unit 0 = .ok (.aload_n 0, 1) := dk_42 (dk_at dksX1_unit_0 0 rfl rfl)
theorem dX1_unit_1 : decode cX1_unit 1 = .ok (.invokevirtual 97, 3) := dk_182 0 97 (dk_at dksX1_unit_0 1 rfl rfl)
theorem dX1_unit_4 : decode cX1_unit 4 = .ok (.istore_n 1, 1) := dk_60 (dk_at dksX1_unit_0 4 rfl rfl)
theorem dX1_unit_5 : decode cX1_unit 5 = .ok (.iload_n 1, 1) := dk_27 (dk_at dksX1_unit_0 5 rfl rfl)
theorem dX1_unit_6 : decode cX1_unit 6 = .ok (.bipush 33, 2) := dk_16 33 (dk_at dksX1_unit_0 6 rfl rfl)
theorem dX1_unit_8 : decode cX1_unit 8 = .ok (.if_icmp .ne 31, 3) := dk_160 0 31 (dk_at dksX1_unit_0 8 rfl rfl)
theorem dX1_unit_11 : decode cX1_unit 11 = .ok (.aload_n 0, 1) := dk_42 (dk_at dksX1_unit_0 11 rfl rfl)
theorem dX1_unit_12 : decode cX1_unit 12 = .ok (.invokevirtual 101, 3) := dk_182 0 101 (dk_at dksX1_unit_0 12 rfl rfl)
theorem dX1_unit_15 : decode cX1_unit 15 = .ok (.aload_n 0, 1) := dk_42 (dk_at dksX1_unit_0 15 rfl rfl)
theorem dX1_unit_16 : decode cX1_unit 16 = .ok (.invokevirtual 154, 3) := dk_182 0 154 (dk_at dksX1_unit_0 16 rfl rfl)
theorem dX1_unit_19 : decode cX1_unit 19 = .ok (.astore_n 2, 1) := dk_77 (dk_at dksX1_unit_0 19 rfl rfl)
theorem dX1_unit_20 : decode cX1_unit 20 = .ok (.aload_n 0, 1) := dk_42 (dk_at dksX1_unit_0 20 rfl rfl)
theorem dX1_unit_21 : decode cX1_unit 21 = .ok (.dup, 1) := dk_89 (dk_at dksX1_unit_0 21 rfl rfl)
theorem dX1_unit_22 : decode cX1_unit 22 = .ok (.getfield 90, 3) := dk_180 0 90 (dk_at dksX1_unit_1 0 rfl rfl)
theorem dX1_unit_25 : decode cX1_unit 25 = .ok (.iconst 1, 1) := dk_4 (dk_at dksX1_unit_1 3 rfl rfl)
theorem dX1_unit_26 : decode cX1_unit 26 = .ok (.isub, 1) := dk_100 (dk_at dksX1_unit_1 4 rfl rfl)
theorem dX1_unit_27 : decode cX1_unit 27 = .ok (.putfield 90, 3) := dk_181 0 90 (dk_at dksX1_unit_1 5 rfl rfl)
theorem dX1_unit_30 : decode cX1_unit 30 = .ok (.new 158, 3) := dk_187 0 158 (dk_at dksX1_unit_1 8 rfl rfl)
theorem dX1_unit_33 : decode cX1_unit 33 = .ok (.dup, 1) := dk_89 (dk_at dksX1_unit_1 11 rfl rfl)
theorem dX1_unit_34 : decode cX1_unit 34 = .ok (.aload_n 2, 1) := dk_44 (dk_at dksX1_unit_1 12 rfl rfl)
theorem dX1_unit_35 : decode cX1_unit 35 = .ok (.invokespecial 160, 3) := dk_183 0 160 (dk_at dksX1_unit_1 13 rfl rfl)
theorem dX1_unit_38 : decode cX1_unit 38 = .ok (.areturn, 1) := dk_176 (dk_at dksX1_unit_1 16 rfl rfl)
theorem dX1_unit_39 : decode cX1_unit 39 = .ok (.iload_n 1, 1) := dk_27 (dk_at dksX1_unit_1 17 rfl rfl)
theorem dX1_unit_40 : decode cX1_unit 40 = .ok (.bipush 40, 2) := dk_16 40 (dk_at dksX1_unit_1 18 rfl rfl)
theorem dX1_unit_42 : decode cX1_unit 42 = .ok (.if_icmp .ne 21, 3) := dk_160 0 21 (dk_at dksX1_unit_1 20 rfl rfl)
theorem dX1_unit_45 : decode cX1_unit 45 = .ok (.aload_n 0, 1) := dk_42 (dk_at dksX1_unit_1 23 rfl rfl)
theorem dX1_unit_46 : decode cX1_unit 46 = .ok (.invokevirtual 101, 3) := dk_182 0 101 (dk_at dksX1_unit_2 0 rfl rfl)
theorem dX1_unit_49 : decode cX1_unit 49 = .ok (.aload_n 0, 1) := dk_42 (dk_at dksX1_unit_2 3 rfl rfl)
theorem dX1_unit_50 : decode cX1_unit 50 = .ok (.aconst_null, 1) := dk_1 (dk_at dksX1_unit_2 4 rfl rfl)
theorem dX1_unit_51 : decode cX1_unit 51 = .ok (.invokevirtual 163, 3) := dk_182 0 163 (dk_at dksX1_unit_2 5 rfl rfl)
theorem dX1_unit_54 : decode cX1_unit 54 = .ok (.astore_n 2, 1) := dk_77 (dk_at dksX1_unit_2 8 rfl rfl)
theorem dX1_unit_55 : decode cX1_unit 55 = .ok (.aload_n 0, 1) := dk_42 (dk_at dksX1_unit_2 9 rfl rfl)
theorem dX1_unit_56 : decode cX1_unit 56 = .ok (.bipush 41, 2) := dk_16 41 (dk_at dksX1_unit_2 10 rfl rfl)
theorem dX1_unit_58 : decode cX1_unit 58 = .ok (.invokevirtual 108, 3) := dk_182 0 108 (dk_at dksX1_unit_2 12 rfl rfl)
theorem dX1_unit_61 : decode cX1_unit 61 = .ok (.aload_n 2, 1) := dk_44 (dk_at dksX1_unit_2 15 rfl rfl)
theorem dX1_unit_62 : decode cX1_unit 62 = .ok (.areturn, 1) := dk_176 (dk_at dksX1_unit_2 16 rfl rfl)
theorem dX1_unit_63 : decode cX1_unit 63 = .ok (.aload_n 0, 1) := dk_42 (dk_at dksX1_unit_2 17 rfl rfl)
theorem dX1_unit_64 : decode cX1_unit 64 = .ok (.aload_n 0, 1) := dk_42 (dk_at dksX1_unit_2 18 rfl rfl)
theorem dX1_unit_65 : decode cX1_unit 65 = .ok (.invokevirtual 104, 3) := dk_182 0 104 (dk_at dksX1_unit_2 19 rfl rfl)
theorem dX1_unit_68 : decode cX1_unit 68 = .ok (.invokevirtual 167, 3) := dk_182 0 167 (dk_at dksX1_unit_3 0 rfl rfl)
theorem dX1_unit_71 : decode cX1_unit 71 = .ok (.areturn, 1) := dk_176 (dk_at dksX1_unit_3 3 rfl rfl)
abbrev cX1_compare : ByteArray := prog_1_method_15_code
def yX1_compare : MethodName := ⟨RX1, "compare", "(LOneBears$Sum;)LOneBears$Test;"⟩
def dkwX1_compare_1 : List UInt8 := [187, 0, 149, 89, 28, 43, 42, 182, 0, 104, 183, 0, 151, 176]
abbrev dktX1_compare_1 : List UInt8 := dkwX1_compare_1 ++ []
def dkwX1_compare_0 : List UInt8 := [42, 182, 0, 97, 61, 42, 28, 184, 0, 146, 182, 0, 93, 42, 89, 180, 0, 87, 4, 96, 181, 0, 87]
abbrev dktX1_compare_0 : List UInt8 := dkwX1_compare_0 ++ dktX1_compare_1
theorem dksX1_compare_0 : cX1_compare.data.toList.drop 0 = dktX1_compare_0 := by decide +kernel
theorem dksX1_compare_1 : cX1_compare.data.toList.drop 23 = dktX1_compare_1 := dk_seg dksX1_compare_0 23 rfl rfl
theorem dX1_compare_0 : decode cX1_compare 0 = .ok (.aload_n 0, 1) := dk_42 (dk_at dksX1_compare_0 0 rfl rfl)
theorem dX1_compare_1 : decode cX1_compare 1 = .ok (.invokevirtual 97, 3) := dk_182 0 97 (dk_at dksX1_compare_0 1 rfl rfl)
theorem dX1_compare_4 : decode cX1_compare 4 = .ok (.istore_n 2, 1) := dk_61 (dk_at dksX1_compare_0 4 rfl rfl)
theorem dX1_compare_5 : decode cX1_compare 5 = .ok (.aload_n 0, 1) := dk_42 (dk_at dksX1_compare_0 5 rfl rfl)
theorem dX1_compare_6 : decode cX1_compare 6 = .ok (.iload_n 2, 1) := dk_28 (dk_at dksX1_compare_0 6 rfl rfl)
theorem dX1_compare_7 : decode cX1_compare 7 = .ok (.invokestatic 146, 3) := dk_184 0 146 (dk_at dksX1_compare_0 7 rfl rfl)
theorem dX1_compare_10 : decode cX1_compare 10 = .ok (.invokevirtual 93, 3) := dk_182 0 93 (dk_at dksX1_compare_0 10 rfl rfl)
theorem dX1_compare_13 : decode cX1_compare 13 = .ok (.aload_n 0, 1) := dk_42 (dk_at dksX1_compare_0 13 rfl rfl)
theorem dX1_compare_14 : decode cX1_compare 14 = .ok (.dup, 1) := dk_89 (dk_at dksX1_compare_0 14 rfl rfl)
theorem dX1_compare_15 : decode cX1_compare 15 = .ok (.getfield 87, 3) := dk_180 0 87 (dk_at dksX1_compare_0 15 rfl rfl)
theorem dX1_compare_18 : decode cX1_compare 18 = .ok (.iconst 1, 1) := dk_4 (dk_at dksX1_compare_0 18 rfl rfl)
theorem dX1_compare_19 : decode cX1_compare 19 = .ok (.iadd, 1) := dk_96 (dk_at dksX1_compare_0 19 rfl rfl)
theorem dX1_compare_20 : decode cX1_compare 20 = .ok (.putfield 87, 3) := dk_181 0 87 (dk_at dksX1_compare_0 20 rfl rfl)
theorem dX1_compare_23 : decode cX1_compare 23 = .ok (.new 149, 3) := dk_187 0 149 (dk_at dksX1_compare_1 0 rfl rfl)
theorem dX1_compare_26 : decode cX1_compare 26 = .ok (.dup, 1) := dk_89 (dk_at dksX1_compare_1 3 rfl rfl)
theorem dX1_compare_27 : decode cX1_compare 27 = .ok (.iload_n 2, 1) := dk_28 (dk_at dksX1_compare_1 4 rfl rfl)
theorem dX1_compare_28 : decode cX1_compare 28 = .ok (.aload_n 1, 1) := dk_43 (dk_at dksX1_compare_1 5 rfl rfl)
theorem dX1_compare_29 : decode cX1_compare 29 = .ok (.aload_n 0, 1) := dk_42 (dk_at dksX1_compare_1 6 rfl rfl)
theorem dX1_compare_30 : decode cX1_compare 30 = .ok (.invokevirtual 104, 3) := dk_182 0 104 (dk_at dksX1_compare_1 7 rfl rfl)
theorem dX1_compare_33 : decode cX1_compare 33 = .ok (.invokespecial 151, 3) := dk_183 0 151 (dk_at dksX1_compare_1 10 rfl rfl)
theorem dX1_compare_36 : decode cX1_compare 36 = .ok (.areturn, 1) := dk_176 (dk_at dksX1_compare_1 13 rfl rfl)
abbrev cX1_law : ByteArray := prog_1_method_24_code
def yX1_law : MethodName := ⟨RX1, "law", "()I"⟩
def dkwX1_law_2 : List UInt8 := [180, 0, 225, 4, 100, 172]
abbrev dktX1_law_2 : List UInt8 := dkwX1_law_2 ++ []
def dkwX1_law_1 : List UInt8 := [167, 0, 6, 76, 2, 172, 42, 89, 180, 0, 225, 4, 96, 181, 0, 225, 42, 3, 181, 0, 84, 42]
abbrev dktX1_law_1 : List UInt8 := dkwX1_law_1 ++ dktX1_law_2
def dkwX1_law_0 : List UInt8 := [42, 180, 0, 225, 16, 6, 160, 0, 5, 2, 172, 42, 180, 0, 26, 42, 180, 0, 225, 42, 182, 0, 193, 83]
abbrev dktX1_law_0 : List UInt8 := dkwX1_law_0 ++ dktX1_law_1
theorem dksX1_law_0 : cX1_law.data.toList.drop 0 = dktX1_law_0 := by decide +kernel
theorem dksX1_law_1 : cX1_law.data.toList.drop 24 = dktX1_law_1 := dk_seg dksX1_law_0 24 rfl rfl
theorem dksX1_law_2 : cX1_law.data.toList.drop 46 = dktX1_law_2 := dk_seg dksX1_law_1 22 rfl rfl
theorem dX1_law_0 : decode cX1_law 0 = .ok (.aload_n 0, 1) := dk_42 (dk_at dksX1_law_0 0 rfl rfl)
theorem dX1_law_1 : decode cX1_law 1 = .ok (.getfield 225, 3) := dk_180 0 225 (dk_at dksX1_law_0 1 rfl rfl)
theorem dX1_law_4 : decode cX1_law 4 = .ok (.bipush 6, 2) := dk_16 6 (dk_at dksX1_law_0 4 rfl rfl)
theorem dX1_law_6 : decode cX1_law 6 = .ok (.if_icmp .ne 5, 3) := dk_160 0 5 (dk_at dksX1_law_0 6 rfl rfl)
theorem dX1_law_9 : decode cX1_law 9 = .ok (.iconst (-1), 1) := dk_2 (dk_at dksX1_law_0 9 rfl rfl)
theorem dX1_law_10 : decode cX1_law 10 = .ok (.ireturn, 1) := dk_172 (dk_at dksX1_law_0 10 rfl rfl)
theorem dX1_law_11 : decode cX1_law 11 = .ok (.aload_n 0, 1) := dk_42 (dk_at dksX1_law_0 11 rfl rfl)
theorem dX1_law_12 : decode cX1_law 12 = .ok (.getfield 26, 3) := dk_180 0 26 (dk_at dksX1_law_0 12 rfl rfl)
theorem dX1_law_15 : decode cX1_law 15 = .ok (.aload_n 0, 1) := dk_42 (dk_at dksX1_law_0 15 rfl rfl)
theorem dX1_law_16 : decode cX1_law 16 = .ok (.getfield 225, 3) := dk_180 0 225 (dk_at dksX1_law_0 16 rfl rfl)
theorem dX1_law_19 : decode cX1_law 19 = .ok (.aload_n 0, 1) := dk_42 (dk_at dksX1_law_0 19 rfl rfl)
theorem dX1_law_20 : decode cX1_law 20 = .ok (.invokevirtual 193, 3) := dk_182 0 193 (dk_at dksX1_law_0 20 rfl rfl)
theorem dX1_law_23 : decode cX1_law 23 = .ok (.aastore, 1) := dk_83 (dk_at dksX1_law_0 23 rfl rfl)
theorem dX1_law_24 : decode cX1_law 24 = .ok (.goto 6, 3) := dk_167 0 6 (dk_at dksX1_law_1 0 rfl rfl)
theorem dX1_law_27 : decode cX1_law 27 = .ok (.astore_n 1, 1) := dk_76 (dk_at dksX1_law_1 3 rfl rfl)
theorem dX1_law_28 : decode cX1_law 28 = .ok (.iconst (-1), 1) := dk_2 (dk_at dksX1_law_1 4 rfl rfl)
theorem dX1_law_29 : decode cX1_law 29 = .ok (.ireturn, 1) := dk_172 (dk_at dksX1_law_1 5 rfl rfl)
theorem dX1_law_30 : decode cX1_law 30 = .ok (.aload_n 0, 1) := dk_42 (dk_at dksX1_law_1 6 rfl rfl)
theorem dX1_law_31 : decode cX1_law 31 = .ok (.dup, 1) := dk_89 (dk_at dksX1_law_1 7 rfl rfl)
theorem dX1_law_32 : decode cX1_law 32 = .ok (.getfield 225, 3) := dk_180 0 225 (dk_at dksX1_law_1 8 rfl rfl)
theorem dX1_law_35 : decode cX1_law 35 = .ok (.iconst 1, 1) := dk_4 (dk_at dksX1_law_1 11 rfl rfl)
theorem dX1_law_36 : decode cX1_law 36 = .ok (.iadd, 1) := dk_96 (dk_at dksX1_law_1 12 rfl rfl)
theorem dX1_law_37 : decode cX1_law 37 = .ok (.putfield 225, 3) := dk_181 0 225 (dk_at dksX1_law_1 13 rfl rfl)
theorem dX1_law_40 : decode cX1_law 40 = .ok (.aload_n 0, 1) := dk_42 (dk_at dksX1_law_1 16 rfl rfl)
theorem dX1_law_41 : decode cX1_law 41 = .ok (.iconst 0, 1) := dk_3 (dk_at dksX1_law_1 17 rfl rfl)
theorem dX1_law_42 : decode cX1_law 42 = .ok (.putfield 84, 3) := dk_181 0 84 (dk_at dksX1_law_1 18 rfl rfl)
theorem dX1_law_45 : decode cX1_law 45 = .ok (.aload_n 0, 1) := dk_42 (dk_at dksX1_law_1 21 rfl rfl)
theorem dX1_law_46 : decode cX1_law 46 = .ok (.getfield 225, 3) := dk_180 0 225 (dk_at dksX1_law_2 0 rfl rfl)
theorem dX1_law_49 : decode cX1_law 49 = .ok (.iconst 1, 1) := dk_4 (dk_at dksX1_law_2 3 rfl rfl)
theorem dX1_law_50 : decode cX1_law 50 = .ok (.isub, 1) := dk_100 (dk_at dksX1_law_2 4 rfl rfl)
theorem dX1_law_51 : decode cX1_law 51 = .ok (.ireturn, 1) := dk_172 (dk_at dksX1_law_2 5 rfl rfl)
abbrev cX1_animal : ByteArray := prog_1_method_27_code
def yX1_animal : MethodName := ⟨RX1, "animal", "(III)I"⟩
def dkwX1_animal_4 : List UInt8 := [96, 181, 0, 232, 42, 180, 0, 232, 4, 100, 172]
abbrev dktX1_animal_4 : List UInt8 := dkwX1_animal_4 ++ []
def dkwX1_animal_3 : List UInt8 := [180, 0, 232, 27, 28, 182, 0, 238, 42, 180, 0, 37, 42, 180, 0, 232, 29, 79, 42, 89, 180, 0, 232, 4]
abbrev dktX1_animal_3 : List UInt8 := dkwX1_animal_3 ++ dktX1_animal_4
def dkwX1_animal_2 : List UInt8 := [184, 0, 228, 153, 0, 12, 42, 180, 0, 232, 16, 16, 160, 0, 5, 2, 172, 42, 180, 0, 33, 42]
abbrev dktX1_animal_2 : List UInt8 := dkwX1_animal_2 ++ dktX1_animal_3
def dkwX1_animal_1 : List UInt8 := [182, 0, 235, 153, 0, 35, 42, 28, 182, 0, 235, 153, 0, 27, 27, 28, 159, 0, 22, 29, 4, 16, 99]
abbrev dktX1_animal_1 : List UInt8 := dkwX1_animal_1 ++ dktX1_animal_2
def dkwX1_animal_0 : List UInt8 := [27, 2, 160, 0, 12, 28, 2, 160, 0, 7, 4, 167, 0, 4, 3, 54, 4, 21, 4, 154, 0, 24, 42, 27]
abbrev dktX1_animal_0 : List UInt8 := dkwX1_animal_0 ++ dktX1_animal_1
theorem dksX1_animal_0 : cX1_animal.data.toList.drop 0 = dktX1_animal_0 := by decide +kernel
theorem dksX1_animal_1 : cX1_animal.data.toList.drop 24 = dktX1_animal_1 := dk_seg dksX1_animal_0 24 rfl rfl
theorem dksX1_animal_2 : cX1_animal.data.toList.drop 47 = dktX1_animal_2 := dk_seg dksX1_animal_1 23 rfl rfl
theorem dksX1_animal_3 : cX1_animal.data.toList.drop 69 = dktX1_animal_3 := dk_seg dksX1_animal_2 22 rfl rfl
theorem dksX1_animal_4 : cX1_animal.data.toList.drop 93 = dktX1_animal_4 := dk_seg dksX1_animal_3 24 rfl rfl
theorem dX1_animal_0 : decode cX1_animal 0 = .ok (.iload_n 1, 1) := dk_27 (dk_at dksX1_animal_0 0 rfl rfl)
theorem dX1_animal_1 : decode cX1_animal 1 = .ok (.iconst (-1), 1) := dk_2 (dk_at dksX1_animal_0 1 rfl rfl)
theorem dX1_animal_2 : decode cX1_animal 2 = .ok (.if_icmp .ne 12, 3) := dk_160 0 12 (dk_at dksX1_animal_0 2 rfl rfl)
theorem dX1_animal_5 : decode cX1_animal 5 = .ok (.iload_n 2, 1) := dk_28 (dk_at dksX1_animal_0 5 rfl rfl)
theorem dX1_animal_6 : decode cX1_animal 6 = .ok (.iconst (-1), 1) := dk_2 (dk_at dksX1_animal_0 6 rfl rfl)
theorem dX1_animal_7 : decode cX1_animal 7 = .ok (.if_icmp .ne 7, 3) := dk_160 0 7 (dk_at dksX1_animal_0 7 rfl rfl)
theorem dX1_animal_10 : decode cX1_animal 10 = .ok (.iconst 1, 1) := dk_4 (dk_at dksX1_animal_0 10 rfl rfl)
theorem dX1_animal_11 : decode cX1_animal 11 = .ok (.goto 4, 3) := dk_167 0 4 (dk_at dksX1_animal_0 11 rfl rfl)
theorem dX1_animal_14 : decode cX1_animal 14 = .ok (.iconst 0, 1) := dk_3 (dk_at dksX1_animal_0 14 rfl rfl)
theorem dX1_animal_15 : decode cX1_animal 15 = .ok (.istore 4, 2) := dk_54 4 (dk_at dksX1_animal_0 15 rfl rfl)
theorem dX1_animal_17 : decode cX1_animal 17 = .ok (.iload 4, 2) := dk_21 4 (dk_at dksX1_animal_0 17 rfl rfl)
theorem dX1_animal_19 : decode cX1_animal 19 = .ok (.ifCond .ne 24, 3) := dk_154 0 24 (dk_at dksX1_animal_0 19 rfl rfl)
theorem dX1_animal_22 : decode cX1_animal 22 = .ok (.aload_n 0, 1) := dk_42 (dk_at dksX1_animal_0 22 rfl rfl)
theorem dX1_animal_23 : decode cX1_animal 23 = .ok (.iload_n 1, 1) := dk_27 (dk_at dksX1_animal_0 23 rfl rfl)
theorem dX1_animal_24 : decode cX1_animal 24 = .ok (.invokevirtual 235, 3) := dk_182 0 235 (dk_at dksX1_animal_1 0 rfl rfl)
theorem dX1_animal_27 : decode cX1_animal 27 = .ok (.ifCond .eq 35, 3) := dk_153 0 35 (dk_at dksX1_animal_1 3 rfl rfl)
theorem dX1_animal_30 : decode cX1_animal 30 = .ok (.aload_n 0, 1) := dk_42 (dk_at dksX1_animal_1 6 rfl rfl)
theorem dX1_animal_31 : decode cX1_animal 31 = .ok (.iload_n 2, 1) := dk_28 (dk_at dksX1_animal_1 7 rfl rfl)
theorem dX1_animal_32 : decode cX1_animal 32 = .ok (.invokevirtual 235, 3) := dk_182 0 235 (dk_at dksX1_animal_1 8 rfl rfl)
theorem dX1_animal_35 : decode cX1_animal 35 = .ok (.ifCond .eq 27, 3) := dk_153 0 27 (dk_at dksX1_animal_1 11 rfl rfl)
theorem dX1_animal_38 : decode cX1_animal 38 = .ok (.iload_n 1, 1) := dk_27 (dk_at dksX1_animal_1 14 rfl rfl)
theorem dX1_animal_39 : decode cX1_animal 39 = .ok (.iload_n 2, 1) := dk_28 (dk_at dksX1_animal_1 15 rfl rfl)
theorem dX1_animal_40 : decode cX1_animal 40 = .ok (.if_icmp .eq 22, 3) := dk_159 0 22 (dk_at dksX1_animal_1 16 rfl rfl)
theorem dX1_animal_43 : decode cX1_animal 43 = .ok (.iload_n 3, 1) := dk_29 (dk_at dksX1_animal_1 19 rfl rfl)
theorem dX1_animal_44 : decode cX1_animal 44 = .ok (.iconst 1, 1) := dk_4 (dk_at dksX1_animal_1 20 rfl rfl)
theorem dX1_animal_45 : decode cX1_animal 45 = .ok (.bipush 99, 2) := dk_16 99 (dk_at dksX1_animal_1 21 rfl rfl)
theorem dX1_animal_47 : decode cX1_animal 47 = .ok (.invokestatic 228, 3) := dk_184 0 228 (dk_at dksX1_animal_2 0 rfl rfl)
theorem dX1_animal_50 : decode cX1_animal 50 = .ok (.ifCond .eq 12, 3) := dk_153 0 12 (dk_at dksX1_animal_2 3 rfl rfl)
theorem dX1_animal_53 : decode cX1_animal 53 = .ok (.aload_n 0, 1) := dk_42 (dk_at dksX1_animal_2 6 rfl rfl)
theorem dX1_animal_54 : decode cX1_animal 54 = .ok (.getfield 232, 3) := dk_180 0 232 (dk_at dksX1_animal_2 7 rfl rfl)
theorem dX1_animal_57 : decode cX1_animal 57 = .ok (.bipush 16, 2) := dk_16 16 (dk_at dksX1_animal_2 10 rfl rfl)
theorem dX1_animal_59 : decode cX1_animal 59 = .ok (.if_icmp .ne 5, 3) := dk_160 0 5 (dk_at dksX1_animal_2 12 rfl rfl)
theorem dX1_animal_62 : decode cX1_animal 62 = .ok (.iconst (-1), 1) := dk_2 (dk_at dksX1_animal_2 15 rfl rfl)
theorem dX1_animal_63 : decode cX1_animal 63 = .ok (.ireturn, 1) := dk_172 (dk_at dksX1_animal_2 16 rfl rfl)
theorem dX1_animal_64 : decode cX1_animal 64 = .ok (.aload_n 0, 1) := dk_42 (dk_at dksX1_animal_2 17 rfl rfl)
theorem dX1_animal_65 : decode cX1_animal 65 = .ok (.getfield 33, 3) := dk_180 0 33 (dk_at dksX1_animal_2 18 rfl rfl)
theorem dX1_animal_68 : decode cX1_animal 68 = .ok (.aload_n 0, 1) := dk_42 (dk_at dksX1_animal_2 21 rfl rfl)
theorem dX1_animal_69 : decode cX1_animal 69 = .ok (.getfield 232, 3) := dk_180 0 232 (dk_at dksX1_animal_3 0 rfl rfl)
theorem dX1_animal_72 : decode cX1_animal 72 = .ok (.iload_n 1, 1) := dk_27 (dk_at dksX1_animal_3 3 rfl rfl)
theorem dX1_animal_73 : decode cX1_animal 73 = .ok (.iload_n 2, 1) := dk_28 (dk_at dksX1_animal_3 4 rfl rfl)
theorem dX1_animal_74 : decode cX1_animal 74 = .ok (.invokevirtual 238, 3) := dk_182 0 238 (dk_at dksX1_animal_3 5 rfl rfl)
theorem dX1_animal_77 : decode cX1_animal 77 = .ok (.aload_n 0, 1) := dk_42 (dk_at dksX1_animal_3 8 rfl rfl)
theorem dX1_animal_78 : decode cX1_animal 78 = .ok (.getfield 37, 3) := dk_180 0 37 (dk_at dksX1_animal_3 9 rfl rfl)
theorem dX1_animal_81 : decode cX1_animal 81 = .ok (.aload_n 0, 1) := dk_42 (dk_at dksX1_animal_3 12 rfl rfl)
theorem dX1_animal_82 : decode cX1_animal 82 = .ok (.getfield 232, 3) := dk_180 0 232 (dk_at dksX1_animal_3 13 rfl rfl)
theorem dX1_animal_85 : decode cX1_animal 85 = .ok (.iload_n 3, 1) := dk_29 (dk_at dksX1_animal_3 16 rfl rfl)
theorem dX1_animal_86 : decode cX1_animal 86 = .ok (.iastore, 1) := dk_79 (dk_at dksX1_animal_3 17 rfl rfl)
theorem dX1_animal_87 : decode cX1_animal 87 = .ok (.aload_n 0, 1) := dk_42 (dk_at dksX1_animal_3 18 rfl rfl)
theorem dX1_animal_88 : decode cX1_animal 88 = .ok (.dup, 1) := dk_89 (dk_at dksX1_animal_3 19 rfl rfl)
theorem dX1_animal_89 : decode cX1_animal 89 = .ok (.getfield 232, 3) := dk_180 0 232 (dk_at dksX1_animal_3 20 rfl rfl)
theorem dX1_animal_92 : decode cX1_animal 92 = .ok (.iconst 1, 1) := dk_4 (dk_at dksX1_animal_3 23 rfl rfl)
theorem dX1_animal_93 : decode cX1_animal 93 = .ok (.iadd, 1) := dk_96 (dk_at dksX1_animal_4 0 rfl rfl)
theorem dX1_animal_94 : decode cX1_animal 94 = .ok (.putfield 232, 3) := dk_181 0 232 (dk_at dksX1_animal_4 1 rfl rfl)
theorem dX1_animal_97 : decode cX1_animal 97 = .ok (.aload_n 0, 1) := dk_42 (dk_at dksX1_animal_4 4 rfl rfl)
theorem dX1_animal_98 : decode cX1_animal 98 = .ok (.getfield 232, 3) := dk_180 0 232 (dk_at dksX1_animal_4 5 rfl rfl)
theorem dX1_animal_101 : decode cX1_animal 101 = .ok (.iconst 1, 1) := dk_4 (dk_at dksX1_animal_4 8 rfl rfl)
theorem dX1_animal_102 : decode cX1_animal 102 = .ok (.isub, 1) := dk_100 (dk_at dksX1_animal_4 9 rfl rfl)
theorem dX1_animal_103 : decode cX1_animal 103 = .ok (.ireturn, 1) := dk_172 (dk_at dksX1_animal_4 10 rfl rfl)
abbrev cX1_isAnimal : ByteArray := prog_1_method_26_code
def yX1_isAnimal : MethodName := ⟨RX1, "isAnimal", "(I)Z"⟩
def dkwX1_isAnimal_0 : List UInt8 := [27, 3, 42, 180, 0, 232, 4, 100, 184, 0, 228, 172]
abbrev dktX1_isAnimal_0 : List UInt8 := dkwX1_isAnimal_0 ++ []
theorem dksX1_isAnimal_0 : cX1_isAnimal.data.toList.drop 0 = dktX1_isAnimal_0 := by decide +kernel
theorem dX1_isAnimal_0 : decode cX1_isAnimal 0 = .ok (.iload_n 1, 1) := dk_27 (dk_at dksX1_isAnimal_0 0 rfl rfl)
theorem dX1_isAnimal_1 : decode cX1_isAnimal 1 = .ok (.iconst 0, 1) := dk_3 (dk_at dksX1_isAnimal_0 1 rfl rfl)
theorem dX1_isAnimal_2 : decode cX1_isAnimal 2 = .ok (.aload_n 0, 1) := dk_42 (dk_at dksX1_isAnimal_0 2 rfl rfl)
theorem dX1_isAnimal_3 : decode cX1_isAnimal 3 = .ok (.getfield 232, 3) := dk_180 0 232 (dk_at dksX1_isAnimal_0 3 rfl rfl)
theorem dX1_isAnimal_6 : decode cX1_isAnimal 6 = .ok (.iconst 1, 1) := dk_4 (dk_at dksX1_isAnimal_0 6 rfl rfl)
theorem dX1_isAnimal_7 : decode cX1_isAnimal 7 = .ok (.isub, 1) := dk_100 (dk_at dksX1_isAnimal_0 7 rfl rfl)
theorem dX1_isAnimal_8 : decode cX1_isAnimal 8 = .ok (.invokestatic 228, 3) := dk_184 0 228 (dk_at dksX1_isAnimal_0 8 rfl rfl)
theorem dX1_isAnimal_11 : decode cX1_isAnimal 11 = .ok (.ireturn, 1) := dk_172 (dk_at dksX1_isAnimal_0 11 rfl rfl)
abbrev cX1_in : ByteArray := prog_1_method_1_code
def yX1_in : MethodName := ⟨RX1, "in", "(III)Z"⟩
def dkwX1_in_0 : List UInt8 := [26, 27, 161, 0, 12, 26, 28, 163, 0, 7, 4, 167, 0, 4, 3, 172]
abbrev dktX1_in_0 : List UInt8 := dkwX1_in_0 ++ []
theorem dksX1_in_0 : cX1_in.data.toList.drop 0 = dktX1_in_0 := by decide +kernel
theorem dX1_in_0 : decode cX1_in 0 = .ok (.iload_n 0, 1) := dk_26 (dk_at dksX1_in_0 0 rfl rfl)
theorem dX1_in_1 : decode cX1_in 1 = .ok (.iload_n 1, 1) := dk_27 (dk_at dksX1_in_0 1 rfl rfl)
theorem dX1_in_2 : decode cX1_in 2 = .ok (.if_icmp .lt 12, 3) := dk_161 0 12 (dk_at dksX1_in_0 2 rfl rfl)
theorem dX1_in_5 : decode cX1_in 5 = .ok (.iload_n 0, 1) := dk_26 (dk_at dksX1_in_0 5 rfl rfl)
theorem dX1_in_6 : decode cX1_in 6 = .ok (.iload_n 2, 1) := dk_28 (dk_at dksX1_in_0 6 rfl rfl)
theorem dX1_in_7 : decode cX1_in 7 = .ok (.if_icmp .gt 7, 3) := dk_163 0 7 (dk_at dksX1_in_0 7 rfl rfl)
theorem dX1_in_10 : decode cX1_in 10 = .ok (.iconst 1, 1) := dk_4 (dk_at dksX1_in_0 10 rfl rfl)
theorem dX1_in_11 : decode cX1_in 11 = .ok (.goto 4, 3) := dk_167 0 4 (dk_at dksX1_in_0 11 rfl rfl)
theorem dX1_in_14 : decode cX1_in 14 = .ok (.iconst 0, 1) := dk_3 (dk_at dksX1_in_0 14 rfl rfl)
theorem dX1_in_15 : decode cX1_in 15 = .ok (.ireturn, 1) := dk_172 (dk_at dksX1_in_0 15 rfl rfl)
abbrev cX1_kin : ByteArray := prog_1_method_28_code
def yX1_kin : MethodName := ⟨RX1, "kin", "(II)J"⟩
def dkwX1_kin_1 : List UInt8 := [182, 0, 241, 16, 18, 123, 167, 0, 6, 20, 0, 245, 173]
abbrev dktX1_kin_1 : List UInt8 := dkwX1_kin_1 ++ []
def dkwX1_kin_0 : List UInt8 := [42, 27, 182, 0, 235, 153, 0, 26, 42, 28, 182, 0, 235, 153, 0, 18, 42, 180, 0, 33, 27, 28]
abbrev dktX1_kin_0 : List UInt8 := dkwX1_kin_0 ++ dktX1_kin_1
theorem dksX1_kin_0 : cX1_kin.data.toList.drop 0 = dktX1_kin_0 := by decide +kernel
theorem dksX1_kin_1 : cX1_kin.data.toList.drop 22 = dktX1_kin_1 := dk_seg dksX1_kin_0 22 rfl rfl
theorem dX1_kin_0 : decode cX1_kin 0 = .ok (.aload_n 0, 1) := dk_42 (dk_at dksX1_kin_0 0 rfl rfl)
theorem dX1_kin_1 : decode cX1_kin 1 = .ok (.iload_n 1, 1) := dk_27 (dk_at dksX1_kin_0 1 rfl rfl)
theorem dX1_kin_2 : decode cX1_kin 2 = .ok (.invokevirtual 235, 3) := dk_182 0 235 (dk_at dksX1_kin_0 2 rfl rfl)
theorem dX1_kin_5 : decode cX1_kin 5 = .ok (.ifCond .eq 26, 3) := dk_153 0 26 (dk_at dksX1_kin_0 5 rfl rfl)
theorem dX1_kin_8 : decode cX1_kin 8 = .ok (.aload_n 0, 1) := dk_42 (dk_at dksX1_kin_0 8 rfl rfl)
theorem dX1_kin_9 : decode cX1_kin 9 = .ok (.iload_n 2, 1) := dk_28 (dk_at dksX1_kin_0 9 rfl rfl)
theorem dX1_kin_10 : decode cX1_kin 10 = .ok (.invokevirtual 235, 3) := dk_182 0 235 (dk_at dksX1_kin_0 10 rfl rfl)
theorem dX1_kin_13 : decode cX1_kin 13 = .ok (.ifCond .eq 18, 3) := dk_153 0 18 (dk_at dksX1_kin_0 13 rfl rfl)
theorem dX1_kin_16 : decode cX1_kin 16 = .ok (.aload_n 0, 1) := dk_42 (dk_at dksX1_kin_0 16 rfl rfl)
theorem dX1_kin_17 : decode cX1_kin 17 = .ok (.getfield 33, 3) := dk_180 0 33 (dk_at dksX1_kin_0 17 rfl rfl)
theorem dX1_kin_20 : decode cX1_kin 20 = .ok (.iload_n 1, 1) := dk_27 (dk_at dksX1_kin_0 20 rfl rfl)
theorem dX1_kin_21 : decode cX1_kin 21 = .ok (.iload_n 2, 1) := dk_28 (dk_at dksX1_kin_0 21 rfl rfl)
theorem dX1_kin_22 : decode cX1_kin 22 = .ok (.invokevirtual 241, 3) := dk_182 0 241 (dk_at dksX1_kin_1 0 rfl rfl)
theorem dX1_kin_25 : decode cX1_kin 25 = .ok (.bipush 18, 2) := dk_16 18 (dk_at dksX1_kin_1 3 rfl rfl)
theorem dX1_kin_27 : decode cX1_kin 27 = .ok (.lshr, 1) := dk_123 (dk_at dksX1_kin_1 5 rfl rfl)
theorem dX1_kin_28 : decode cX1_kin 28 = .ok (.goto 6, 3) := dk_167 0 6 (dk_at dksX1_kin_1 6 rfl rfl)
theorem dX1_kin_31 : decode cX1_kin 31 = .ok (.ldc2_w 245, 3) := dk_20 0 245 (dk_at dksX1_kin_1 9 rfl rfl)
theorem dX1_kin_34 : decode cX1_kin 34 = .ok (.lreturn, 1) := dk_173 (dk_at dksX1_kin_1 12 rfl rfl)
abbrev cX1_young : ByteArray := prog_1_method_29_code
def yX1_young : MethodName := ⟨RX1, "young", "(III)J"⟩
def dkwX1_young_1 : List UInt8 := [42, 180, 0, 33, 27, 28, 29, 182, 0, 247, 16, 18, 123, 167, 0, 6, 20, 0, 245, 173]
abbrev dktX1_young_1 : List UInt8 := dkwX1_young_1 ++ []
def dkwX1_young_0 : List UInt8 := [42, 27, 182, 0, 235, 153, 0, 35, 42, 28, 182, 0, 235, 153, 0, 27, 42, 29, 182, 0, 235, 153, 0, 19]
abbrev dktX1_young_0 : List UInt8 := dkwX1_young_0 ++ dktX1_young_1
theorem dksX1_young_0 : cX1_young.data.toList.drop 0 = dktX1_young_0 := by decide +kernel
theorem dksX1_young_1 : cX1_young.data.toList.drop 24 = dktX1_young_1 := dk_seg dksX1_young_0 24 rfl rfl
theorem dX1_young_0 : decode cX1_young 0 = .ok (.aload_n 0, 1) := dk_42 (dk_at dksX1_young_0 0 rfl rfl)
theorem dX1_young_1 : decode cX1_young 1 = .ok (.iload_n 1, 1) := dk_27 (dk_at dksX1_young_0 1 rfl rfl)
theorem dX1_young_2 : decode cX1_young 2 = .ok (.invokevirtual 235, 3) := dk_182 0 235 (dk_at dksX1_young_0 2 rfl rfl)
theorem dX1_young_5 : decode cX1_young 5 = .ok (.ifCond .eq 35, 3) := dk_153 0 35 (dk_at dksX1_young_0 5 rfl rfl)
theorem dX1_young_8 : decode cX1_young 8 = .ok (.aload_n 0, 1) := dk_42 (dk_at dksX1_young_0 8 rfl rfl)
theorem dX1_young_9 : decode cX1_young 9 = .ok (.iload_n 2, 1) := dk_28 (dk_at dksX1_young_0 9 rfl rfl)
theorem dX1_young_10 : decode cX1_young 10 = .ok (.invokevirtual 235, 3) := dk_182 0 235 (dk_at dksX1_young_0 10 rfl rfl)
theorem dX1_young_13 : decode cX1_young 13 = .ok (.ifCond .eq 27, 3) := dk_153 0 27 (dk_at dksX1_young_0 13 rfl rfl)
theorem dX1_young_16 : decode cX1_young 16 = .ok (.aload_n 0, 1) := dk_42 (dk_at dksX1_young_0 16 rfl rfl)
theorem dX1_young_17 : decode cX1_young 17 = .ok (.iload_n 3, 1) := dk_29 (dk_at dksX1_young_0 17 rfl rfl)
theorem dX1_young_18 : decode cX1_young 18 = .ok (.invokevirtual 235, 3) := dk_182 0 235 (dk_at dksX1_young_0 18 rfl rfl)
theorem dX1_young_21 : decode cX1_young 21 = .ok (.ifCond .eq 19, 3) := dk_153 0 19 (dk_at dksX1_young_0 21 rfl rfl)
theorem dX1_young_24 : decode cX1_young 24 = .ok (.aload_n 0, 1) := dk_42 (dk_at dksX1_young_1 0 rfl rfl)
theorem dX1_young_25 : decode cX1_young 25 = .ok (.getfield 33, 3) := dk_180 0 33 (dk_at dksX1_young_1 1 rfl rfl)
theorem dX1_young_28 : decode cX1_young 28 = .ok (.iload_n 1, 1) := dk_27 (dk_at dksX1_young_1 4 rfl rfl)
theorem dX1_young_29 : decode cX1_young 29 = .ok (.iload_n 2, 1) := dk_28 (dk_at dksX1_young_1 5 rfl rfl)
theorem dX1_young_30 : decode cX1_young 30 = .ok (.iload_n 3, 1) := dk_29 (dk_at dksX1_young_1 6 rfl rfl)
theorem dX1_young_31 : decode cX1_young 31 = .ok (.invokevirtual 247, 3) := dk_182 0 247 (dk_at dksX1_young_1 7 rfl rfl)
theorem dX1_young_34 : decode cX1_young 34 = .ok (.bipush 18, 2) := dk_16 18 (dk_at dksX1_young_1 10 rfl rfl)
theorem dX1_young_36 : decode cX1_young 36 = .ok (.lshr, 1) := dk_123 (dk_at dksX1_young_1 12 rfl rfl)
theorem dX1_young_37 : decode cX1_young 37 = .ok (.goto 6, 3) := dk_167 0 6 (dk_at dksX1_young_1 13 rfl rfl)
theorem dX1_young_40 : decode cX1_young 40 = .ok (.ldc2_w 245, 3) := dk_20 0 245 (dk_at dksX1_young_1 16 rfl rfl)
theorem dX1_young_43 : decode cX1_young 43 = .ok (.lreturn, 1) := dk_173 (dk_at dksX1_young_1 19 rfl rfl)
abbrev cX1_worthIt : ByteArray := prog_1_method_30_code
def yX1_worthIt : MethodName := ⟨RX1, "worthIt", "(IIIII)I"⟩
def dkwX1_worthIt_5 : List UInt8 := [172, 132, 10, 1, 167, 255, 230, 2, 172]
abbrev dktX1_worthIt_5 : List UInt8 := dkwX1_worthIt_5 ++ []
def dkwX1_worthIt_4 : List UInt8 := [54, 10, 21, 10, 17, 3, 232, 163, 0, 24, 21, 10, 133, 22, 6, 105, 22, 8, 148, 158, 0, 6, 21, 10]
abbrev dktX1_worthIt_4 : List UInt8 := dkwX1_worthIt_4 ++ dktX1_worthIt_5
def dkwX1_worthIt_3 : List UInt8 := [55, 6, 21, 5, 133, 42, 180, 0, 33, 27, 27, 21, 4, 182, 0, 247, 16, 18, 123, 105, 55, 8, 4]
abbrev dktX1_worthIt_3 : List UInt8 := dkwX1_worthIt_3 ++ dktX1_worthIt_4
def dkwX1_worthIt_2 : List UInt8 := [16, 99, 184, 0, 228, 154, 0, 5, 2, 172, 42, 180, 0, 33, 27, 28, 29, 182, 0, 247, 16, 18, 123]
abbrev dktX1_worthIt_2 : List UInt8 := dkwX1_worthIt_2 ++ dktX1_worthIt_3
def dkwX1_worthIt_1 : List UInt8 := [28, 29, 159, 0, 29, 42, 21, 4, 182, 0, 235, 153, 0, 20, 21, 4, 27, 159, 0, 14, 21, 5, 3]
abbrev dktX1_worthIt_1 : List UInt8 := dkwX1_worthIt_1 ++ dktX1_worthIt_2
def dkwX1_worthIt_0 : List UInt8 := [42, 27, 182, 0, 235, 153, 0, 50, 42, 28, 182, 0, 235, 153, 0, 42, 42, 29, 182, 0, 235, 153, 0, 34]
abbrev dktX1_worthIt_0 : List UInt8 := dkwX1_worthIt_0 ++ dktX1_worthIt_1
theorem dksX1_worthIt_0 : cX1_worthIt.data.toList.drop 0 = dktX1_worthIt_0 := by decide +kernel
theorem dksX1_worthIt_1 : cX1_worthIt.data.toList.drop 24 = dktX1_worthIt_1 := dk_seg dksX1_worthIt_0 24 rfl rfl
theorem dksX1_worthIt_2 : cX1_worthIt.data.toList.drop 47 = dktX1_worthIt_2 := dk_seg dksX1_worthIt_1 23 rfl rfl
theorem dksX1_worthIt_3 : cX1_worthIt.data.toList.drop 70 = dktX1_worthIt_3 := dk_seg dksX1_worthIt_2 23 rfl rfl
theorem dksX1_worthIt_4 : cX1_worthIt.data.toList.drop 93 = dktX1_worthIt_4 := dk_seg dksX1_worthIt_3 23 rfl rfl
theorem dksX1_worthIt_5 : cX1_worthIt.data.toList.drop 117 = dktX1_worthIt_5 := dk_seg dksX1_worthIt_4 24 rfl rfl
theorem dX1_worthIt_0 : decode cX1_worthIt 0 = .ok (.aload_n 0, 1) := dk_42 (dk_at dksX1_worthIt_0 0 rfl rfl)
theorem dX1_worthIt_1 : decode cX1_worthIt 1 = .ok (.iload_n 1, 1) := dk_27 (dk_at dksX1_worthIt_0 1 rfl rfl)
theorem dX1_worthIt_2 : decode cX1_worthIt 2 = .ok (.invokevirtual 235, 3) := dk_182 0 235 (dk_at dksX1_worthIt_0 2 rfl rfl)
theorem dX1_worthIt_5 : decode cX1_worthIt 5 = .ok (.ifCond .eq 50, 3) := dk_153 0 50 (dk_at dksX1_worthIt_0 5 rfl rfl)
theorem dX1_worthIt_8 : decode cX1_worthIt 8 = .ok (.aload_n 0, 1) := dk_42 (dk_at dksX1_worthIt_0 8 rfl rfl)
theorem dX1_worthIt_9 : decode cX1_worthIt 9 = .ok (.iload_n 2, 1) := dk_28 (dk_at dksX1_worthIt_0 9 rfl rfl)
theorem dX1_worthIt_10 : decode cX1_worthIt 10 = .ok (.invokevirtual 235, 3) := dk_182 0 235 (dk_at dksX1_worthIt_0 10 rfl rfl)
theorem dX1_worthIt_13 : decode cX1_worthIt 13 = .ok (.ifCond .eq 42, 3) := dk_153 0 42 (dk_at dksX1_worthIt_0 13 rfl rfl)
theorem dX1_worthIt_16 : decode cX1_worthIt 16 = .ok (.aload_n 0, 1) := dk_42 (dk_at dksX1_worthIt_0 16 rfl rfl)
theorem dX1_worthIt_17 : decode cX1_worthIt 17 = .ok (.iload_n 3, 1) := dk_29 (dk_at dksX1_worthIt_0 17 rfl rfl)
theorem dX1_worthIt_18 : decode cX1_worthIt 18 = .ok (.invokevirtual 235, 3) := dk_182 0 235 (dk_at dksX1_worthIt_0 18 rfl rfl)
theorem dX1_worthIt_21 : decode cX1_worthIt 21 = .ok (.ifCond .eq 34, 3) := dk_153 0 34 (dk_at dksX1_worthIt_0 21 rfl rfl)
theorem dX1_worthIt_24 : decode cX1_worthIt 24 = .ok (.iload_n 2, 1) := dk_28 (dk_at dksX1_worthIt_1 0 rfl rfl)
theorem dX1_worthIt_25 : decode cX1_worthIt 25 = .ok (.iload_n 3, 1) := dk_29 (dk_at dksX1_worthIt_1 1 rfl rfl)
theorem dX1_worthIt_26 : decode cX1_worthIt 26 = .ok (.if_icmp .eq 29, 3) := dk_159 0 29 (dk_at dksX1_worthIt_1 2 rfl rfl)
theorem dX1_worthIt_29 : decode cX1_worthIt 29 = .ok (.aload_n 0, 1) := dk_42 (dk_at dksX1_worthIt_1 5 rfl rfl)
theorem dX1_worthIt_30 : decode cX1_worthIt 30 = .ok (.iload 4, 2) := dk_21 4 (dk_at dksX1_worthIt_1 6 rfl rfl)
theorem dX1_worthIt_32 : decode cX1_worthIt 32 = .ok (.invokevirtual 235, 3) := dk_182 0 235 (dk_at dksX1_worthIt_1 8 rfl rfl)
theorem dX1_worthIt_35 : decode cX1_worthIt 35 = .ok (.ifCond .eq 20, 3) := dk_153 0 20 (dk_at dksX1_worthIt_1 11 rfl rfl)
theorem dX1_worthIt_38 : decode cX1_worthIt 38 = .ok (.iload 4, 2) := dk_21 4 (dk_at dksX1_worthIt_1 14 rfl rfl)
theorem dX1_worthIt_40 : decode cX1_worthIt 40 = .ok (.iload_n 1, 1) := dk_27 (dk_at dksX1_worthIt_1 16 rfl rfl)
theorem dX1_worthIt_41 : decode cX1_worthIt 41 = .ok (.if_icmp .eq 14, 3) := dk_159 0 14 (dk_at dksX1_worthIt_1 17 rfl rfl)
theorem dX1_worthIt_44 : decode cX1_worthIt 44 = .ok (.iload 5, 2) := dk_21 5 (dk_at dksX1_worthIt_1 20 rfl rfl)
theorem dX1_worthIt_46 : decode cX1_worthIt 46 = .ok (.iconst 0, 1) := dk_3 (dk_at dksX1_worthIt_1 22 rfl rfl)
theorem dX1_worthIt_47 : decode cX1_worthIt 47 = .ok (.bipush 99, 2) := dk_16 99 (dk_at dksX1_worthIt_2 0 rfl rfl)
theorem dX1_worthIt_49 : decode cX1_worthIt 49 = .ok (.invokestatic 228, 3) := dk_184 0 228 (dk_at dksX1_worthIt_2 2 rfl rfl)
theorem dX1_worthIt_52 : decode cX1_worthIt 52 = .ok (.ifCond .ne 5, 3) := dk_154 0 5 (dk_at dksX1_worthIt_2 5 rfl rfl)
theorem dX1_worthIt_55 : decode cX1_worthIt 55 = .ok (.iconst (-1), 1) := dk_2 (dk_at dksX1_worthIt_2 8 rfl rfl)
theorem dX1_worthIt_56 : decode cX1_worthIt 56 = .ok (.ireturn, 1) := dk_172 (dk_at dksX1_worthIt_2 9 rfl rfl)
theorem dX1_worthIt_57 : decode cX1_worthIt 57 = .ok (.aload_n 0, 1) := dk_42 (dk_at dksX1_worthIt_2 10 rfl rfl)
theorem dX1_worthIt_58 : decode cX1_worthIt 58 = .ok (.getfield 33, 3) := dk_180 0 33 (dk_at dksX1_worthIt_2 11 rfl rfl)
theorem dX1_worthIt_61 : decode cX1_worthIt 61 = .ok (.iload_n 1, 1) := dk_27 (dk_at dksX1_worthIt_2 14 rfl rfl)
theorem dX1_worthIt_62 : decode cX1_worthIt 62 = .ok (.iload_n 2, 1) := dk_28 (dk_at dksX1_worthIt_2 15 rfl rfl)
theorem dX1_worthIt_63 : decode cX1_worthIt 63 = .ok (.iload_n 3, 1) := dk_29 (dk_at dksX1_worthIt_2 16 rfl rfl)
theorem dX1_worthIt_64 : decode cX1_worthIt 64 = .ok (.invokevirtual 247, 3) := dk_182 0 247 (dk_at dksX1_worthIt_2 17 rfl rfl)
theorem dX1_worthIt_67 : decode cX1_worthIt 67 = .ok (.bipush 18, 2) := dk_16 18 (dk_at dksX1_worthIt_2 20 rfl rfl)
theorem dX1_worthIt_69 : decode cX1_worthIt 69 = .ok (.lshr, 1) := dk_123 (dk_at dksX1_worthIt_2 22 rfl rfl)
theorem dX1_worthIt_70 : decode cX1_worthIt 70 = .ok (.lstore 6, 2) := dk_55 6 (dk_at dksX1_worthIt_3 0 rfl rfl)
theorem dX1_worthIt_72 : decode cX1_worthIt 72 = .ok (.iload 5, 2) := dk_21 5 (dk_at dksX1_worthIt_3 2 rfl rfl)
theorem dX1_worthIt_74 : decode cX1_worthIt 74 = .ok (.i2l, 1) := dk_133 (dk_at dksX1_worthIt_3 4 rfl rfl)
theorem dX1_worthIt_75 : decode cX1_worthIt 75 = .ok (.aload_n 0, 1) := dk_42 (dk_at dksX1_worthIt_3 5 rfl rfl)
theorem dX1_worthIt_76 : decode cX1_worthIt 76 = .ok (.getfield 33, 3) := dk_180 0 33 (dk_at dksX1_worthIt_3 6 rfl rfl)
theorem dX1_worthIt_79 : decode cX1_worthIt 79 = .ok (.iload_n 1, 1) := dk_27 (dk_at dksX1_worthIt_3 9 rfl rfl)
theorem dX1_worthIt_80 : decode cX1_worthIt 80 = .ok (.iload_n 1, 1) := dk_27 (dk_at dksX1_worthIt_3 10 rfl rfl)
theorem dX1_worthIt_81 : decode cX1_worthIt 81 = .ok (.iload 4, 2) := dk_21 4 (dk_at dksX1_worthIt_3 11 rfl rfl)
theorem dX1_worthIt_83 : decode cX1_worthIt 83 = .ok (.invokevirtual 247, 3) := dk_182 0 247 (dk_at dksX1_worthIt_3 13 rfl rfl)
theorem dX1_worthIt_86 : decode cX1_worthIt 86 = .ok (.bipush 18, 2) := dk_16 18 (dk_at dksX1_worthIt_3 16 rfl rfl)
theorem dX1_worthIt_88 : decode cX1_worthIt 88 = .ok (.lshr, 1) := dk_123 (dk_at dksX1_worthIt_3 18 rfl rfl)
theorem dX1_worthIt_89 : decode cX1_worthIt 89 = .ok (.lmul, 1) := dk_105 (dk_at dksX1_worthIt_3 19 rfl rfl)
theorem dX1_worthIt_90 : decode cX1_worthIt 90 = .ok (.lstore 8, 2) := dk_55 8 (dk_at dksX1_worthIt_3 20 rfl rfl)
theorem dX1_worthIt_92 : decode cX1_worthIt 92 = .ok (.iconst 1, 1) := dk_4 (dk_at dksX1_worthIt_3 22 rfl rfl)
theorem dX1_worthIt_93 : decode cX1_worthIt 93 = .ok (.istore 10, 2) := dk_54 10 (dk_at dksX1_worthIt_4 0 rfl rfl)
theorem dX1_worthIt_95 : decode cX1_worthIt 95 = .ok (.iload 10, 2) := dk_21 10 (dk_at dksX1_worthIt_4 2 rfl rfl)
theorem dX1_worthIt_97 : decode cX1_worthIt 97 = .ok (.sipush 1000, 3) := dk_17 3 232 (dk_at dksX1_worthIt_4 4 rfl rfl)
theorem dX1_worthIt_100 : decode cX1_worthIt 100 = .ok (.if_icmp .gt 24, 3) := dk_163 0 24 (dk_at dksX1_worthIt_4 7 rfl rfl)
theorem dX1_worthIt_103 : decode cX1_worthIt 103 = .ok (.iload 10, 2) := dk_21 10 (dk_at dksX1_worthIt_4 10 rfl rfl)
theorem dX1_worthIt_105 : decode cX1_worthIt 105 = .ok (.i2l, 1) := dk_133 (dk_at dksX1_worthIt_4 12 rfl rfl)
theorem dX1_worthIt_106 : decode cX1_worthIt 106 = .ok (.lload 6, 2) := dk_22 6 (dk_at dksX1_worthIt_4 13 rfl rfl)
theorem dX1_worthIt_108 : decode cX1_worthIt 108 = .ok (.lmul, 1) := dk_105 (dk_at dksX1_worthIt_4 15 rfl rfl)
theorem dX1_worthIt_109 : decode cX1_worthIt 109 = .ok (.lload 8, 2) := dk_22 8 (dk_at dksX1_worthIt_4 16 rfl rfl)
theorem dX1_worthIt_111 : decode cX1_worthIt 111 = .ok (.lcmp, 1) := dk_148 (dk_at dksX1_worthIt_4 18 rfl rfl)
theorem dX1_worthIt_112 : decode cX1_worthIt 112 = .ok (.ifCond .le 6, 3) := dk_158 0 6 (dk_at dksX1_worthIt_4 19 rfl rfl)
theorem dX1_worthIt_115 : decode cX1_worthIt 115 = .ok (.iload 10, 2) := dk_21 10 (dk_at dksX1_worthIt_4 22 rfl rfl)
theorem dX1_worthIt_117 : decode cX1_worthIt 117 = .ok (.ireturn, 1) := dk_172 (dk_at dksX1_worthIt_5 0 rfl rfl)
theorem dX1_worthIt_118 : decode cX1_worthIt 118 = .ok (.iinc 10 1, 3) := dk_132 10 1 (dk_at dksX1_worthIt_5 1 rfl rfl)
theorem dX1_worthIt_121 : decode cX1_worthIt 121 = .ok (.goto (-26), 3) := dk_167 255 230 (dk_at dksX1_worthIt_5 4 rfl rfl)
theorem dX1_worthIt_124 : decode cX1_worthIt 124 = .ok (.iconst (-1), 1) := dk_2 (dk_at dksX1_worthIt_5 7 rfl rfl)
theorem dX1_worthIt_125 : decode cX1_worthIt 125 = .ok (.ireturn, 1) := dk_172 (dk_at dksX1_worthIt_5 8 rfl rfl)
abbrev cX1_reign : ByteArray := prog_1_method_31_code
def yX1_reign : MethodName := ⟨RX1, "reign", "(II)Z"⟩
def dkwX1_reign_1 : List UInt8 := [27, 181, 0, 40, 42, 28, 181, 0, 44, 4, 172]
abbrev dktX1_reign_1 : List UInt8 := dkwX1_reign_1 ++ []
def dkwX1_reign_0 : List UInt8 := [42, 27, 182, 0, 235, 153, 0, 16, 42, 28, 182, 0, 235, 153, 0, 8, 27, 28, 160, 0, 5, 3, 172, 42]
abbrev dktX1_reign_0 : List UInt8 := dkwX1_reign_0 ++ dktX1_reign_1
theorem dksX1_reign_0 : cX1_reign.data.toList.drop 0 = dktX1_reign_0 := by decide +kernel
theorem dksX1_reign_1 : cX1_reign.data.toList.drop 24 = dktX1_reign_1 := dk_seg dksX1_reign_0 24 rfl rfl
theorem dX1_reign_0 : decode cX1_reign 0 = .ok (.aload_n 0, 1) := dk_42 (dk_at dksX1_reign_0 0 rfl rfl)
theorem dX1_reign_1 : decode cX1_reign 1 = .ok (.iload_n 1, 1) := dk_27 (dk_at dksX1_reign_0 1 rfl rfl)
theorem dX1_reign_2 : decode cX1_reign 2 = .ok (.invokevirtual 235, 3) := dk_182 0 235 (dk_at dksX1_reign_0 2 rfl rfl)
theorem dX1_reign_5 : decode cX1_reign 5 = .ok (.ifCond .eq 16, 3) := dk_153 0 16 (dk_at dksX1_reign_0 5 rfl rfl)
theorem dX1_reign_8 : decode cX1_reign 8 = .ok (.aload_n 0, 1) := dk_42 (dk_at dksX1_reign_0 8 rfl rfl)
theorem dX1_reign_9 : decode cX1_reign 9 = .ok (.iload_n 2, 1) := dk_28 (dk_at dksX1_reign_0 9 rfl rfl)
theorem dX1_reign_10 : decode cX1_reign 10 = .ok (.invokevirtual 235, 3) := dk_182 0 235 (dk_at dksX1_reign_0 10 rfl rfl)
theorem dX1_reign_13 : decode cX1_reign 13 = .ok (.ifCond .eq 8, 3) := dk_153 0 8 (dk_at dksX1_reign_0 13 rfl rfl)
theorem dX1_reign_16 : decode cX1_reign 16 = .ok (.iload_n 1, 1) := dk_27 (dk_at dksX1_reign_0 16 rfl rfl)
theorem dX1_reign_17 : decode cX1_reign 17 = .ok (.iload_n 2, 1) := dk_28 (dk_at dksX1_reign_0 17 rfl rfl)
theorem dX1_reign_18 : decode cX1_reign 18 = .ok (.if_icmp .ne 5, 3) := dk_160 0 5 (dk_at dksX1_reign_0 18 rfl rfl)
theorem dX1_reign_21 : decode cX1_reign 21 = .ok (.iconst 0, 1) := dk_3 (dk_at dksX1_reign_0 21 rfl rfl)
theorem dX1_reign_22 : decode cX1_reign 22 = .ok (.ireturn, 1) := dk_172 (dk_at dksX1_reign_0 22 rfl rfl)
theorem dX1_reign_23 : decode cX1_reign 23 = .ok (.aload_n 0, 1) := dk_42 (dk_at dksX1_reign_0 23 rfl rfl)
theorem dX1_reign_24 : decode cX1_reign 24 = .ok (.iload_n 1, 1) := dk_27 (dk_at dksX1_reign_1 0 rfl rfl)
theorem dX1_reign_25 : decode cX1_reign 25 = .ok (.putfield 40, 3) := dk_181 0 40 (dk_at dksX1_reign_1 1 rfl rfl)
theorem dX1_reign_28 : decode cX1_reign 28 = .ok (.aload_n 0, 1) := dk_42 (dk_at dksX1_reign_1 4 rfl rfl)
theorem dX1_reign_29 : decode cX1_reign 29 = .ok (.iload_n 2, 1) := dk_28 (dk_at dksX1_reign_1 5 rfl rfl)
theorem dX1_reign_30 : decode cX1_reign 30 = .ok (.putfield 44, 3) := dk_181 0 44 (dk_at dksX1_reign_1 6 rfl rfl)
theorem dX1_reign_33 : decode cX1_reign 33 = .ok (.iconst 1, 1) := dk_4 (dk_at dksX1_reign_1 9 rfl rfl)
theorem dX1_reign_34 : decode cX1_reign 34 = .ok (.ireturn, 1) := dk_172 (dk_at dksX1_reign_1 10 rfl rfl)
abbrev cX1_set : ByteArray := prog_1_method_34_code
def yX1_set : MethodName := ⟨RX1, "set", "(II)Z"⟩
def dkwX1_set_1 : List UInt8 := [154, 0, 5, 3, 172, 42, 180, 0, 47, 27, 28, 79, 4, 172]
abbrev dktX1_set_1 : List UInt8 := dkwX1_set_1 ++ []
def dkwX1_set_0 : List UInt8 := [27, 3, 16, 8, 184, 0, 228, 153, 0, 18, 28, 27, 184, 0, 251, 27, 184, 0, 254, 184, 0, 228]
abbrev dktX1_set_0 : List UInt8 := dkwX1_set_0 ++ dktX1_set_1
theorem dksX1_set_0 : cX1_set.data.toList.drop 0 = dktX1_set_0 := by decide +kernel
theorem dksX1_set_1 : cX1_set.data.toList.drop 22 = dktX1_set_1 := dk_seg dksX1_set_0 22 rfl rfl
theorem dX1_set_0 : decode cX1_set 0 = .ok (.iload_n 1, 1) := dk_27 (dk_at dksX1_set_0 0 rfl rfl)
theorem dX1_set_1 : decode cX1_set 1 = .ok (.iconst 0, 1) := dk_3 (dk_at dksX1_set_0 1 rfl rfl)
theorem dX1_set_2 : decode cX1_set 2 = .ok (.bipush 8, 2) := dk_16 8 (dk_at dksX1_set_0 2 rfl rfl)
theorem dX1_set_4 : decode cX1_set 4 = .ok (.invokestatic 228, 3) := dk_184 0 228 (dk_at dksX1_set_0 4 rfl rfl)
theorem dX1_set_7 : decode cX1_set 7 = .ok (.ifCond .eq 18, 3) := dk_153 0 18 (dk_at dksX1_set_0 7 rfl rfl)
theorem dX1_set_10 : decode cX1_set 10 = .ok (.iload_n 2, 1) := dk_28 (dk_at dksX1_set_0 10 rfl rfl)
theorem dX1_set_11 : decode cX1_set 11 = .ok (.iload_n 1, 1) := dk_27 (dk_at dksX1_set_0 11 rfl rfl)
theorem dX1_set_12 : decode cX1_set 12 = .ok (.invokestatic 251, 3) := dk_184 0 251 (dk_at dksX1_set_0 12 rfl rfl)
theorem dX1_set_15 : decode cX1_set 15 = .ok (.iload_n 1, 1) := dk_27 (dk_at dksX1_set_0 15 rfl rfl)
theorem dX1_set_16 : decode cX1_set 16 = .ok (.invokestatic 254, 3) := dk_184 0 254 (dk_at dksX1_set_0 16 rfl rfl)
theorem dX1_set_19 : decode cX1_set 19 = .ok (.invokestatic 228, 3) := dk_184 0 228 (dk_at dksX1_set_0 19 rfl rfl)
theorem dX1_set_22 : decode cX1_set 22 = .ok (.ifCond .ne 5, 3) := dk_154 0 5 (dk_at dksX1_set_1 0 rfl rfl)
theorem dX1_set_25 : decode cX1_set 25 = .ok (.iconst 0, 1) := dk_3 (dk_at dksX1_set_1 3 rfl rfl)
theorem dX1_set_26 : decode cX1_set 26 = .ok (.ireturn, 1) := dk_172 (dk_at dksX1_set_1 4 rfl rfl)
theorem dX1_set_27 : decode cX1_set 27 = .ok (.aload_n 0, 1) := dk_42 (dk_at dksX1_set_1 5 rfl rfl)
theorem dX1_set_28 : decode cX1_set 28 = .ok (.getfield 47, 3) := dk_180 0 47 (dk_at dksX1_set_1 6 rfl rfl)
theorem dX1_set_31 : decode cX1_set 31 = .ok (.iload_n 1, 1) := dk_27 (dk_at dksX1_set_1 9 rfl rfl)
theorem dX1_set_32 : decode cX1_set 32 = .ok (.iload_n 2, 1) := dk_28 (dk_at dksX1_set_1 10 rfl rfl)
theorem dX1_set_33 : decode cX1_set 33 = .ok (.iastore, 1) := dk_79 (dk_at dksX1_set_1 11 rfl rfl)
theorem dX1_set_34 : decode cX1_set 34 = .ok (.iconst 1, 1) := dk_4 (dk_at dksX1_set_1 12 rfl rfl)
theorem dX1_set_35 : decode cX1_set 35 = .ok (.ireturn, 1) := dk_172 (dk_at dksX1_set_1 13 rfl rfl)
abbrev cX1_least : ByteArray := prog_1_method_32_code
def yX1_least : MethodName := ⟨RX1, "least", "(I)I"⟩
def dkwX1_least_0 : List UInt8 := [26, 7, 160, 0, 7, 4, 167, 0, 14, 26, 16, 8, 160, 0, 7, 2, 167, 0, 4, 3, 172]
abbrev dktX1_least_0 : List UInt8 := dkwX1_least_0 ++ []
theorem dksX1_least_0 : cX1_least.data.toList.drop 0 = dktX1_least_0 := by decide +kernel
theorem dX1_least_0 : decode cX1_least 0 = .ok (.iload_n 0, 1) := dk_26 (dk_at dksX1_least_0 0 rfl rfl)
theorem dX1_least_1 : decode cX1_least 1 = .ok (.iconst 4, 1) := dk_7 (dk_at dksX1_least_0 1 rfl rfl)
theorem dX1_least_2 : decode cX1_least 2 = .ok (.if_icmp .ne 7, 3) := dk_160 0 7 (dk_at dksX1_least_0 2 rfl rfl)
theorem dX1_least_5 : decode cX1_least 5 = .ok (.iconst 1, 1) := dk_4 (dk_at dksX1_least_0 5 rfl rfl)
theorem dX1_least_6 : decode cX1_least 6 = .ok (.goto 14, 3) := dk_167 0 14 (dk_at dksX1_least_0 6 rfl rfl)
theorem dX1_least_9 : decode cX1_least 9 = .ok (.iload_n 0, 1) := dk_26 (dk_at dksX1_least_0 9 rfl rfl)
theorem dX1_least_10 : decode cX1_least 10 = .ok (.bipush 8, 2) := dk_16 8 (dk_at dksX1_least_0 10 rfl rfl)
theorem dX1_least_12 : decode cX1_least 12 = .ok (.if_icmp .ne 7, 3) := dk_160 0 7 (dk_at dksX1_least_0 12 rfl rfl)
theorem dX1_least_15 : decode cX1_least 15 = .ok (.iconst (-1), 1) := dk_2 (dk_at dksX1_least_0 15 rfl rfl)
theorem dX1_least_16 : decode cX1_least 16 = .ok (.goto 4, 3) := dk_167 0 4 (dk_at dksX1_least_0 16 rfl rfl)
theorem dX1_least_19 : decode cX1_least 19 = .ok (.iconst 0, 1) := dk_3 (dk_at dksX1_least_0 19 rfl rfl)
theorem dX1_least_20 : decode cX1_least 20 = .ok (.ireturn, 1) := dk_172 (dk_at dksX1_least_0 20 rfl rfl)
abbrev cX1_most : ByteArray := prog_1_method_33_code
def yX1_most : MethodName := ⟨RX1, "most", "(I)I"⟩
def dkwX1_most_2 : List UInt8 := [17, 39, 15, 172, 17, 3, 231, 172, 16, 12, 172, 16, 9, 172, 16, 99, 172, 16, 23, 172, 16, 100, 172]
abbrev dktX1_most_2 : List UInt8 := dkwX1_most_2 ++ []
def dkwX1_most_1 : List UInt8 := [170, 0, 0, 0, 0, 0, 71, 0, 0, 0, 0, 0, 0, 0, 8, 0, 0, 0, 51, 0, 0, 0, 71, 0, 0, 0, 55, 0, 0, 0, 71, 0, 0, 0, 59, 0, 0, 0, 62, 0, 0, 0, 65, 0, 0, 0, 71, 0, 0, 0, 68]
abbrev dktX1_most_1 : List UInt8 := dkwX1_most_1 ++ dktX1_most_2
def dkwX1_most_0 : List UInt8 := [26]
abbrev dktX1_most_0 : List UInt8 := dkwX1_most_0 ++ dktX1_most_1
theorem dksX1_most_0 : cX1_most.data.toList.drop 0 = dktX1_most_0 := by decide +kernel
theorem dksX1_most_1 : cX1_most.data.toList.drop 1 = dktX1_most_1 := dk_seg dksX1_most_0 1 rfl rfl
theorem dksX1_most_2 : cX1_most.data.toList.drop 52 = dktX1_most_2 := dk_seg dksX1_most_1 51 rfl rfl
theorem dX1_most_0 : decode cX1_most 0 = .ok (.iload_n 0, 1) := dk_26 (dk_at dksX1_most_0 0 rfl rfl)
theorem dX1_most_1 : decode cX1_most 1 = .ok (.tableswitch 71 0 8 #[51, 71, 55, 71, 59, 62, 65, 71, 68], 51) := by decide +kernel
theorem dX1_most_52 : decode cX1_most 52 = .ok (.sipush 9999, 3) := dk_17 39 15 (dk_at dksX1_most_2 0 rfl rfl)
theorem dX1_most_55 : decode cX1_most 55 = .ok (.ireturn, 1) := dk_172 (dk_at dksX1_most_2 3 rfl rfl)
theorem dX1_most_56 : decode cX1_most 56 = .ok (.sipush 999, 3) := dk_17 3 231 (dk_at dksX1_most_2 4 rfl rfl)
theorem dX1_most_59 : decode cX1_most 59 = .ok (.ireturn, 1) := dk_172 (dk_at dksX1_most_2 7 rfl rfl)
theorem dX1_most_60 : decode cX1_most 60 = .ok (.bipush 12, 2) := dk_16 12 (dk_at dksX1_most_2 8 rfl rfl)
theorem dX1_most_62 : decode cX1_most 62 = .ok (.ireturn, 1) := dk_172 (dk_at dksX1_most_2 10 rfl rfl)
theorem dX1_most_63 : decode cX1_most 63 = .ok (.bipush 9, 2) := dk_16 9 (dk_at dksX1_most_2 11 rfl rfl)
theorem dX1_most_65 : decode cX1_most 65 = .ok (.ireturn, 1) := dk_172 (dk_at dksX1_most_2 13 rfl rfl)
theorem dX1_most_66 : decode cX1_most 66 = .ok (.bipush 99, 2) := dk_16 99 (dk_at dksX1_most_2 14 rfl rfl)
theorem dX1_most_68 : decode cX1_most 68 = .ok (.ireturn, 1) := dk_172 (dk_at dksX1_most_2 16 rfl rfl)
theorem dX1_most_69 : decode cX1_most 69 = .ok (.bipush 23, 2) := dk_16 23 (dk_at dksX1_most_2 17 rfl rfl)
theorem dX1_most_71 : decode cX1_most 71 = .ok (.ireturn, 1) := dk_172 (dk_at dksX1_most_2 19 rfl rfl)
theorem dX1_most_72 : decode cX1_most 72 = .ok (.bipush 100, 2) := dk_16 100 (dk_at dksX1_most_2 20 rfl rfl)
theorem dX1_most_74 : decode cX1_most 74 = .ok (.ireturn, 1) := dk_172 (dk_at dksX1_most_2 22 rfl rfl)
abbrev cX1_told : ByteArray := prog_1_method_35_code
def yX1_told : MethodName := ⟨RX1, "told", "(I)I"⟩
def dkwX1_told_0 : List UInt8 := [27, 3, 16, 8, 184, 0, 228, 153, 0, 12, 42, 180, 0, 47, 27, 46, 167, 0, 6, 17, 252, 24, 172]
abbrev dktX1_told_0 : List UInt8 := dkwX1_told_0 ++ []
theorem dksX1_told_0 : cX1_told.data.toList.drop 0 = dktX1_told_0 := by decide +kernel
theorem dX1_told_0 : decode cX1_told 0 = .ok (.iload_n 1, 1) := dk_27 (dk_at dksX1_told_0 0 rfl rfl)
theorem dX1_told_1 : decode cX1_told 1 = .ok (.iconst 0, 1) := dk_3 (dk_at dksX1_told_0 1 rfl rfl)
theorem dX1_told_2 : decode cX1_told 2 = .ok (.bipush 8, 2) := dk_16 8 (dk_at dksX1_told_0 2 rfl rfl)
theorem dX1_told_4 : decode cX1_told 4 = .ok (.invokestatic 228, 3) := dk_184 0 228 (dk_at dksX1_told_0 4 rfl rfl)
theorem dX1_told_7 : decode cX1_told 7 = .ok (.ifCond .eq 12, 3) := dk_153 0 12 (dk_at dksX1_told_0 7 rfl rfl)
theorem dX1_told_10 : decode cX1_told 10 = .ok (.aload_n 0, 1) := dk_42 (dk_at dksX1_told_0 10 rfl rfl)
theorem dX1_told_11 : decode cX1_told 11 = .ok (.getfield 47, 3) := dk_180 0 47 (dk_at dksX1_told_0 11 rfl rfl)
theorem dX1_told_14 : decode cX1_told 14 = .ok (.iload_n 1, 1) := dk_27 (dk_at dksX1_told_0 14 rfl rfl)
theorem dX1_told_15 : decode cX1_told 15 = .ok (.iaload, 1) := dk_46 (dk_at dksX1_told_0 15 rfl rfl)
theorem dX1_told_16 : decode cX1_told 16 = .ok (.goto 6, 3) := dk_167 0 6 (dk_at dksX1_told_0 16 rfl rfl)
theorem dX1_told_19 : decode cX1_told 19 = .ok (.sipush (-1000), 3) := dk_17 252 24 (dk_at dksX1_told_0 19 rfl rfl)
theorem dX1_told_22 : decode cX1_told 22 = .ok (.ireturn, 1) := dk_172 (dk_at dksX1_told_0 22 rfl rfl)
abbrev cX1_rain : ByteArray := prog_1_method_36_code
def yX1_rain : MethodName := ⟨RX1, "rain", "(III)Z"⟩
def dkwX1_rain_2 : List UInt8 := [79, 132, 4, 1, 167, 255, 239, 4, 172]
abbrev dktX1_rain_2 : List UInt8 := dkwX1_rain_2 ++ []
def dkwX1_rain_1 : List UInt8 := [184, 0, 228, 154, 0, 5, 3, 172, 27, 54, 4, 21, 4, 28, 163, 0, 17, 42, 180, 0, 50, 21, 4, 29]
abbrev dktX1_rain_1 : List UInt8 := dkwX1_rain_1 ++ dktX1_rain_2
def dkwX1_rain_0 : List UInt8 := [27, 3, 16, 23, 184, 0, 228, 153, 0, 23, 28, 27, 16, 23, 184, 0, 228, 153, 0, 13, 29, 3, 16, 99]
abbrev dktX1_rain_0 : List UInt8 := dkwX1_rain_0 ++ dktX1_rain_1
theorem dksX1_rain_0 : cX1_rain.data.toList.drop 0 = dktX1_rain_0 := by decide +kernel
theorem dksX1_rain_1 : cX1_rain.data.toList.drop 24 = dktX1_rain_1 := dk_seg dksX1_rain_0 24 rfl rfl
theorem dksX1_rain_2 : cX1_rain.data.toList.drop 48 = dktX1_rain_2 := dk_seg dksX1_rain_1 24 rfl rfl
theorem dX1_rain_0 : decode cX1_rain 0 = .ok (.iload_n 1, 1) := dk_27 (dk_at dksX1_rain_0 0 rfl rfl)
theorem dX1_rain_1 : decode cX1_rain 1 = .ok (.iconst 0, 1) := dk_3 (dk_at dksX1_rain_0 1 rfl rfl)
theorem dX1_rain_2 : decode cX1_rain 2 = .ok (.bipush 23, 2) := dk_16 23 (dk_at dksX1_rain_0 2 rfl rfl)
theorem dX1_rain_4 : decode cX1_rain 4 = .ok (.invokestatic 228, 3) := dk_184 0 228 (dk_at dksX1_rain_0 4 rfl rfl)
theorem dX1_rain_7 : decode cX1_rain 7 = .ok (.ifCond .eq 23, 3) := dk_153 0 23 (dk_at dksX1_rain_0 7 rfl rfl)
theorem dX1_rain_10 : decode cX1_rain 10 = .ok (.iload_n 2, 1) := dk_28 (dk_at dksX1_rain_0 10 rfl rfl)
theorem dX1_rain_11 : decode cX1_rain 11 = .ok (.iload_n 1, 1) := dk_27 (dk_at dksX1_rain_0 11 rfl rfl)
theorem dX1_rain_12 : decode cX1_rain 12 = .ok (.bipush 23, 2) := dk_16 23 (dk_at dksX1_rain_0 12 rfl rfl)
theorem dX1_rain_14 : decode cX1_rain 14 = .ok (.invokestatic 228, 3) := dk_184 0 228 (dk_at dksX1_rain_0 14 rfl rfl)
theorem dX1_rain_17 : decode cX1_rain 17 = .ok (.ifCond .eq 13, 3) := dk_153 0 13 (dk_at dksX1_rain_0 17 rfl rfl)
theorem dX1_rain_20 : decode cX1_rain 20 = .ok (.iload_n 3, 1) := dk_29 (dk_at dksX1_rain_0 20 rfl rfl)
theorem dX1_rain_21 : decode cX1_rain 21 = .ok (.iconst 0, 1) := dk_3 (dk_at dksX1_rain_0 21 rfl rfl)
theorem dX1_rain_22 : decode cX1_rain 22 = .ok (.bipush 99, 2) := dk_16 99 (dk_at dksX1_rain_0 22 rfl rfl)
theorem dX1_rain_24 : decode cX1_rain 24 = .ok (.invokestatic 228, 3) := dk_184 0 228 (dk_at dksX1_rain_1 0 rfl rfl)
theorem dX1_rain_27 : decode cX1_rain 27 = .ok (.ifCond .ne 5, 3) := dk_154 0 5 (dk_at dksX1_rain_1 3 rfl rfl)
theorem dX1_rain_30 : decode cX1_rain 30 = .ok (.iconst 0, 1) := dk_3 (dk_at dksX1_rain_1 6 rfl rfl)
theorem dX1_rain_31 : decode cX1_rain 31 = .ok (.ireturn, 1) := dk_172 (dk_at dksX1_rain_1 7 rfl rfl)
theorem dX1_rain_32 : decode cX1_rain 32 = .ok (.iload_n 1, 1) := dk_27 (dk_at dksX1_rain_1 8 rfl rfl)
theorem dX1_rain_33 : decode cX1_rain 33 = .ok (.istore 4, 2) := dk_54 4 (dk_at dksX1_rain_1 9 rfl rfl)
theorem dX1_rain_35 : decode cX1_rain 35 = .ok (.iload 4, 2) := dk_21 4 (dk_at dksX1_rain_1 11 rfl rfl)
theorem dX1_rain_37 : decode cX1_rain 37 = .ok (.iload_n 2, 1) := dk_28 (dk_at dksX1_rain_1 13 rfl rfl)
theorem dX1_rain_38 : decode cX1_rain 38 = .ok (.if_icmp .gt 17, 3) := dk_163 0 17 (dk_at dksX1_rain_1 14 rfl rfl)
theorem dX1_rain_41 : decode cX1_rain 41 = .ok (.aload_n 0, 1) := dk_42 (dk_at dksX1_rain_1 17 rfl rfl)
theorem dX1_rain_42 : decode cX1_rain 42 = .ok (.getfield 50, 3) := dk_180 0 50 (dk_at dksX1_rain_1 18 rfl rfl)
theorem dX1_rain_45 : decode cX1_rain 45 = .ok (.iload 4, 2) := dk_21 4 (dk_at dksX1_rain_1 21 rfl rfl)
theorem dX1_rain_47 : decode cX1_rain 47 = .ok (.iload_n 3, 1) := dk_29 (dk_at dksX1_rain_1 23 rfl rfl)
theorem dX1_rain_48 : decode cX1_rain 48 = .ok (.iastore, 1) := dk_79 (dk_at dksX1_rain_2 0 rfl rfl)
theorem dX1_rain_49 : decode cX1_rain 49 = .ok (.iinc 4 1, 3) := dk_132 4 1 (dk_at dksX1_rain_2 1 rfl rfl)
theorem dX1_rain_52 : decode cX1_rain 52 = .ok (.goto (-17), 3) := dk_167 255 239 (dk_at dksX1_rain_2 4 rfl rfl)
theorem dX1_rain_55 : decode cX1_rain 55 = .ok (.iconst 1, 1) := dk_4 (dk_at dksX1_rain_2 7 rfl rfl)
theorem dX1_rain_56 : decode cX1_rain 56 = .ok (.ireturn, 1) := dk_172 (dk_at dksX1_rain_2 8 rfl rfl)
abbrev cX1_run : ByteArray := prog_1_method_39_code
def yX1_run : MethodName := ⟨RX1, "run", "(IJIII)I"⟩
def dkwX1_run_5 : List UInt8 := [46, 167, 0, 13, 42, 180, 0, 58, 180, 1, 34, 21, 5, 46, 172]
abbrev dktX1_run_5 : List UInt8 := dkwX1_run_5 ++ []
def dkwX1_run_4 : List UInt8 := [180, 1, 28, 21, 5, 46, 167, 0, 32, 21, 6, 5, 160, 0, 16, 42, 180, 0, 58, 180, 1, 31, 21, 5]
abbrev dktX1_run_4 : List UInt8 := dkwX1_run_4 ++ dktX1_run_5
def dkwX1_run_3 : List UInt8 := [180, 0, 58, 180, 1, 25, 21, 5, 46, 167, 0, 51, 21, 6, 4, 160, 0, 16, 42, 180, 0, 58]
abbrev dktX1_run_3 : List UInt8 := dkwX1_run_3 ++ dktX1_run_4
def dkwX1_run_2 : List UInt8 := [180, 0, 58, 180, 1, 22, 4, 100, 184, 0, 228, 154, 0, 7, 17, 252, 24, 172, 21, 6, 154, 0, 16, 42]
abbrev dktX1_run_2 : List UInt8 := dkwX1_run_2 ++ dktX1_run_3
def dkwX1_run_1 : List UInt8 := [184, 0, 228, 154, 0, 7, 17, 252, 24, 172, 42, 27, 32, 21, 4, 3, 182, 1, 19, 21, 5, 3, 42]
abbrev dktX1_run_1 : List UInt8 := dkwX1_run_1 ++ dktX1_run_2
def dkwX1_run_0 : List UInt8 := [42, 27, 182, 1, 8, 153, 0, 24, 21, 4, 3, 16, 24, 184, 0, 228, 153, 0, 13, 21, 6, 3, 6]
abbrev dktX1_run_0 : List UInt8 := dkwX1_run_0 ++ dktX1_run_1
theorem dksX1_run_0 : cX1_run.data.toList.drop 0 = dktX1_run_0 := by decide +kernel
theorem dksX1_run_1 : cX1_run.data.toList.drop 23 = dktX1_run_1 := dk_seg dksX1_run_0 23 rfl rfl
theorem dksX1_run_2 : cX1_run.data.toList.drop 46 = dktX1_run_2 := dk_seg dksX1_run_1 23 rfl rfl
theorem dksX1_run_3 : cX1_run.data.toList.drop 70 = dktX1_run_3 := dk_seg dksX1_run_2 24 rfl rfl
theorem dksX1_run_4 : cX1_run.data.toList.drop 92 = dktX1_run_4 := dk_seg dksX1_run_3 22 rfl rfl
theorem dksX1_run_5 : cX1_run.data.toList.drop 116 = dktX1_run_5 := dk_seg dksX1_run_4 24 rfl rfl
theorem dX1_run_0 : decode cX1_run 0 = .ok (.aload_n 0, 1) := dk_42 (dk_at dksX1_run_0 0 rfl rfl)
theorem dX1_run_1 : decode cX1_run 1 = .ok (.iload_n 1, 1) := dk_27 (dk_at dksX1_run_0 1 rfl rfl)
theorem dX1_run_2 : decode cX1_run 2 = .ok (.invokevirtual 264, 3) := dk_182 1 8 (dk_at dksX1_run_0 2 rfl rfl)
theorem dX1_run_5 : decode cX1_run 5 = .ok (.ifCond .eq 24, 3) := dk_153 0 24 (dk_at dksX1_run_0 5 rfl rfl)
theorem dX1_run_8 : decode cX1_run 8 = .ok (.iload 4, 2) := dk_21 4 (dk_at dksX1_run_0 8 rfl rfl)
theorem dX1_run_10 : decode cX1_run 10 = .ok (.iconst 0, 1) := dk_3 (dk_at dksX1_run_0 10 rfl rfl)
theorem dX1_run_11 : decode cX1_run 11 = .ok (.bipush 24, 2) := dk_16 24 (dk_at dksX1_run_0 11 rfl rfl)
theorem dX1_run_13 : decode cX1_run 13 = .ok (.invokestatic 228, 3) := dk_184 0 228 (dk_at dksX1_run_0 13 rfl rfl)
theorem dX1_run_16 : decode cX1_run 16 = .ok (.ifCond .eq 13, 3) := dk_153 0 13 (dk_at dksX1_run_0 16 rfl rfl)
theorem dX1_run_19 : decode cX1_run 19 = .ok (.iload 6, 2) := dk_21 6 (dk_at dksX1_run_0 19 rfl rfl)
theorem dX1_run_21 : decode cX1_run 21 = .ok (.iconst 0, 1) := dk_3 (dk_at dksX1_run_0 21 rfl rfl)
theorem dX1_run_22 : decode cX1_run 22 = .ok (.iconst 3, 1) := dk_6 (dk_at dksX1_run_0 22 rfl rfl)
theorem dX1_run_23 : decode cX1_run 23 = .ok (.invokestatic 228, 3) := dk_184 0 228 (dk_at dksX1_run_1 0 rfl rfl)
theorem dX1_run_26 : decode cX1_run 26 = .ok (.ifCond .ne 7, 3) := dk_154 0 7 (dk_at dksX1_run_1 3 rfl rfl)
theorem dX1_run_29 : decode cX1_run 29 = .ok (.sipush (-1000), 3) := dk_17 252 24 (dk_at dksX1_run_1 6 rfl rfl)
theorem dX1_run_32 : decode cX1_run 32 = .ok (.ireturn, 1) := dk_172 (dk_at dksX1_run_1 9 rfl rfl)
theorem dX1_run_33 : decode cX1_run 33 = .ok (.aload_n 0, 1) := dk_42 (dk_at dksX1_run_1 10 rfl rfl)
theorem dX1_run_34 : decode cX1_run 34 = .ok (.iload_n 1, 1) := dk_27 (dk_at dksX1_run_1 11 rfl rfl)
theorem dX1_run_35 : decode cX1_run 35 = .ok (.lload_n 2, 1) := dk_32 (dk_at dksX1_run_1 12 rfl rfl)
theorem dX1_run_36 : decode cX1_run 36 = .ok (.iload 4, 2) := dk_21 4 (dk_at dksX1_run_1 13 rfl rfl)
theorem dX1_run_38 : decode cX1_run 38 = .ok (.iconst 0, 1) := dk_3 (dk_at dksX1_run_1 15 rfl rfl)
theorem dX1_run_39 : decode cX1_run 39 = .ok (.invokevirtual 275, 3) := dk_182 1 19 (dk_at dksX1_run_1 16 rfl rfl)
theorem dX1_run_42 : decode cX1_run 42 = .ok (.iload 5, 2) := dk_21 5 (dk_at dksX1_run_1 19 rfl rfl)
theorem dX1_run_44 : decode cX1_run 44 = .ok (.iconst 0, 1) := dk_3 (dk_at dksX1_run_1 21 rfl rfl)
theorem dX1_run_45 : decode cX1_run 45 = .ok (.aload_n 0, 1) := dk_42 (dk_at dksX1_run_1 22 rfl rfl)
theorem dX1_run_46 : decode cX1_run 46 = .ok (.getfield 58, 3) := dk_180 0 58 (dk_at dksX1_run_2 0 rfl rfl)
theorem dX1_run_49 : decode cX1_run 49 = .ok (.getfield 278, 3) := dk_180 1 22 (dk_at dksX1_run_2 3 rfl rfl)
theorem dX1_run_52 : decode cX1_run 52 = .ok (.iconst 1, 1) := dk_4 (dk_at dksX1_run_2 6 rfl rfl)
theorem dX1_run_53 : decode cX1_run 53 = .ok (.isub, 1) := dk_100 (dk_at dksX1_run_2 7 rfl rfl)
theorem dX1_run_54 : decode cX1_run 54 = .ok (.invokestatic 228, 3) := dk_184 0 228 (dk_at dksX1_run_2 8 rfl rfl)
theorem dX1_run_57 : decode cX1_run 57 = .ok (.ifCond .ne 7, 3) := dk_154 0 7 (dk_at dksX1_run_2 11 rfl rfl)
theorem dX1_run_60 : decode cX1_run 60 = .ok (.sipush (-1000), 3) := dk_17 252 24 (dk_at dksX1_run_2 14 rfl rfl)
theorem dX1_run_63 : decode cX1_run 63 = .ok (.ireturn, 1) := dk_172 (dk_at dksX1_run_2 17 rfl rfl)
theorem dX1_run_64 : decode cX1_run 64 = .ok (.iload 6, 2) := dk_21 6 (dk_at dksX1_run_2 18 rfl rfl)
theorem dX1_run_66 : decode cX1_run 66 = .ok (.ifCond .ne 16, 3) := dk_154 0 16 (dk_at dksX1_run_2 20 rfl rfl)
theorem dX1_run_69 : decode cX1_run 69 = .ok (.aload_n 0, 1) := dk_42 (dk_at dksX1_run_2 23 rfl rfl)
theorem dX1_run_70 : decode cX1_run 70 = .ok (.getfield 58, 3) := dk_180 0 58 (dk_at dksX1_run_3 0 rfl rfl)
theorem dX1_run_73 : decode cX1_run 73 = .ok (.getfield 281, 3) := dk_180 1 25 (dk_at dksX1_run_3 3 rfl rfl)
theorem dX1_run_76 : decode cX1_run 76 = .ok (.iload 5, 2) := dk_21 5 (dk_at dksX1_run_3 6 rfl rfl)
theorem dX1_run_78 : decode cX1_run 78 = .ok (.iaload, 1) := dk_46 (dk_at dksX1_run_3 8 rfl rfl)
theorem dX1_run_79 : decode cX1_run 79 = .ok (.goto 51, 3) := dk_167 0 51 (dk_at dksX1_run_3 9 rfl rfl)
theorem dX1_run_82 : decode cX1_run 82 = .ok (.iload 6, 2) := dk_21 6 (dk_at dksX1_run_3 12 rfl rfl)
theorem dX1_run_84 : decode cX1_run 84 = .ok (.iconst 1, 1) := dk_4 (dk_at dksX1_run_3 14 rfl rfl)
theorem dX1_run_85 : decode cX1_run 85 = .ok (.if_icmp .ne 16, 3) := dk_160 0 16 (dk_at dksX1_run_3 15 rfl rfl)
theorem dX1_run_88 : decode cX1_run 88 = .ok (.aload_n 0, 1) := dk_42 (dk_at dksX1_run_3 18 rfl rfl)
theorem dX1_run_89 : decode cX1_run 89 = .ok (.getfield 58, 3) := dk_180 0 58 (dk_at dksX1_run_3 19 rfl rfl)
theorem dX1_run_92 : decode cX1_run 92 = .ok (.getfield 284, 3) := dk_180 1 28 (dk_at dksX1_run_4 0 rfl rfl)
theorem dX1_run_95 : decode cX1_run 95 = .ok (.iload 5, 2) := dk_21 5 (dk_at dksX1_run_4 3 rfl rfl)
theorem dX1_run_97 : decode cX1_run 97 = .ok (.iaload, 1) := dk_46 (dk_at dksX1_run_4 5 rfl rfl)
theorem dX1_run_98 : decode cX1_run 98 = .ok (.goto 32, 3) := dk_167 0 32 (dk_at dksX1_run_4 6 rfl rfl)
theorem dX1_run_101 : decode cX1_run 101 = .ok (.iload 6, 2) := dk_21 6 (dk_at dksX1_run_4 9 rfl rfl)
theorem dX1_run_103 : decode cX1_run 103 = .ok (.iconst 2, 1) := dk_5 (dk_at dksX1_run_4 11 rfl rfl)
theorem dX1_run_104 : decode cX1_run 104 = .ok (.if_icmp .ne 16, 3) := dk_160 0 16 (dk_at dksX1_run_4 12 rfl rfl)
theorem dX1_run_107 : decode cX1_run 107 = .ok (.aload_n 0, 1) := dk_42 (dk_at dksX1_run_4 15 rfl rfl)
theorem dX1_run_108 : decode cX1_run 108 = .ok (.getfield 58, 3) := dk_180 0 58 (dk_at dksX1_run_4 16 rfl rfl)
theorem dX1_run_111 : decode cX1_run 111 = .ok (.getfield 287, 3) := dk_180 1 31 (dk_at dksX1_run_4 19 rfl rfl)
theorem dX1_run_114 : decode cX1_run 114 = .ok (.iload 5, 2) := dk_21 5 (dk_at dksX1_run_4 22 rfl rfl)
theorem dX1_run_116 : decode cX1_run 116 = .ok (.iaload, 1) := dk_46 (dk_at dksX1_run_5 0 rfl rfl)
theorem dX1_run_117 : decode cX1_run 117 = .ok (.goto 13, 3) := dk_167 0 13 (dk_at dksX1_run_5 1 rfl rfl)
theorem dX1_run_120 : decode cX1_run 120 = .ok (.aload_n 0, 1) := dk_42 (dk_at dksX1_run_5 4 rfl rfl)
theorem dX1_run_121 : decode cX1_run 121 = .ok (.getfield 58, 3) := dk_180 0 58 (dk_at dksX1_run_5 5 rfl rfl)
theorem dX1_run_124 : decode cX1_run 124 = .ok (.getfield 290, 3) := dk_180 1 34 (dk_at dksX1_run_5 8 rfl rfl)
theorem dX1_run_127 : decode cX1_run 127 = .ok (.iload 5, 2) := dk_21 5 (dk_at dksX1_run_5 11 rfl rfl)
theorem dX1_run_129 : decode cX1_run 129 = .ok (.iaload, 1) := dk_46 (dk_at dksX1_run_5 13 rfl rfl)
theorem dX1_run_130 : decode cX1_run 130 = .ok (.ireturn, 1) := dk_172 (dk_at dksX1_run_5 14 rfl rfl)
abbrev cX1_isLaw : ByteArray := prog_1_method_25_code
def yX1_isLaw : MethodName := ⟨RX1, "isLaw", "(I)Z"⟩
def dkwX1_isLaw_0 : List UInt8 := [27, 3, 42, 180, 0, 225, 4, 100, 184, 0, 228, 172]
abbrev dktX1_isLaw_0 : List UInt8 := dkwX1_isLaw_0 ++ []
theorem dksX1_isLaw_0 : cX1_isLaw.data.toList.drop 0 = dktX1_isLaw_0 := by decide +kernel
theorem dX1_isLaw_0 : decode cX1_isLaw 0 = .ok (.iload_n 1, 1) := dk_27 (dk_at dksX1_isLaw_0 0 rfl rfl)
theorem dX1_isLaw_1 : decode cX1_isLaw 1 = .ok (.iconst 0, 1) := dk_3 (dk_at dksX1_isLaw_0 1 rfl rfl)
theorem dX1_isLaw_2 : decode cX1_isLaw 2 = .ok (.aload_n 0, 1) := dk_42 (dk_at dksX1_isLaw_0 2 rfl rfl)
theorem dX1_isLaw_3 : decode cX1_isLaw 3 = .ok (.getfield 225, 3) := dk_180 0 225 (dk_at dksX1_isLaw_0 3 rfl rfl)
theorem dX1_isLaw_6 : decode cX1_isLaw 6 = .ok (.iconst 1, 1) := dk_4 (dk_at dksX1_isLaw_0 6 rfl rfl)
theorem dX1_isLaw_7 : decode cX1_isLaw 7 = .ok (.isub, 1) := dk_100 (dk_at dksX1_isLaw_0 7 rfl rfl)
theorem dX1_isLaw_8 : decode cX1_isLaw 8 = .ok (.invokestatic 228, 3) := dk_184 0 228 (dk_at dksX1_isLaw_0 8 rfl rfl)
theorem dX1_isLaw_11 : decode cX1_isLaw 11 = .ok (.ireturn, 1) := dk_172 (dk_at dksX1_isLaw_0 11 rfl rfl)
abbrev cX1_go : ByteArray := prog_1_method_37_code
def yX1_go : MethodName := ⟨RX1, "go", "(IJII)V"⟩
def dkwX1_go_1 : List UInt8 := [21, 4, 182, 1, 5, 177]
abbrev dktX1_go_1 : List UInt8 := dkwX1_go_1 ++ []
def dkwX1_go_0 : List UInt8 := [42, 180, 0, 58, 42, 180, 0, 26, 27, 50, 32, 42, 180, 0, 232, 21, 5, 182, 1, 1, 42, 180, 0, 58]
abbrev dktX1_go_0 : List UInt8 := dkwX1_go_0 ++ dktX1_go_1
theorem dksX1_go_0 : cX1_go.data.toList.drop 0 = dktX1_go_0 := by decide +kernel
theorem dksX1_go_1 : cX1_go.data.toList.drop 24 = dktX1_go_1 := dk_seg dksX1_go_0 24 rfl rfl
theorem dX1_go_0 : decode cX1_go 0 = .ok (.aload_n 0, 1) := dk_42 (dk_at dksX1_go_0 0 rfl rfl)
theorem dX1_go_1 : decode cX1_go 1 = .ok (.getfield 58, 3) := dk_180 0 58 (dk_at dksX1_go_0 1 rfl rfl)
theorem dX1_go_4 : decode cX1_go 4 = .ok (.aload_n 0, 1) := dk_42 (dk_at dksX1_go_0 4 rfl rfl)
theorem dX1_go_5 : decode cX1_go 5 = .ok (.getfield 26, 3) := dk_180 0 26 (dk_at dksX1_go_0 5 rfl rfl)
theorem dX1_go_8 : decode cX1_go 8 = .ok (.iload_n 1, 1) := dk_27 (dk_at dksX1_go_0 8 rfl rfl)
theorem dX1_go_9 : decode cX1_go 9 = .ok (.aaload, 1) := dk_50 (dk_at dksX1_go_0 9 rfl rfl)
theorem dX1_go_10 : decode cX1_go 10 = .ok (.lload_n 2, 1) := dk_32 (dk_at dksX1_go_0 10 rfl rfl)
theorem dX1_go_11 : decode cX1_go 11 = .ok (.aload_n 0, 1) := dk_42 (dk_at dksX1_go_0 11 rfl rfl)
theorem dX1_go_12 : decode cX1_go 12 = .ok (.getfield 232, 3) := dk_180 0 232 (dk_at dksX1_go_0 12 rfl rfl)
theorem dX1_go_15 : decode cX1_go 15 = .ok (.iload 5, 2) := dk_21 5 (dk_at dksX1_go_0 15 rfl rfl)
theorem dX1_go_17 : decode cX1_go 17 = .ok (.invokevirtual 257, 3) := dk_182 1 1 (dk_at dksX1_go_0 17 rfl rfl)
theorem dX1_go_20 : decode cX1_go 20 = .ok (.aload_n 0, 1) := dk_42 (dk_at dksX1_go_0 20 rfl rfl)
theorem dX1_go_21 : decode cX1_go 21 = .ok (.getfield 58, 3) := dk_180 0 58 (dk_at dksX1_go_0 21 rfl rfl)
theorem dX1_go_24 : decode cX1_go 24 = .ok (.iload 4, 2) := dk_21 4 (dk_at dksX1_go_1 0 rfl rfl)
theorem dX1_go_26 : decode cX1_go 26 = .ok (.invokevirtual 261, 3) := dk_182 1 5 (dk_at dksX1_go_1 2 rfl rfl)
theorem dX1_go_29 : decode cX1_go 29 = .ok (.return_, 1) := dk_177 (dk_at dksX1_go_1 5 rfl rfl)
abbrev cX1_forget : ByteArray := prog_1_method_22_code
def yX1_forget : MethodName := ⟨RX1, "forget", "()V"⟩
def dkwX1_forget_1 : List UInt8 := [132, 1, 1, 167, 255, 232, 177]
abbrev dktX1_forget_1 : List UInt8 := dkwX1_forget_1 ++ []
def dkwX1_forget_0 : List UInt8 := [3, 60, 27, 18, 112, 182, 0, 196, 162, 0, 21, 42, 180, 0, 20, 18, 112, 27, 182, 0, 199, 3, 79]
abbrev dktX1_forget_0 : List UInt8 := dkwX1_forget_0 ++ dktX1_forget_1
theorem dksX1_forget_0 : cX1_forget.data.toList.drop 0 = dktX1_forget_0 := by decide +kernel
theorem dksX1_forget_1 : cX1_forget.data.toList.drop 23 = dktX1_forget_1 := dk_seg dksX1_forget_0 23 rfl rfl
theorem dX1_forget_0 : decode cX1_forget 0 = .ok (.iconst 0, 1) := dk_3 (dk_at dksX1_forget_0 0 rfl rfl)
theorem dX1_forget_1 : decode cX1_forget 1 = .ok (.istore_n 1, 1) := dk_60 (dk_at dksX1_forget_0 1 rfl rfl)
theorem dX1_forget_2 : decode cX1_forget 2 = .ok (.iload_n 1, 1) := dk_27 (dk_at dksX1_forget_0 2 rfl rfl)
theorem dX1_forget_3 : decode cX1_forget 3 = .ok (.ldc 112, 2) := dk_18 112 (dk_at dksX1_forget_0 3 rfl rfl)
theorem dX1_forget_5 : decode cX1_forget 5 = .ok (.invokevirtual 196, 3) := dk_182 0 196 (dk_at dksX1_forget_0 5 rfl rfl)
theorem dX1_forget_8 : decode cX1_forget 8 = .ok (.if_icmp .ge 21, 3) := dk_162 0 21 (dk_at dksX1_forget_0 8 rfl rfl)
theorem dX1_forget_11 : decode cX1_forget 11 = .ok (.aload_n 0, 1) := dk_42 (dk_at dksX1_forget_0 11 rfl rfl)
theorem dX1_forget_12 : decode cX1_forget 12 = .ok (.getfield 20, 3) := dk_180 0 20 (dk_at dksX1_forget_0 12 rfl rfl)
theorem dX1_forget_15 : decode cX1_forget 15 = .ok (.ldc 112, 2) := dk_18 112 (dk_at dksX1_forget_0 15 rfl rfl)
theorem dX1_forget_17 : decode cX1_forget 17 = .ok (.iload_n 1, 1) := dk_27 (dk_at dksX1_forget_0 17 rfl rfl)
theorem dX1_forget_18 : decode cX1_forget 18 = .ok (.invokevirtual 199, 3) := dk_182 0 199 (dk_at dksX1_forget_0 18 rfl rfl)
theorem dX1_forget_21 : decode cX1_forget 21 = .ok (.iconst 0, 1) := dk_3 (dk_at dksX1_forget_0 21 rfl rfl)
theorem dX1_forget_22 : decode cX1_forget 22 = .ok (.iastore, 1) := dk_79 (dk_at dksX1_forget_0 22 rfl rfl)
theorem dX1_forget_23 : decode cX1_forget 23 = .ok (.iinc 1 1, 3) := dk_132 1 1 (dk_at dksX1_forget_1 0 rfl rfl)
theorem dX1_forget_26 : decode cX1_forget 26 = .ok (.goto (-24), 3) := dk_167 255 232 (dk_at dksX1_forget_1 3 rfl rfl)
theorem dX1_forget_29 : decode cX1_forget 29 = .ok (.return_, 1) := dk_177 (dk_at dksX1_forget_1 6 rfl rfl)
abbrev cX1_worth : ByteArray := prog_1_method_23_code
def yX1_worth : MethodName := ⟨RX1, "worth", "(LOneBears$Clause;I[I)I"⟩
def dkwX1_worth_2 : List UInt8 := [167, 255, 212, 3, 172]
abbrev dktX1_worth_2 : List UInt8 := dkwX1_worth_2 ++ []
def dkwX1_worth_1 : List UInt8 := [180, 0, 206, 44, 182, 0, 210, 153, 0, 12, 45, 180, 0, 216, 44, 182, 0, 219, 172, 45, 180, 0, 189, 78]
abbrev dktX1_worth_1 : List UInt8 := dkwX1_worth_1 ++ dktX1_worth_2
def dkwX1_worth_0 : List UInt8 := [42, 78, 45, 198, 0, 46, 45, 180, 0, 203, 27, 160, 0, 30, 45, 180, 0, 206, 198, 0, 14, 45]
abbrev dktX1_worth_0 : List UInt8 := dkwX1_worth_0 ++ dktX1_worth_1
theorem dksX1_worth_0 : cX1_worth.data.toList.drop 0 = dktX1_worth_0 := by decide +kernel
theorem dksX1_worth_1 : cX1_worth.data.toList.drop 22 = dktX1_worth_1 := dk_seg dksX1_worth_0 22 rfl rfl
theorem dksX1_worth_2 : cX1_worth.data.toList.drop 46 = dktX1_worth_2 := dk_seg dksX1_worth_1 24 rfl rfl
theorem dX1_worth_0 : decode cX1_worth 0 = .ok (.aload_n 0, 1) := dk_42 (dk_at dksX1_worth_0 0 rfl rfl)
theorem dX1_worth_1 : decode cX1_worth 1 = .ok (.astore_n 3, 1) := dk_78 (dk_at dksX1_worth_0 1 rfl rfl)
theorem dX1_worth_2 : decode cX1_worth 2 = .ok (.aload_n 3, 1) := dk_45 (dk_at dksX1_worth_0 2 rfl rfl)
theorem dX1_worth_3 : decode cX1_worth 3 = .ok (.ifnull 46, 3) := dk_198 0 46 (dk_at dksX1_worth_0 3 rfl rfl)
theorem dX1_worth_6 : decode cX1_worth 6 = .ok (.aload_n 3, 1) := dk_45 (dk_at dksX1_worth_0 6 rfl rfl)
theorem dX1_worth_7 : decode cX1_worth 7 = .ok (.getfield 203, 3) := dk_180 0 203 (dk_at dksX1_worth_0 7 rfl rfl)
theorem dX1_worth_10 : decode cX1_worth 10 = .ok (.iload_n 1, 1) := dk_27 (dk_at dksX1_worth_0 10 rfl rfl)
theorem dX1_worth_11 : decode cX1_worth 11 = .ok (.if_icmp .ne 30, 3) := dk_160 0 30 (dk_at dksX1_worth_0 11 rfl rfl)
theorem dX1_worth_14 : decode cX1_worth 14 = .ok (.aload_n 3, 1) := dk_45 (dk_at dksX1_worth_0 14 rfl rfl)
theorem dX1_worth_15 : decode cX1_worth 15 = .ok (.getfield 206, 3) := dk_180 0 206 (dk_at dksX1_worth_0 15 rfl rfl)
theorem dX1_worth_18 : decode cX1_worth 18 = .ok (.ifnull 14, 3) := dk_198 0 14 (dk_at dksX1_worth_0 18 rfl rfl)
theorem dX1_worth_21 : decode cX1_worth 21 = .ok (.aload_n 3, 1) := dk_45 (dk_at dksX1_worth_0 21 rfl rfl)
theorem dX1_worth_22 : decode cX1_worth 22 = .ok (.getfield 206, 3) := dk_180 0 206 (dk_at dksX1_worth_1 0 rfl rfl)
theorem dX1_worth_25 : decode cX1_worth 25 = .ok (.aload_n 2, 1) := dk_44 (dk_at dksX1_worth_1 3 rfl rfl)
theorem dX1_worth_26 : decode cX1_worth 26 = .ok (.invokevirtual 210, 3) := dk_182 0 210 (dk_at dksX1_worth_1 4 rfl rfl)
theorem dX1_worth_29 : decode cX1_worth 29 = .ok (.ifCond .eq 12, 3) := dk_153 0 12 (dk_at dksX1_worth_1 7 rfl rfl)
theorem dX1_worth_32 : decode cX1_worth 32 = .ok (.aload_n 3, 1) := dk_45 (dk_at dksX1_worth_1 10 rfl rfl)
theorem dX1_worth_33 : decode cX1_worth 33 = .ok (.getfield 216, 3) := dk_180 0 216 (dk_at dksX1_worth_1 11 rfl rfl)
theorem dX1_worth_36 : decode cX1_worth 36 = .ok (.aload_n 2, 1) := dk_44 (dk_at dksX1_worth_1 14 rfl rfl)
theorem dX1_worth_37 : decode cX1_worth 37 = .ok (.invokevirtual 219, 3) := dk_182 0 219 (dk_at dksX1_worth_1 15 rfl rfl)
theorem dX1_worth_40 : decode cX1_worth 40 = .ok (.ireturn, 1) := dk_172 (dk_at dksX1_worth_1 18 rfl rfl)
theorem dX1_worth_41 : decode cX1_worth 41 = .ok (.aload_n 3, 1) := dk_45 (dk_at dksX1_worth_1 19 rfl rfl)
theorem dX1_worth_42 : decode cX1_worth 42 = .ok (.getfield 189, 3) := dk_180 0 189 (dk_at dksX1_worth_1 20 rfl rfl)
theorem dX1_worth_45 : decode cX1_worth 45 = .ok (.astore_n 3, 1) := dk_78 (dk_at dksX1_worth_1 23 rfl rfl)
theorem dX1_worth_46 : decode cX1_worth 46 = .ok (.goto (-44), 3) := dk_167 255 212 (dk_at dksX1_worth_2 0 rfl rfl)
theorem dX1_worth_49 : decode cX1_worth 49 = .ok (.iconst 0, 1) := dk_3 (dk_at dksX1_worth_2 3 rfl rfl)
theorem dX1_worth_50 : decode cX1_worth 50 = .ok (.ireturn, 1) := dk_172 (dk_at dksX1_worth_2 4 rfl rfl)
abbrev cX1_all : ByteArray := prog_1_method_40_code
def yX1_all : MethodName := ⟨RX1, "all", "(IJII)I"⟩
def dkwX1_all_6 : List UInt8 := [172]
abbrev dktX1_all_6 : List UInt8 := dkwX1_all_6 ++ []
def dkwX1_all_5 : List UInt8 := [180, 0, 58, 4, 182, 1, 50, 172, 42, 180, 0, 58, 5, 182, 1, 50, 172, 42, 180, 0, 58, 180, 1, 53]
abbrev dktX1_all_5 : List UInt8 := dkwX1_all_5 ++ dktX1_all_6
def dkwX1_all_4 : List UInt8 := [153, 0, 13, 42, 180, 0, 58, 180, 1, 47, 167, 0, 4, 2, 172, 42, 180, 0, 58, 180, 1, 22, 172, 42]
abbrev dktX1_all_4 : List UInt8 := dkwX1_all_4 ++ dktX1_all_5
def dkwX1_all_3 : List UInt8 := [42, 180, 0, 58, 182, 1, 37, 172, 42, 180, 0, 58, 180, 1, 40, 172, 42, 180, 0, 58, 182, 1, 43]
abbrev dktX1_all_3 : List UInt8 := dkwX1_all_3 ++ dktX1_all_4
def dkwX1_all_2 : List UInt8 := [170, 0, 0, 0, 0, 0, 103, 0, 0, 0, 0, 0, 0, 0, 5, 0, 0, 0, 39, 0, 0, 0, 47, 0, 0, 0, 55, 0, 0, 0, 77, 0, 0, 0, 85, 0, 0, 0, 94]
abbrev dktX1_all_2 : List UInt8 := dkwX1_all_2 ++ dktX1_all_3
def dkwX1_all_1 : List UInt8 := [184, 0, 228, 154, 0, 7, 17, 252, 24, 172, 42, 27, 32, 21, 4, 3, 182, 1, 19, 21, 5]
abbrev dktX1_all_1 : List UInt8 := dkwX1_all_1 ++ dktX1_all_2
def dkwX1_all_0 : List UInt8 := [42, 27, 182, 1, 8, 153, 0, 25, 21, 4, 3, 16, 24, 184, 0, 228, 153, 0, 14, 21, 5, 3, 16, 6]
abbrev dktX1_all_0 : List UInt8 := dkwX1_all_0 ++ dktX1_all_1
theorem dksX1_all_0 : cX1_all.data.toList.drop 0 = dktX1_all_0 := by decide +kernel
theorem dksX1_all_1 : cX1_all.data.toList.drop 24 = dktX1_all_1 := dk_seg dksX1_all_0 24 rfl rfl
theorem dksX1_all_2 : cX1_all.data.toList.drop 45 = dktX1_all_2 := dk_seg dksX1_all_1 21 rfl rfl
theorem dksX1_all_3 : cX1_all.data.toList.drop 84 = dktX1_all_3 := dk_seg dksX1_all_2 39 rfl rfl
theorem dksX1_all_4 : cX1_all.data.toList.drop 107 = dktX1_all_4 := dk_seg dksX1_all_3 23 rfl rfl
theorem dksX1_all_5 : cX1_all.data.toList.drop 131 = dktX1_all_5 := dk_seg dksX1_all_4 24 rfl rfl
theorem dksX1_all_6 : cX1_all.data.toList.drop 155 = dktX1_all_6 := dk_seg dksX1_all_5 24 rfl rfl
theorem dX1_all_0 : decode cX1_all 0 = .ok (.aload_n 0, 1) := dk_42 (dk_at dksX1_all_0 0 rfl rfl)
theorem dX1_all_1 : decode cX1_all 1 = .ok (.iload_n 1, 1) := dk_27 (dk_at dksX1_all_0 1 rfl rfl)
theorem dX1_all_2 : decode cX1_all 2 = .ok (.invokevirtual 264, 3) := dk_182 1 8 (dk_at dksX1_all_0 2 rfl rfl)
theorem dX1_all_5 : decode cX1_all 5 = .ok (.ifCond .eq 25, 3) := dk_153 0 25 (dk_at dksX1_all_0 5 rfl rfl)
theorem dX1_all_8 : decode cX1_all 8 = .ok (.iload 4, 2) := dk_21 4 (dk_at dksX1_all_0 8 rfl rfl)
theorem dX1_all_10 : decode cX1_all 10 = .ok (.iconst 0, 1) := dk_3 (dk_at dksX1_all_0 10 rfl rfl)
theorem dX1_all_11 : decode cX1_all 11 = .ok (.bipush 24, 2) := dk_16 24 (dk_at dksX1_all_0 11 rfl rfl)
theorem dX1_all_13 : decode cX1_all 13 = .ok (.invokestatic 228, 3) := dk_184 0 228 (dk_at dksX1_all_0 13 rfl rfl)
theorem dX1_all_16 : decode cX1_all 16 = .ok (.ifCond .eq 14, 3) := dk_153 0 14 (dk_at dksX1_all_0 16 rfl rfl)
theorem dX1_all_19 : decode cX1_all 19 = .ok (.iload 5, 2) := dk_21 5 (dk_at dksX1_all_0 19 rfl rfl)
theorem dX1_all_21 : decode cX1_all 21 = .ok (.iconst 0, 1) := dk_3 (dk_at dksX1_all_0 21 rfl rfl)
theorem dX1_all_22 : decode cX1_all 22 = .ok (.bipush 6, 2) := dk_16 6 (dk_at dksX1_all_0 22 rfl rfl)
theorem dX1_all_24 : decode cX1_all 24 = .ok (.invokestatic 228, 3) := dk_184 0 228 (dk_at dksX1_all_1 0 rfl rfl)
theorem dX1_all_27 : decode cX1_all 27 = .ok (.ifCond .ne 7, 3) := dk_154 0 7 (dk_at dksX1_all_1 3 rfl rfl)
theorem dX1_all_30 : decode cX1_all 30 = .ok (.sipush (-1000), 3) := dk_17 252 24 (dk_at dksX1_all_1 6 rfl rfl)
theorem dX1_all_33 : decode cX1_all 33 = .ok (.ireturn, 1) := dk_172 (dk_at dksX1_all_1 9 rfl rfl)
theorem dX1_all_34 : decode cX1_all 34 = .ok (.aload_n 0, 1) := dk_42 (dk_at dksX1_all_1 10 rfl rfl)
theorem dX1_all_35 : decode cX1_all 35 = .ok (.iload_n 1, 1) := dk_27 (dk_at dksX1_all_1 11 rfl rfl)
theorem dX1_all_36 : decode cX1_all 36 = .ok (.lload_n 2, 1) := dk_32 (dk_at dksX1_all_1 12 rfl rfl)
theorem dX1_all_37 : decode cX1_all 37 = .ok (.iload 4, 2) := dk_21 4 (dk_at dksX1_all_1 13 rfl rfl)
theorem dX1_all_39 : decode cX1_all 39 = .ok (.iconst 0, 1) := dk_3 (dk_at dksX1_all_1 15 rfl rfl)
theorem dX1_all_40 : decode cX1_all 40 = .ok (.invokevirtual 275, 3) := dk_182 1 19 (dk_at dksX1_all_1 16 rfl rfl)
theorem dX1_all_43 : decode cX1_all 43 = .ok (.iload 5, 2) := dk_21 5 (dk_at dksX1_all_1 19 rfl rfl)
theorem dX1_all_45 : decode cX1_all 45 = .ok (.tableswitch 103 0 5 #[39, 47, 55, 77, 85, 94], 39) := by decide +kernel
theorem dX1_all_84 : decode cX1_all 84 = .ok (.aload_n 0, 1) := dk_42 (dk_at dksX1_all_3 0 rfl rfl)
theorem dX1_all_85 : decode cX1_all 85 = .ok (.getfield 58, 3) := dk_180 0 58 (dk_at dksX1_all_3 1 rfl rfl)
theorem dX1_all_88 : decode cX1_all 88 = .ok (.invokevirtual 293, 3) := dk_182 1 37 (dk_at dksX1_all_3 4 rfl rfl)
theorem dX1_all_91 : decode cX1_all 91 = .ok (.ireturn, 1) := dk_172 (dk_at dksX1_all_3 7 rfl rfl)
theorem dX1_all_92 : decode cX1_all 92 = .ok (.aload_n 0, 1) := dk_42 (dk_at dksX1_all_3 8 rfl rfl)
theorem dX1_all_93 : decode cX1_all 93 = .ok (.getfield 58, 3) := dk_180 0 58 (dk_at dksX1_all_3 9 rfl rfl)
theorem dX1_all_96 : decode cX1_all 96 = .ok (.getfield 296, 3) := dk_180 1 40 (dk_at dksX1_all_3 12 rfl rfl)
theorem dX1_all_99 : decode cX1_all 99 = .ok (.ireturn, 1) := dk_172 (dk_at dksX1_all_3 15 rfl rfl)
theorem dX1_all_100 : decode cX1_all 100 = .ok (.aload_n 0, 1) := dk_42 (dk_at dksX1_all_3 16 rfl rfl)
theorem dX1_all_101 : decode cX1_all 101 = .ok (.getfield 58, 3) := dk_180 0 58 (dk_at dksX1_all_3 17 rfl rfl)
theorem dX1_all_104 : decode cX1_all 104 = .ok (.invokevirtual 299, 3) := dk_182 1 43 (dk_at dksX1_all_3 20 rfl rfl)
theorem dX1_all_107 : decode cX1_all 107 = .ok (.ifCond .eq 13, 3) := dk_153 0 13 (dk_at dksX1_all_4 0 rfl rfl)
theorem dX1_all_110 : decode cX1_all 110 = .ok (.aload_n 0, 1) := dk_42 (dk_at dksX1_all_4 3 rfl rfl)
theorem dX1_all_111 : decode cX1_all 111 = .ok (.getfield 58, 3) := dk_180 0 58 (dk_at dksX1_all_4 4 rfl rfl)
theorem dX1_all_114 : decode cX1_all 114 = .ok (.getfield 303, 3) := dk_180 1 47 (dk_at dksX1_all_4 7 rfl rfl)
theorem dX1_all_117 : decode cX1_all 117 = .ok (.goto 4, 3) := dk_167 0 4 (dk_at dksX1_all_4 10 rfl rfl)
theorem dX1_all_120 : decode cX1_all 120 = .ok (.iconst (-1), 1) := dk_2 (dk_at dksX1_all_4 13 rfl rfl)
theorem dX1_all_121 : decode cX1_all 121 = .ok (.ireturn, 1) := dk_172 (dk_at dksX1_all_4 14 rfl rfl)
theorem dX1_all_122 : decode cX1_all 122 = .ok (.aload_n 0, 1) := dk_42 (dk_at dksX1_all_4 15 rfl rfl)
theorem dX1_all_123 : decode cX1_all 123 = .ok (.getfield 58, 3) := dk_180 0 58 (dk_at dksX1_all_4 16 rfl rfl)
theorem dX1_all_126 : decode cX1_all 126 = .ok (.getfield 278, 3) := dk_180 1 22 (dk_at dksX1_all_4 19 rfl rfl)
theorem dX1_all_129 : decode cX1_all 129 = .ok (.ireturn, 1) := dk_172 (dk_at dksX1_all_4 22 rfl rfl)
theorem dX1_all_130 : decode cX1_all 130 = .ok (.aload_n 0, 1) := dk_42 (dk_at dksX1_all_4 23 rfl rfl)
theorem dX1_all_131 : decode cX1_all 131 = .ok (.getfield 58, 3) := dk_180 0 58 (dk_at dksX1_all_5 0 rfl rfl)
theorem dX1_all_134 : decode cX1_all 134 = .ok (.iconst 1, 1) := dk_4 (dk_at dksX1_all_5 3 rfl rfl)
theorem dX1_all_135 : decode cX1_all 135 = .ok (.invokevirtual 306, 3) := dk_182 1 50 (dk_at dksX1_all_5 4 rfl rfl)
theorem dX1_all_138 : decode cX1_all 138 = .ok (.ireturn, 1) := dk_172 (dk_at dksX1_all_5 7 rfl rfl)
theorem dX1_all_139 : decode cX1_all 139 = .ok (.aload_n 0, 1) := dk_42 (dk_at dksX1_all_5 8 rfl rfl)
theorem dX1_all_140 : decode cX1_all 140 = .ok (.getfield 58, 3) := dk_180 0 58 (dk_at dksX1_all_5 9 rfl rfl)
theorem dX1_all_143 : decode cX1_all 143 = .ok (.iconst 2, 1) := dk_5 (dk_at dksX1_all_5 12 rfl rfl)
theorem dX1_all_144 : decode cX1_all 144 = .ok (.invokevirtual 306, 3) := dk_182 1 50 (dk_at dksX1_all_5 13 rfl rfl)
theorem dX1_all_147 : decode cX1_all 147 = .ok (.ireturn, 1) := dk_172 (dk_at dksX1_all_5 16 rfl rfl)
theorem dX1_all_148 : decode cX1_all 148 = .ok (.aload_n 0, 1) := dk_42 (dk_at dksX1_all_5 17 rfl rfl)
theorem dX1_all_149 : decode cX1_all 149 = .ok (.getfield 58, 3) := dk_180 0 58 (dk_at dksX1_all_5 18 rfl rfl)
theorem dX1_all_152 : decode cX1_all 152 = .ok (.getfield 309, 3) := dk_180 1 53 (dk_at dksX1_all_5 21 rfl rfl)
theorem dX1_all_155 : decode cX1_all 155 = .ok (.ireturn, 1) := dk_172 (dk_at dksX1_all_6 0 rfl rfl)
abbrev cX1_find : ByteArray := prog_1_method_42_code
def yX1_find : MethodName := ⟨RX1, "find", "(I)J"⟩
def dkwX1_find_1 : List UInt8 := [4, 46, 133, 101, 27, 184, 1, 58, 101, 167, 0, 6, 20, 1, 62, 173]
abbrev dktX1_find_1 : List UInt8 := dkwX1_find_1 ++ []
def dkwX1_find_0 : List UInt8 := [27, 3, 16, 9, 184, 0, 228, 153, 0, 29, 20, 1, 56, 27, 184, 1, 58, 20, 1, 56, 42, 180, 0, 47]
abbrev dktX1_find_0 : List UInt8 := dkwX1_find_0 ++ dktX1_find_1
theorem dksX1_find_0 : cX1_find.data.toList.drop 0 = dktX1_find_0 := by decide +kernel
theorem dksX1_find_1 : cX1_find.data.toList.drop 24 = dktX1_find_1 := dk_seg dksX1_find_0 24 rfl rfl
theorem dX1_find_0 : decode cX1_find 0 = .ok (.iload_n 1, 1) := dk_27 (dk_at dksX1_find_0 0 rfl rfl)
theorem dX1_find_1 : decode cX1_find 1 = .ok (.iconst 0, 1) := dk_3 (dk_at dksX1_find_0 1 rfl rfl)
theorem dX1_find_2 : decode cX1_find 2 = .ok (.bipush 9, 2) := dk_16 9 (dk_at dksX1_find_0 2 rfl rfl)
theorem dX1_find_4 : decode cX1_find 4 = .ok (.invokestatic 228, 3) := dk_184 0 228 (dk_at dksX1_find_0 4 rfl rfl)
theorem dX1_find_7 : decode cX1_find 7 = .ok (.ifCond .eq 29, 3) := dk_153 0 29 (dk_at dksX1_find_0 7 rfl rfl)
theorem dX1_find_10 : decode cX1_find 10 = .ok (.ldc2_w 312, 3) := dk_20 1 56 (dk_at dksX1_find_0 10 rfl rfl)
theorem dX1_find_13 : decode cX1_find 13 = .ok (.iload_n 1, 1) := dk_27 (dk_at dksX1_find_0 13 rfl rfl)
theorem dX1_find_14 : decode cX1_find 14 = .ok (.invokestatic 314, 3) := dk_184 1 58 (dk_at dksX1_find_0 14 rfl rfl)
theorem dX1_find_17 : decode cX1_find 17 = .ok (.ldc2_w 312, 3) := dk_20 1 56 (dk_at dksX1_find_0 17 rfl rfl)
theorem dX1_find_20 : decode cX1_find 20 = .ok (.aload_n 0, 1) := dk_42 (dk_at dksX1_find_0 20 rfl rfl)
theorem dX1_find_21 : decode cX1_find 21 = .ok (.getfield 47, 3) := dk_180 0 47 (dk_at dksX1_find_0 21 rfl rfl)
theorem dX1_find_24 : decode cX1_find 24 = .ok (.iconst 1, 1) := dk_4 (dk_at dksX1_find_1 0 rfl rfl)
theorem dX1_find_25 : decode cX1_find 25 = .ok (.iaload, 1) := dk_46 (dk_at dksX1_find_1 1 rfl rfl)
theorem dX1_find_26 : decode cX1_find 26 = .ok (.i2l, 1) := dk_133 (dk_at dksX1_find_1 2 rfl rfl)
theorem dX1_find_27 : decode cX1_find 27 = .ok (.lsub, 1) := dk_101 (dk_at dksX1_find_1 3 rfl rfl)
theorem dX1_find_28 : decode cX1_find 28 = .ok (.iload_n 1, 1) := dk_27 (dk_at dksX1_find_1 4 rfl rfl)
theorem dX1_find_29 : decode cX1_find 29 = .ok (.invokestatic 314, 3) := dk_184 1 58 (dk_at dksX1_find_1 5 rfl rfl)
theorem dX1_find_32 : decode cX1_find 32 = .ok (.lsub, 1) := dk_101 (dk_at dksX1_find_1 8 rfl rfl)
theorem dX1_find_33 : decode cX1_find 33 = .ok (.goto 6, 3) := dk_167 0 6 (dk_at dksX1_find_1 9 rfl rfl)
theorem dX1_find_36 : decode cX1_find 36 = .ok (.ldc2_w 318, 3) := dk_20 1 62 (dk_at dksX1_find_1 12 rfl rfl)
theorem dX1_find_39 : decode cX1_find 39 = .ok (.lreturn, 1) := dk_173 (dk_at dksX1_find_1 15 rfl rfl)
abbrev cX1_power : ByteArray := prog_1_method_41_code
def yX1_power : MethodName := ⟨RX1, "power", "(JI)J"⟩
def dkwX1_power_0 : List UInt8 := [10, 66, 3, 54, 5, 21, 5, 28, 162, 0, 13, 33, 30, 105, 66, 132, 5, 1, 167, 255, 243, 33, 173]
abbrev dktX1_power_0 : List UInt8 := dkwX1_power_0 ++ []
theorem dksX1_power_0 : cX1_power.data.toList.drop 0 = dktX1_power_0 := by decide +kernel
theorem dX1_power_0 : decode cX1_power 0 = .ok (.lconst 1, 1) := dk_10 (dk_at dksX1_power_0 0 rfl rfl)
theorem dX1_power_1 : decode cX1_power 1 = .ok (.lstore_n 3, 1) := dk_66 (dk_at dksX1_power_0 1 rfl rfl)
theorem dX1_power_2 : decode cX1_power 2 = .ok (.iconst 0, 1) := dk_3 (dk_at dksX1_power_0 2 rfl rfl)
theorem dX1_power_3 : decode cX1_power 3 = .ok (.istore 5, 2) := dk_54 5 (dk_at dksX1_power_0 3 rfl rfl)
theorem dX1_power_5 : decode cX1_power 5 = .ok (.iload 5, 2) := dk_21 5 (dk_at dksX1_power_0 5 rfl rfl)
theorem dX1_power_7 : decode cX1_power 7 = .ok (.iload_n 2, 1) := dk_28 (dk_at dksX1_power_0 7 rfl rfl)
theorem dX1_power_8 : decode cX1_power 8 = .ok (.if_icmp .ge 13, 3) := dk_162 0 13 (dk_at dksX1_power_0 8 rfl rfl)
theorem dX1_power_11 : decode cX1_power 11 = .ok (.lload_n 3, 1) := dk_33 (dk_at dksX1_power_0 11 rfl rfl)
theorem dX1_power_12 : decode cX1_power 12 = .ok (.lload_n 0, 1) := dk_30 (dk_at dksX1_power_0 12 rfl rfl)
theorem dX1_power_13 : decode cX1_power 13 = .ok (.lmul, 1) := dk_105 (dk_at dksX1_power_0 13 rfl rfl)
theorem dX1_power_14 : decode cX1_power 14 = .ok (.lstore_n 3, 1) := dk_66 (dk_at dksX1_power_0 14 rfl rfl)
theorem dX1_power_15 : decode cX1_power 15 = .ok (.iinc 5 1, 3) := dk_132 5 1 (dk_at dksX1_power_0 15 rfl rfl)
theorem dX1_power_18 : decode cX1_power 18 = .ok (.goto (-13), 3) := dk_167 255 243 (dk_at dksX1_power_0 18 rfl rfl)
theorem dX1_power_21 : decode cX1_power 21 = .ok (.lload_n 3, 1) := dk_33 (dk_at dksX1_power_0 21 rfl rfl)
theorem dX1_power_22 : decode cX1_power 22 = .ok (.lreturn, 1) := dk_173 (dk_at dksX1_power_0 22 rfl rfl)
abbrev cX1_many : ByteArray := prog_1_method_43_code
def yX1_many : MethodName := ⟨RX1, "many", "(II)I"⟩
def dkwX1_many_3 : List UInt8 := [157, 0, 5, 29, 172, 132, 3, 1, 167, 255, 204, 2, 172]
abbrev dktX1_many_3 : List UInt8 := dkwX1_many_3 ++ []
def dkwX1_many_2 : List UInt8 := [184, 1, 58, 20, 1, 56, 28, 133, 101, 20, 1, 56, 29, 27, 104, 4, 100, 184, 1, 58, 105, 148]
abbrev dktX1_many_2 : List UInt8 := dkwX1_many_2 ++ dktX1_many_3
def dkwX1_many_1 : List UInt8 := [29, 27, 104, 16, 9, 163, 0, 50, 20, 1, 56, 42, 180, 0, 47, 4, 46, 133, 101, 29, 27, 104]
abbrev dktX1_many_1 : List UInt8 := dkwX1_many_1 ++ dktX1_many_2
def dkwX1_many_0 : List UInt8 := [27, 4, 16, 9, 184, 0, 228, 153, 0, 13, 28, 3, 16, 100, 184, 0, 228, 154, 0, 5, 2, 172, 4, 62]
abbrev dktX1_many_0 : List UInt8 := dkwX1_many_0 ++ dktX1_many_1
theorem dksX1_many_0 : cX1_many.data.toList.drop 0 = dktX1_many_0 := by decide +kernel
theorem dksX1_many_1 : cX1_many.data.toList.drop 24 = dktX1_many_1 := dk_seg dksX1_many_0 24 rfl rfl
theorem dksX1_many_2 : cX1_many.data.toList.drop 46 = dktX1_many_2 := dk_seg dksX1_many_1 22 rfl rfl
theorem dksX1_many_3 : cX1_many.data.toList.drop 68 = dktX1_many_3 := dk_seg dksX1_many_2 22 rfl rfl
theorem dX1_many_0 : decode cX1_many 0 = .ok (.iload_n 1, 1) := dk_27 (dk_at dksX1_many_0 0 rfl rfl)
theorem dX1_many_1 : decode cX1_many 1 = .ok (.iconst 1, 1) := dk_4 (dk_at dksX1_many_0 1 rfl rfl)
theorem dX1_many_2 : decode cX1_many 2 = .ok (.bipush 9, 2) := dk_16 9 (dk_at dksX1_many_0 2 rfl rfl)
theorem dX1_many_4 : decode cX1_many 4 = .ok (.invokestatic 228, 3) := dk_184 0 228 (dk_at dksX1_many_0 4 rfl rfl)
theorem dX1_many_7 : decode cX1_many 7 = .ok (.ifCond .eq 13, 3) := dk_153 0 13 (dk_at dksX1_many_0 7 rfl rfl)
theorem dX1_many_10 : decode cX1_many 10 = .ok (.iload_n 2, 1) := dk_28 (dk_at dksX1_many_0 10 rfl rfl)
theorem dX1_many_11 : decode cX1_many 11 = .ok (.iconst 0, 1) := dk_3 (dk_at dksX1_many_0 11 rfl rfl)
theorem dX1_many_12 : decode cX1_many 12 = .ok (.bipush 100, 2) := dk_16 100 (dk_at dksX1_many_0 12 rfl rfl)
theorem dX1_many_14 : decode cX1_many 14 = .ok (.invokestatic 228, 3) := dk_184 0 228 (dk_at dksX1_many_0 14 rfl rfl)
theorem dX1_many_17 : decode cX1_many 17 = .ok (.ifCond .ne 5, 3) := dk_154 0 5 (dk_at dksX1_many_0 17 rfl rfl)
theorem dX1_many_20 : decode cX1_many 20 = .ok (.iconst (-1), 1) := dk_2 (dk_at dksX1_many_0 20 rfl rfl)
theorem dX1_many_21 : decode cX1_many 21 = .ok (.ireturn, 1) := dk_172 (dk_at dksX1_many_0 21 rfl rfl)
theorem dX1_many_22 : decode cX1_many 22 = .ok (.iconst 1, 1) := dk_4 (dk_at dksX1_many_0 22 rfl rfl)
theorem dX1_many_23 : decode cX1_many 23 = .ok (.istore_n 3, 1) := dk_62 (dk_at dksX1_many_0 23 rfl rfl)
theorem dX1_many_24 : decode cX1_many 24 = .ok (.iload_n 3, 1) := dk_29 (dk_at dksX1_many_1 0 rfl rfl)
theorem dX1_many_25 : decode cX1_many 25 = .ok (.iload_n 1, 1) := dk_27 (dk_at dksX1_many_1 1 rfl rfl)
theorem dX1_many_26 : decode cX1_many 26 = .ok (.imul, 1) := dk_104 (dk_at dksX1_many_1 2 rfl rfl)
theorem dX1_many_27 : decode cX1_many 27 = .ok (.bipush 9, 2) := dk_16 9 (dk_at dksX1_many_1 3 rfl rfl)
theorem dX1_many_29 : decode cX1_many 29 = .ok (.if_icmp .gt 50, 3) := dk_163 0 50 (dk_at dksX1_many_1 5 rfl rfl)
theorem dX1_many_32 : decode cX1_many 32 = .ok (.ldc2_w 312, 3) := dk_20 1 56 (dk_at dksX1_many_1 8 rfl rfl)
theorem dX1_many_35 : decode cX1_many 35 = .ok (.aload_n 0, 1) := dk_42 (dk_at dksX1_many_1 11 rfl rfl)
theorem dX1_many_36 : decode cX1_many 36 = .ok (.getfield 47, 3) := dk_180 0 47 (dk_at dksX1_many_1 12 rfl rfl)
theorem dX1_many_39 : decode cX1_many 39 = .ok (.iconst 1, 1) := dk_4 (dk_at dksX1_many_1 15 rfl rfl)
theorem dX1_many_40 : decode cX1_many 40 = .ok (.iaload, 1) := dk_46 (dk_at dksX1_many_1 16 rfl rfl)
theorem dX1_many_41 : decode cX1_many 41 = .ok (.i2l, 1) := dk_133 (dk_at dksX1_many_1 17 rfl rfl)
theorem dX1_many_42 : decode cX1_many 42 = .ok (.lsub, 1) := dk_101 (dk_at dksX1_many_1 18 rfl rfl)
theorem dX1_many_43 : decode cX1_many 43 = .ok (.iload_n 3, 1) := dk_29 (dk_at dksX1_many_1 19 rfl rfl)
theorem dX1_many_44 : decode cX1_many 44 = .ok (.iload_n 1, 1) := dk_27 (dk_at dksX1_many_1 20 rfl rfl)
theorem dX1_many_45 : decode cX1_many 45 = .ok (.imul, 1) := dk_104 (dk_at dksX1_many_1 21 rfl rfl)
theorem dX1_many_46 : decode cX1_many 46 = .ok (.invokestatic 314, 3) := dk_184 1 58 (dk_at dksX1_many_2 0 rfl rfl)
theorem dX1_many_49 : decode cX1_many 49 = .ok (.ldc2_w 312, 3) := dk_20 1 56 (dk_at dksX1_many_2 3 rfl rfl)
theorem dX1_many_52 : decode cX1_many 52 = .ok (.iload_n 2, 1) := dk_28 (dk_at dksX1_many_2 6 rfl rfl)
theorem dX1_many_53 : decode cX1_many 53 = .ok (.i2l, 1) := dk_133 (dk_at dksX1_many_2 7 rfl rfl)
theorem dX1_many_54 : decode cX1_many 54 = .ok (.lsub, 1) := dk_101 (dk_at dksX1_many_2 8 rfl rfl)
theorem dX1_many_55 : decode cX1_many 55 = .ok (.ldc2_w 312, 3) := dk_20 1 56 (dk_at dksX1_many_2 9 rfl rfl)
theorem dX1_many_58 : decode cX1_many 58 = .ok (.iload_n 3, 1) := dk_29 (dk_at dksX1_many_2 12 rfl rfl)
theorem dX1_many_59 : decode cX1_many 59 = .ok (.iload_n 1, 1) := dk_27 (dk_at dksX1_many_2 13 rfl rfl)
theorem dX1_many_60 : decode cX1_many 60 = .ok (.imul, 1) := dk_104 (dk_at dksX1_many_2 14 rfl rfl)
theorem dX1_many_61 : decode cX1_many 61 = .ok (.iconst 1, 1) := dk_4 (dk_at dksX1_many_2 15 rfl rfl)
theorem dX1_many_62 : decode cX1_many 62 = .ok (.isub, 1) := dk_100 (dk_at dksX1_many_2 16 rfl rfl)
theorem dX1_many_63 : decode cX1_many 63 = .ok (.invokestatic 314, 3) := dk_184 1 58 (dk_at dksX1_many_2 17 rfl rfl)
theorem dX1_many_66 : decode cX1_many 66 = .ok (.lmul, 1) := dk_105 (dk_at dksX1_many_2 20 rfl rfl)
theorem dX1_many_67 : decode cX1_many 67 = .ok (.lcmp, 1) := dk_148 (dk_at dksX1_many_2 21 rfl rfl)
theorem dX1_many_68 : decode cX1_many 68 = .ok (.ifCond .gt 5, 3) := dk_157 0 5 (dk_at dksX1_many_3 0 rfl rfl)
theorem dX1_many_71 : decode cX1_many 71 = .ok (.iload_n 3, 1) := dk_29 (dk_at dksX1_many_3 3 rfl rfl)
theorem dX1_many_72 : decode cX1_many 72 = .ok (.ireturn, 1) := dk_172 (dk_at dksX1_many_3 4 rfl rfl)
theorem dX1_many_73 : decode cX1_many 73 = .ok (.iinc 3 1, 3) := dk_132 3 1 (dk_at dksX1_many_3 5 rfl rfl)
theorem dX1_many_76 : decode cX1_many 76 = .ok (.goto (-52), 3) := dk_167 255 204 (dk_at dksX1_many_3 8 rfl rfl)
theorem dX1_many_79 : decode cX1_many 79 = .ok (.iconst (-1), 1) := dk_2 (dk_at dksX1_many_3 11 rfl rfl)
theorem dX1_many_80 : decode cX1_many 80 = .ok (.ireturn, 1) := dk_172 (dk_at dksX1_many_3 12 rfl rfl)
abbrev cX1_note : ByteArray := prog_1_method_44_code
def yX1_note : MethodName := ⟨RX1, "note", "(III)I"⟩
def dkwX1_note_3 : List UInt8 := [79, 42, 89, 180, 1, 64, 4, 96, 181, 1, 64, 42, 180, 1, 64, 172]
abbrev dktX1_note_3 : List UInt8 := dkwX1_note_3 ++ []
def dkwX1_note_2 : List UInt8 := [180, 1, 64, 27, 79, 42, 180, 0, 65, 42, 180, 1, 64, 28, 79, 42, 180, 0, 68, 42, 180, 1, 64, 29]
abbrev dktX1_note_2 : List UInt8 := dkwX1_note_2 ++ dktX1_note_3
def dkwX1_note_1 : List UInt8 := [184, 0, 228, 153, 0, 12, 42, 180, 1, 64, 16, 12, 160, 0, 5, 2, 172, 42, 180, 0, 62, 42]
abbrev dktX1_note_1 : List UInt8 := dkwX1_note_1 ++ dktX1_note_2
def dkwX1_note_0 : List UInt8 := [27, 3, 16, 24, 184, 0, 228, 153, 0, 32, 28, 3, 16, 24, 184, 0, 228, 153, 0, 22, 29, 3, 16, 24]
abbrev dktX1_note_0 : List UInt8 := dkwX1_note_0 ++ dktX1_note_1
theorem dksX1_note_0 : cX1_note.data.toList.drop 0 = dktX1_note_0 := by decide +kernel
theorem dksX1_note_1 : cX1_note.data.toList.drop 24 = dktX1_note_1 := dk_seg dksX1_note_0 24 rfl rfl
theorem dksX1_note_2 : cX1_note.data.toList.drop 46 = dktX1_note_2 := dk_seg dksX1_note_1 22 rfl rfl
theorem dksX1_note_3 : cX1_note.data.toList.drop 70 = dktX1_note_3 := dk_seg dksX1_note_2 24 rfl rfl
theorem dX1_note_0 : decode cX1_note 0 = .ok (.iload_n 1, 1) := dk_27 (dk_at dksX1_note_0 0 rfl rfl)
theorem dX1_note_1 : decode cX1_note 1 = .ok (.iconst 0, 1) := dk_3 (dk_at dksX1_note_0 1 rfl rfl)
theorem dX1_note_2 : decode cX1_note 2 = .ok (.bipush 24, 2) := dk_16 24 (dk_at dksX1_note_0 2 rfl rfl)
theorem dX1_note_4 : decode cX1_note 4 = .ok (.invokestatic 228, 3) := dk_184 0 228 (dk_at dksX1_note_0 4 rfl rfl)
theorem dX1_note_7 : decode cX1_note 7 = .ok (.ifCond .eq 32, 3) := dk_153 0 32 (dk_at dksX1_note_0 7 rfl rfl)
theorem dX1_note_10 : decode cX1_note 10 = .ok (.iload_n 2, 1) := dk_28 (dk_at dksX1_note_0 10 rfl rfl)
theorem dX1_note_11 : decode cX1_note 11 = .ok (.iconst 0, 1) := dk_3 (dk_at dksX1_note_0 11 rfl rfl)
theorem dX1_note_12 : decode cX1_note 12 = .ok (.bipush 24, 2) := dk_16 24 (dk_at dksX1_note_0 12 rfl rfl)
theorem dX1_note_14 : decode cX1_note 14 = .ok (.invokestatic 228, 3) := dk_184 0 228 (dk_at dksX1_note_0 14 rfl rfl)
theorem dX1_note_17 : decode cX1_note 17 = .ok (.ifCond .eq 22, 3) := dk_153 0 22 (dk_at dksX1_note_0 17 rfl rfl)
theorem dX1_note_20 : decode cX1_note 20 = .ok (.iload_n 3, 1) := dk_29 (dk_at dksX1_note_0 20 rfl rfl)
theorem dX1_note_21 : decode cX1_note 21 = .ok (.iconst 0, 1) := dk_3 (dk_at dksX1_note_0 21 rfl rfl)
theorem dX1_note_22 : decode cX1_note 22 = .ok (.bipush 24, 2) := dk_16 24 (dk_at dksX1_note_0 22 rfl rfl)
theorem dX1_note_24 : decode cX1_note 24 = .ok (.invokestatic 228, 3) := dk_184 0 228 (dk_at dksX1_note_1 0 rfl rfl)
theorem dX1_note_27 : decode cX1_note 27 = .ok (.ifCond .eq 12, 3) := dk_153 0 12 (dk_at dksX1_note_1 3 rfl rfl)
theorem dX1_note_30 : decode cX1_note 30 = .ok (.aload_n 0, 1) := dk_42 (dk_at dksX1_note_1 6 rfl rfl)
theorem dX1_note_31 : decode cX1_note 31 = .ok (.getfield 320, 3) := dk_180 1 64 (dk_at dksX1_note_1 7 rfl rfl)
theorem dX1_note_34 : decode cX1_note 34 = .ok (.bipush 12, 2) := dk_16 12 (dk_at dksX1_note_1 10 rfl rfl)
theorem dX1_note_36 : decode cX1_note 36 = .ok (.if_icmp .ne 5, 3) := dk_160 0 5 (dk_at dksX1_note_1 12 rfl rfl)
theorem dX1_note_39 : decode cX1_note 39 = .ok (.iconst (-1), 1) := dk_2 (dk_at dksX1_note_1 15 rfl rfl)
theorem dX1_note_40 : decode cX1_note 40 = .ok (.ireturn, 1) := dk_172 (dk_at dksX1_note_1 16 rfl rfl)
theorem dX1_note_41 : decode cX1_note 41 = .ok (.aload_n 0, 1) := dk_42 (dk_at dksX1_note_1 17 rfl rfl)
theorem dX1_note_42 : decode cX1_note 42 = .ok (.getfield 62, 3) := dk_180 0 62 (dk_at dksX1_note_1 18 rfl rfl)
theorem dX1_note_45 : decode cX1_note 45 = .ok (.aload_n 0, 1) := dk_42 (dk_at dksX1_note_1 21 rfl rfl)
theorem dX1_note_46 : decode cX1_note 46 = .ok (.getfield 320, 3) := dk_180 1 64 (dk_at dksX1_note_2 0 rfl rfl)
theorem dX1_note_49 : decode cX1_note 49 = .ok (.iload_n 1, 1) := dk_27 (dk_at dksX1_note_2 3 rfl rfl)
theorem dX1_note_50 : decode cX1_note 50 = .ok (.iastore, 1) := dk_79 (dk_at dksX1_note_2 4 rfl rfl)
theorem dX1_note_51 : decode cX1_note 51 = .ok (.aload_n 0, 1) := dk_42 (dk_at dksX1_note_2 5 rfl rfl)
theorem dX1_note_52 : decode cX1_note 52 = .ok (.getfield 65, 3) := dk_180 0 65 (dk_at dksX1_note_2 6 rfl rfl)
theorem dX1_note_55 : decode cX1_note 55 = .ok (.aload_n 0, 1) := dk_42 (dk_at dksX1_note_2 9 rfl rfl)
theorem dX1_note_56 : decode cX1_note 56 = .ok (.getfield 320, 3) := dk_180 1 64 (dk_at dksX1_note_2 10 rfl rfl)
theorem dX1_note_59 : decode cX1_note 59 = .ok (.iload_n 2, 1) := dk_28 (dk_at dksX1_note_2 13 rfl rfl)
theorem dX1_note_60 : decode cX1_note 60 = .ok (.iastore, 1) := dk_79 (dk_at dksX1_note_2 14 rfl rfl)
theorem dX1_note_61 : decode cX1_note 61 = .ok (.aload_n 0, 1) := dk_42 (dk_at dksX1_note_2 15 rfl rfl)
theorem dX1_note_62 : decode cX1_note 62 = .ok (.getfield 68, 3) := dk_180 0 68 (dk_at dksX1_note_2 16 rfl rfl)
theorem dX1_note_65 : decode cX1_note 65 = .ok (.aload_n 0, 1) := dk_42 (dk_at dksX1_note_2 19 rfl rfl)
theorem dX1_note_66 : decode cX1_note 66 = .ok (.getfield 320, 3) := dk_180 1 64 (dk_at dksX1_note_2 20 rfl rfl)
theorem dX1_note_69 : decode cX1_note 69 = .ok (.iload_n 3, 1) := dk_29 (dk_at dksX1_note_2 23 rfl rfl)
theorem dX1_note_70 : decode cX1_note 70 = .ok (.iastore, 1) := dk_79 (dk_at dksX1_note_3 0 rfl rfl)
theorem dX1_note_71 : decode cX1_note 71 = .ok (.aload_n 0, 1) := dk_42 (dk_at dksX1_note_3 1 rfl rfl)
theorem dX1_note_72 : decode cX1_note 72 = .ok (.dup, 1) := dk_89 (dk_at dksX1_note_3 2 rfl rfl)
theorem dX1_note_73 : decode cX1_note 73 = .ok (.getfield 320, 3) := dk_180 1 64 (dk_at dksX1_note_3 3 rfl rfl)
theorem dX1_note_76 : decode cX1_note 76 = .ok (.iconst 1, 1) := dk_4 (dk_at dksX1_note_3 6 rfl rfl)
theorem dX1_note_77 : decode cX1_note 77 = .ok (.iadd, 1) := dk_96 (dk_at dksX1_note_3 7 rfl rfl)
theorem dX1_note_78 : decode cX1_note 78 = .ok (.putfield 320, 3) := dk_181 1 64 (dk_at dksX1_note_3 8 rfl rfl)
theorem dX1_note_81 : decode cX1_note 81 = .ok (.aload_n 0, 1) := dk_42 (dk_at dksX1_note_3 11 rfl rfl)
theorem dX1_note_82 : decode cX1_note 82 = .ok (.getfield 320, 3) := dk_180 1 64 (dk_at dksX1_note_3 12 rfl rfl)
theorem dX1_note_85 : decode cX1_note 85 = .ok (.ireturn, 1) := dk_172 (dk_at dksX1_note_3 15 rfl rfl)
abbrev cX1_fits : ByteArray := prog_1_method_46_code
def yX1_fits : MethodName := ⟨RX1, "fits", "(J)I"⟩
def dkwX1_fits_1 : List UInt8 := [29, 4, 21, 4, 120, 128, 62, 132, 4, 1, 167, 255, 227, 29, 172]
abbrev dktX1_fits_1 : List UInt8 := dkwX1_fits_1 ++ []
def dkwX1_fits_0 : List UInt8 := [3, 62, 3, 54, 4, 21, 4, 42, 180, 0, 225, 162, 0, 26, 42, 21, 4, 31, 182, 1, 75, 153, 0, 10]
abbrev dktX1_fits_0 : List UInt8 := dkwX1_fits_0 ++ dktX1_fits_1
theorem dksX1_fits_0 : cX1_fits.data.toList.drop 0 = dktX1_fits_0 := by decide +kernel
theorem dksX1_fits_1 : cX1_fits.data.toList.drop 24 = dktX1_fits_1 := dk_seg dksX1_fits_0 24 rfl rfl
theorem dX1_fits_0 : decode cX1_fits 0 = .ok (.iconst 0, 1) := dk_3 (dk_at dksX1_fits_0 0 rfl rfl)
theorem dX1_fits_1 : decode cX1_fits 1 = .ok (.istore_n 3, 1) := dk_62 (dk_at dksX1_fits_0 1 rfl rfl)
theorem dX1_fits_2 : decode cX1_fits 2 = .ok (.iconst 0, 1) := dk_3 (dk_at dksX1_fits_0 2 rfl rfl)
theorem dX1_fits_3 : decode cX1_fits 3 = .ok (.istore 4, 2) := dk_54 4 (dk_at dksX1_fits_0 3 rfl rfl)
theorem dX1_fits_5 : decode cX1_fits 5 = .ok (.iload 4, 2) := dk_21 4 (dk_at dksX1_fits_0 5 rfl rfl)
theorem dX1_fits_7 : decode cX1_fits 7 = .ok (.aload_n 0, 1) := dk_42 (dk_at dksX1_fits_0 7 rfl rfl)
theorem dX1_fits_8 : decode cX1_fits 8 = .ok (.getfield 225, 3) := dk_180 0 225 (dk_at dksX1_fits_0 8 rfl rfl)
theorem dX1_fits_11 : decode cX1_fits 11 = .ok (.if_icmp .ge 26, 3) := dk_162 0 26 (dk_at dksX1_fits_0 11 rfl rfl)
theorem dX1_fits_14 : decode cX1_fits 14 = .ok (.aload_n 0, 1) := dk_42 (dk_at dksX1_fits_0 14 rfl rfl)
theorem dX1_fits_15 : decode cX1_fits 15 = .ok (.iload 4, 2) := dk_21 4 (dk_at dksX1_fits_0 15 rfl rfl)
theorem dX1_fits_17 : decode cX1_fits 17 = .ok (.lload_n 1, 1) := dk_31 (dk_at dksX1_fits_0 17 rfl rfl)
theorem dX1_fits_18 : decode cX1_fits 18 = .ok (.invokevirtual 331, 3) := dk_182 1 75 (dk_at dksX1_fits_0 18 rfl rfl)
theorem dX1_fits_21 : decode cX1_fits 21 = .ok (.ifCond .eq 10, 3) := dk_153 0 10 (dk_at dksX1_fits_0 21 rfl rfl)
theorem dX1_fits_24 : decode cX1_fits 24 = .ok (.iload_n 3, 1) := dk_29 (dk_at dksX1_fits_1 0 rfl rfl)
theorem dX1_fits_25 : decode cX1_fits 25 = .ok (.iconst 1, 1) := dk_4 (dk_at dksX1_fits_1 1 rfl rfl)
theorem dX1_fits_26 : decode cX1_fits 26 = .ok (.iload 4, 2) := dk_21 4 (dk_at dksX1_fits_1 2 rfl rfl)
theorem dX1_fits_28 : decode cX1_fits 28 = .ok (.ishl, 1) := dk_120 (dk_at dksX1_fits_1 4 rfl rfl)
theorem dX1_fits_29 : decode cX1_fits 29 = .ok (.ior, 1) := dk_128 (dk_at dksX1_fits_1 5 rfl rfl)
theorem dX1_fits_30 : decode cX1_fits 30 = .ok (.istore_n 3, 1) := dk_62 (dk_at dksX1_fits_1 6 rfl rfl)
theorem dX1_fits_31 : decode cX1_fits 31 = .ok (.iinc 4 1, 3) := dk_132 4 1 (dk_at dksX1_fits_1 7 rfl rfl)
theorem dX1_fits_34 : decode cX1_fits 34 = .ok (.goto (-29), 3) := dk_167 255 227 (dk_at dksX1_fits_1 10 rfl rfl)
theorem dX1_fits_37 : decode cX1_fits 37 = .ok (.iload_n 3, 1) := dk_29 (dk_at dksX1_fits_1 13 rfl rfl)
theorem dX1_fits_38 : decode cX1_fits 38 = .ok (.ireturn, 1) := dk_172 (dk_at dksX1_fits_1 14 rfl rfl)
abbrev cX1_isFit : ByteArray := prog_1_method_45_code
def yX1_isFit : MethodName := ⟨RX1, "isFit", "(IJ)Z"⟩
def dkwX1_isFit_4 : List UInt8 := [42, 180, 0, 58, 182, 1, 72, 132, 4, 1, 167, 255, 172, 4, 172]
abbrev dktX1_isFit_4 : List UInt8 := dkwX1_isFit_4 ++ []
def dkwX1_isFit_3 : List UInt8 := [180, 0, 68, 21, 5, 46, 164, 0, 5, 3, 172, 132, 5, 1, 167, 255, 202, 21, 4, 16, 24, 162, 0, 10]
abbrev dktX1_isFit_3 : List UInt8 := dkwX1_isFit_3 ++ dktX1_isFit_4
def dkwX1_isFit_2 : List UInt8 := [21, 4, 160, 0, 33, 42, 180, 0, 58, 182, 1, 37, 42, 180, 0, 65, 21, 5, 46, 100, 184, 1, 67, 42]
abbrev dktX1_isFit_2 : List UInt8 := dkwX1_isFit_2 ++ dktX1_isFit_3
def dkwX1_isFit_1 : List UInt8 := [16, 24, 163, 0, 83, 3, 54, 5, 21, 5, 42, 180, 1, 64, 162, 0, 51, 42, 180, 0, 62, 21, 5, 46]
abbrev dktX1_isFit_1 : List UInt8 := dkwX1_isFit_1 ++ dktX1_isFit_2
def dkwX1_isFit_0 : List UInt8 := [42, 180, 0, 58, 42, 180, 0, 26, 27, 50, 32, 42, 180, 0, 232, 3, 182, 1, 1, 3, 54, 4, 21, 4]
abbrev dktX1_isFit_0 : List UInt8 := dkwX1_isFit_0 ++ dktX1_isFit_1
theorem dksX1_isFit_0 : cX1_isFit.data.toList.drop 0 = dktX1_isFit_0 := by decide +kernel
theorem dksX1_isFit_1 : cX1_isFit.data.toList.drop 24 = dktX1_isFit_1 := dk_seg dksX1_isFit_0 24 rfl rfl
theorem dksX1_isFit_2 : cX1_isFit.data.toList.drop 48 = dktX1_isFit_2 := dk_seg dksX1_isFit_1 24 rfl rfl
theorem dksX1_isFit_3 : cX1_isFit.data.toList.drop 72 = dktX1_isFit_3 := dk_seg dksX1_isFit_2 24 rfl rfl
theorem dksX1_isFit_4 : cX1_isFit.data.toList.drop 96 = dktX1_isFit_4 := dk_seg dksX1_isFit_3 24 rfl rfl
theorem dX1_isFit_0 : decode cX1_isFit 0 = .ok (.aload_n 0, 1) := dk_42 (dk_at dksX1_isFit_0 0 rfl rfl)
theorem dX1_isFit_1 : decode cX1_isFit 1 = .ok (.getfield 58, 3) := dk_180 0 58 (dk_at dksX1_isFit_0 1 rfl rfl)
theorem dX1_isFit_4 : decode cX1_isFit 4 = .ok (.aload_n 0, 1) := dk_42 (dk_at dksX1_isFit_0 4 rfl rfl)
theorem dX1_isFit_5 : decode cX1_isFit 5 = .ok (.getfield 26, 3) := dk_180 0 26 (dk_at dksX1_isFit_0 5 rfl rfl)
theorem dX1_isFit_8 : decode cX1_isFit 8 = .ok (.iload_n 1, 1) := dk_27 (dk_at dksX1_isFit_0 8 rfl rfl)
theorem dX1_isFit_9 : decode cX1_isFit 9 = .ok (.aaload, 1) := dk_50 (dk_at dksX1_isFit_0 9 rfl rfl)
theorem dX1_isFit_10 : decode cX1_isFit 10 = .ok (.lload_n 2, 1) := dk_32 (dk_at dksX1_isFit_0 10 rfl rfl)
theorem dX1_isFit_11 : decode cX1_isFit 11 = .ok (.aload_n 0, 1) := dk_42 (dk_at dksX1_isFit_0 11 rfl rfl)
theorem dX1_isFit_12 : decode cX1_isFit 12 = .ok (.getfield 232, 3) := dk_180 0 232 (dk_at dksX1_isFit_0 12 rfl rfl)
theorem dX1_isFit_15 : decode cX1_isFit 15 = .ok (.iconst 0, 1) := dk_3 (dk_at dksX1_isFit_0 15 rfl rfl)
theorem dX1_isFit_16 : decode cX1_isFit 16 = .ok (.invokevirtual 257, 3) := dk_182 1 1 (dk_at dksX1_isFit_0 16 rfl rfl)
theorem dX1_isFit_19 : decode cX1_isFit 19 = .ok (.iconst 0, 1) := dk_3 (dk_at dksX1_isFit_0 19 rfl rfl)
theorem dX1_isFit_20 : decode cX1_isFit 20 = .ok (.istore 4, 2) := dk_54 4 (dk_at dksX1_isFit_0 20 rfl rfl)
theorem dX1_isFit_22 : decode cX1_isFit 22 = .ok (.iload 4, 2) := dk_21 4 (dk_at dksX1_isFit_0 22 rfl rfl)
theorem dX1_isFit_24 : decode cX1_isFit 24 = .ok (.bipush 24, 2) := dk_16 24 (dk_at dksX1_isFit_1 0 rfl rfl)
theorem dX1_isFit_26 : decode cX1_isFit 26 = .ok (.if_icmp .gt 83, 3) := dk_163 0 83 (dk_at dksX1_isFit_1 2 rfl rfl)
theorem dX1_isFit_29 : decode cX1_isFit 29 = .ok (.iconst 0, 1) := dk_3 (dk_at dksX1_isFit_1 5 rfl rfl)
theorem dX1_isFit_30 : decode cX1_isFit 30 = .ok (.istore 5, 2) := dk_54 5 (dk_at dksX1_isFit_1 6 rfl rfl)
theorem dX1_isFit_32 : decode cX1_isFit 32 = .ok (.iload 5, 2) := dk_21 5 (dk_at dksX1_isFit_1 8 rfl rfl)
theorem dX1_isFit_34 : decode cX1_isFit 34 = .ok (.aload_n 0, 1) := dk_42 (dk_at dksX1_isFit_1 10 rfl rfl)
theorem dX1_isFit_35 : decode cX1_isFit 35 = .ok (.getfield 320, 3) := dk_180 1 64 (dk_at dksX1_isFit_1 11 rfl rfl)
theorem dX1_isFit_38 : decode cX1_isFit 38 = .ok (.if_icmp .ge 51, 3) := dk_162 0 51 (dk_at dksX1_isFit_1 14 rfl rfl)
theorem dX1_isFit_41 : decode cX1_isFit 41 = .ok (.aload_n 0, 1) := dk_42 (dk_at dksX1_isFit_1 17 rfl rfl)
theorem dX1_isFit_42 : decode cX1_isFit 42 = .ok (.getfield 62, 3) := dk_180 0 62 (dk_at dksX1_isFit_1 18 rfl rfl)
theorem dX1_isFit_45 : decode cX1_isFit 45 = .ok (.iload 5, 2) := dk_21 5 (dk_at dksX1_isFit_1 21 rfl rfl)
theorem dX1_isFit_47 : decode cX1_isFit 47 = .ok (.iaload, 1) := dk_46 (dk_at dksX1_isFit_1 23 rfl rfl)
theorem dX1_isFit_48 : decode cX1_isFit 48 = .ok (.iload 4, 2) := dk_21 4 (dk_at dksX1_isFit_2 0 rfl rfl)
theorem dX1_isFit_50 : decode cX1_isFit 50 = .ok (.if_icmp .ne 33, 3) := dk_160 0 33 (dk_at dksX1_isFit_2 2 rfl rfl)
theorem dX1_isFit_53 : decode cX1_isFit 53 = .ok (.aload_n 0, 1) := dk_42 (dk_at dksX1_isFit_2 5 rfl rfl)
theorem dX1_isFit_54 : decode cX1_isFit 54 = .ok (.getfield 58, 3) := dk_180 0 58 (dk_at dksX1_isFit_2 6 rfl rfl)
theorem dX1_isFit_57 : decode cX1_isFit 57 = .ok (.invokevirtual 293, 3) := dk_182 1 37 (dk_at dksX1_isFit_2 9 rfl rfl)
theorem dX1_isFit_60 : decode cX1_isFit 60 = .ok (.aload_n 0, 1) := dk_42 (dk_at dksX1_isFit_2 12 rfl rfl)
theorem dX1_isFit_61 : decode cX1_isFit 61 = .ok (.getfield 65, 3) := dk_180 0 65 (dk_at dksX1_isFit_2 13 rfl rfl)
theorem dX1_isFit_64 : decode cX1_isFit 64 = .ok (.iload 5, 2) := dk_21 5 (dk_at dksX1_isFit_2 16 rfl rfl)
theorem dX1_isFit_66 : decode cX1_isFit 66 = .ok (.iaload, 1) := dk_46 (dk_at dksX1_isFit_2 18 rfl rfl)
theorem dX1_isFit_67 : decode cX1_isFit 67 = .ok (.isub, 1) := dk_100 (dk_at dksX1_isFit_2 19 rfl rfl)
theorem dX1_isFit_68 : decode cX1_isFit 68 = .ok (.invokestatic 323, 3) := dk_184 1 67 (dk_at dksX1_isFit_2 20 rfl rfl)
theorem dX1_isFit_71 : decode cX1_isFit 71 = .ok (.aload_n 0, 1) := dk_42 (dk_at dksX1_isFit_2 23 rfl rfl)
theorem dX1_isFit_72 : decode cX1_isFit 72 = .ok (.getfield 68, 3) := dk_180 0 68 (dk_at dksX1_isFit_3 0 rfl rfl)
theorem dX1_isFit_75 : decode cX1_isFit 75 = .ok (.iload 5, 2) := dk_21 5 (dk_at dksX1_isFit_3 3 rfl rfl)
theorem dX1_isFit_77 : decode cX1_isFit 77 = .ok (.iaload, 1) := dk_46 (dk_at dksX1_isFit_3 5 rfl rfl)
theorem dX1_isFit_78 : decode cX1_isFit 78 = .ok (.if_icmp .le 5, 3) := dk_164 0 5 (dk_at dksX1_isFit_3 6 rfl rfl)
theorem dX1_isFit_81 : decode cX1_isFit 81 = .ok (.iconst 0, 1) := dk_3 (dk_at dksX1_isFit_3 9 rfl rfl)
theorem dX1_isFit_82 : decode cX1_isFit 82 = .ok (.ireturn, 1) := dk_172 (dk_at dksX1_isFit_3 10 rfl rfl)
theorem dX1_isFit_83 : decode cX1_isFit 83 = .ok (.iinc 5 1, 3) := dk_132 5 1 (dk_at dksX1_isFit_3 11 rfl rfl)
theorem dX1_isFit_86 : decode cX1_isFit 86 = .ok (.goto (-54), 3) := dk_167 255 202 (dk_at dksX1_isFit_3 14 rfl rfl)
theorem dX1_isFit_89 : decode cX1_isFit 89 = .ok (.iload 4, 2) := dk_21 4 (dk_at dksX1_isFit_3 17 rfl rfl)
theorem dX1_isFit_91 : decode cX1_isFit 91 = .ok (.bipush 24, 2) := dk_16 24 (dk_at dksX1_isFit_3 19 rfl rfl)
theorem dX1_isFit_93 : decode cX1_isFit 93 = .ok (.if_icmp .ge 10, 3) := dk_162 0 10 (dk_at dksX1_isFit_3 21 rfl rfl)
theorem dX1_isFit_96 : decode cX1_isFit 96 = .ok (.aload_n 0, 1) := dk_42 (dk_at dksX1_isFit_4 0 rfl rfl)
theorem dX1_isFit_97 : decode cX1_isFit 97 = .ok (.getfield 58, 3) := dk_180 0 58 (dk_at dksX1_isFit_4 1 rfl rfl)
theorem dX1_isFit_100 : decode cX1_isFit 100 = .ok (.invokevirtual 328, 3) := dk_182 1 72 (dk_at dksX1_isFit_4 4 rfl rfl)
theorem dX1_isFit_103 : decode cX1_isFit 103 = .ok (.iinc 4 1, 3) := dk_132 4 1 (dk_at dksX1_isFit_4 7 rfl rfl)
theorem dX1_isFit_106 : decode cX1_isFit 106 = .ok (.goto (-84), 3) := dk_167 255 172 (dk_at dksX1_isFit_4 10 rfl rfl)
theorem dX1_isFit_109 : decode cX1_isFit 109 = .ok (.iconst 1, 1) := dk_4 (dk_at dksX1_isFit_4 13 rfl rfl)
theorem dX1_isFit_110 : decode cX1_isFit 110 = .ok (.ireturn, 1) := dk_172 (dk_at dksX1_isFit_4 14 rfl rfl)
abbrev cX1_whatIf : ByteArray := prog_1_method_47_code
def yX1_whatIf : MethodName := ⟨RX1, "whatIf", "(IJI)I"⟩
def dkwX1_whatIf_2 : List UInt8 := [182, 1, 19, 21, 5, 42, 180, 0, 58, 182, 1, 37, 100, 172]
abbrev dktX1_whatIf_2 : List UInt8 := dkwX1_whatIf_2 ++ []
def dkwX1_whatIf_1 : List UInt8 := [27, 32, 16, 24, 21, 4, 182, 1, 19, 42, 180, 0, 58, 182, 1, 37, 54, 5, 42, 27, 32, 16, 24, 3]
abbrev dktX1_whatIf_1 : List UInt8 := dkwX1_whatIf_1 ++ dktX1_whatIf_2
def dkwX1_whatIf_0 : List UInt8 := [42, 27, 182, 1, 8, 153, 0, 14, 21, 4, 3, 16, 7, 184, 0, 228, 154, 0, 7, 17, 252, 24, 172, 42]
abbrev dktX1_whatIf_0 : List UInt8 := dkwX1_whatIf_0 ++ dktX1_whatIf_1
theorem dksX1_whatIf_0 : cX1_whatIf.data.toList.drop 0 = dktX1_whatIf_0 := by decide +kernel
theorem dksX1_whatIf_1 : cX1_whatIf.data.toList.drop 24 = dktX1_whatIf_1 := dk_seg dksX1_whatIf_0 24 rfl rfl
theorem dksX1_whatIf_2 : cX1_whatIf.data.toList.drop 48 = dktX1_whatIf_2 := dk_seg dksX1_whatIf_1 24 rfl rfl
theorem dX1_whatIf_0 : decode cX1_whatIf 0 = .ok (.aload_n 0, 1) := dk_42 (dk_at dksX1_whatIf_0 0 rfl rfl)
theorem dX1_whatIf_1 : decode cX1_whatIf 1 = .ok (.iload_n 1, 1) := dk_27 (dk_at dksX1_whatIf_0 1 rfl rfl)
theorem dX1_whatIf_2 : decode cX1_whatIf 2 = .ok (.invokevirtual 264, 3) := dk_182 1 8 (dk_at dksX1_whatIf_0 2 rfl rfl)
theorem dX1_whatIf_5 : decode cX1_whatIf 5 = .ok (.ifCond .eq 14, 3) := dk_153 0 14 (dk_at dksX1_whatIf_0 5 rfl rfl)
theorem dX1_whatIf_8 : decode cX1_whatIf 8 = .ok (.iload 4, 2) := dk_21 4 (dk_at dksX1_whatIf_0 8 rfl rfl)
theorem dX1_whatIf_10 : decode cX1_whatIf 10 = .ok (.iconst 0, 1) := dk_3 (dk_at dksX1_whatIf_0 10 rfl rfl)
theorem dX1_whatIf_11 : decode cX1_whatIf 11 = .ok (.bipush 7, 2) := dk_16 7 (dk_at dksX1_whatIf_0 11 rfl rfl)
theorem dX1_whatIf_13 : decode cX1_whatIf 13 = .ok (.invokestatic 228, 3) := dk_184 0 228 (dk_at dksX1_whatIf_0 13 rfl rfl)
theorem dX1_whatIf_16 : decode cX1_whatIf 16 = .ok (.ifCond .ne 7, 3) := dk_154 0 7 (dk_at dksX1_whatIf_0 16 rfl rfl)
theorem dX1_whatIf_19 : decode cX1_whatIf 19 = .ok (.sipush (-1000), 3) := dk_17 252 24 (dk_at dksX1_whatIf_0 19 rfl rfl)
theorem dX1_whatIf_22 : decode cX1_whatIf 22 = .ok (.ireturn, 1) := dk_172 (dk_at dksX1_whatIf_0 22 rfl rfl)
theorem dX1_whatIf_23 : decode cX1_whatIf 23 = .ok (.aload_n 0, 1) := dk_42 (dk_at dksX1_whatIf_0 23 rfl rfl)
theorem dX1_whatIf_24 : decode cX1_whatIf 24 = .ok (.iload_n 1, 1) := dk_27 (dk_at dksX1_whatIf_1 0 rfl rfl)
theorem dX1_whatIf_25 : decode cX1_whatIf 25 = .ok (.lload_n 2, 1) := dk_32 (dk_at dksX1_whatIf_1 1 rfl rfl)
theorem dX1_whatIf_26 : decode cX1_whatIf 26 = .ok (.bipush 24, 2) := dk_16 24 (dk_at dksX1_whatIf_1 2 rfl rfl)
theorem dX1_whatIf_28 : decode cX1_whatIf 28 = .ok (.iload 4, 2) := dk_21 4 (dk_at dksX1_whatIf_1 4 rfl rfl)
theorem dX1_whatIf_30 : decode cX1_whatIf 30 = .ok (.invokevirtual 275, 3) := dk_182 1 19 (dk_at dksX1_whatIf_1 6 rfl rfl)
theorem dX1_whatIf_33 : decode cX1_whatIf 33 = .ok (.aload_n 0, 1) := dk_42 (dk_at dksX1_whatIf_1 9 rfl rfl)
theorem dX1_whatIf_34 : decode cX1_whatIf 34 = .ok (.getfield 58, 3) := dk_180 0 58 (dk_at dksX1_whatIf_1 10 rfl rfl)
theorem dX1_whatIf_37 : decode cX1_whatIf 37 = .ok (.invokevirtual 293, 3) := dk_182 1 37 (dk_at dksX1_whatIf_1 13 rfl rfl)
theorem dX1_whatIf_40 : decode cX1_whatIf 40 = .ok (.istore 5, 2) := dk_54 5 (dk_at dksX1_whatIf_1 16 rfl rfl)
theorem dX1_whatIf_42 : decode cX1_whatIf 42 = .ok (.aload_n 0, 1) := dk_42 (dk_at dksX1_whatIf_1 18 rfl rfl)
theorem dX1_whatIf_43 : decode cX1_whatIf 43 = .ok (.iload_n 1, 1) := dk_27 (dk_at dksX1_whatIf_1 19 rfl rfl)
theorem dX1_whatIf_44 : decode cX1_whatIf 44 = .ok (.lload_n 2, 1) := dk_32 (dk_at dksX1_whatIf_1 20 rfl rfl)
theorem dX1_whatIf_45 : decode cX1_whatIf 45 = .ok (.bipush 24, 2) := dk_16 24 (dk_at dksX1_whatIf_1 21 rfl rfl)
theorem dX1_whatIf_47 : decode cX1_whatIf 47 = .ok (.iconst 0, 1) := dk_3 (dk_at dksX1_whatIf_1 23 rfl rfl)
theorem dX1_whatIf_48 : decode cX1_whatIf 48 = .ok (.invokevirtual 275, 3) := dk_182 1 19 (dk_at dksX1_whatIf_2 0 rfl rfl)
theorem dX1_whatIf_51 : decode cX1_whatIf 51 = .ok (.iload 5, 2) := dk_21 5 (dk_at dksX1_whatIf_2 3 rfl rfl)
theorem dX1_whatIf_53 : decode cX1_whatIf 53 = .ok (.aload_n 0, 1) := dk_42 (dk_at dksX1_whatIf_2 5 rfl rfl)
theorem dX1_whatIf_54 : decode cX1_whatIf 54 = .ok (.getfield 58, 3) := dk_180 0 58 (dk_at dksX1_whatIf_2 6 rfl rfl)
theorem dX1_whatIf_57 : decode cX1_whatIf 57 = .ok (.invokevirtual 293, 3) := dk_182 1 37 (dk_at dksX1_whatIf_2 9 rfl rfl)
theorem dX1_whatIf_60 : decode cX1_whatIf 60 = .ok (.isub, 1) := dk_100 (dk_at dksX1_whatIf_2 12 rfl rfl)
theorem dX1_whatIf_61 : decode cX1_whatIf 61 = .ok (.ireturn, 1) := dk_172 (dk_at dksX1_whatIf_2 13 rfl rfl)
abbrev cX1_trial : ByteArray := prog_1_method_48_code
def yX1_trial : MethodName := ⟨RX1, "trial", "(II)I"⟩
def dkwX1_trial_2 : List UInt8 := [180, 1, 79, 28, 79, 42, 89, 180, 1, 79, 4, 96, 181, 1, 79, 42, 180, 1, 79, 4, 100, 172]
abbrev dktX1_trial_2 : List UInt8 := dkwX1_trial_2 ++ []
def dkwX1_trial_1 : List UInt8 := [16, 6, 160, 0, 5, 2, 172, 42, 180, 0, 71, 42, 180, 1, 79, 27, 79, 42, 180, 0, 74, 42]
abbrev dktX1_trial_1 : List UInt8 := dkwX1_trial_1 ++ dktX1_trial_2
def dkwX1_trial_0 : List UInt8 := [27, 4, 16, 16, 184, 0, 228, 153, 0, 22, 28, 4, 16, 24, 184, 0, 228, 153, 0, 12, 42, 180, 1, 79]
abbrev dktX1_trial_0 : List UInt8 := dkwX1_trial_0 ++ dktX1_trial_1
theorem dksX1_trial_0 : cX1_trial.data.toList.drop 0 = dktX1_trial_0 := by decide +kernel
theorem dksX1_trial_1 : cX1_trial.data.toList.drop 24 = dktX1_trial_1 := dk_seg dksX1_trial_0 24 rfl rfl
theorem dksX1_trial_2 : cX1_trial.data.toList.drop 46 = dktX1_trial_2 := dk_seg dksX1_trial_1 22 rfl rfl
theorem dX1_trial_0 : decode cX1_trial 0 = .ok (.iload_n 1, 1) := dk_27 (dk_at dksX1_trial_0 0 rfl rfl)
theorem dX1_trial_1 : decode cX1_trial 1 = .ok (.iconst 1, 1) := dk_4 (dk_at dksX1_trial_0 1 rfl rfl)
theorem dX1_trial_2 : decode cX1_trial 2 = .ok (.bipush 16, 2) := dk_16 16 (dk_at dksX1_trial_0 2 rfl rfl)
theorem dX1_trial_4 : decode cX1_trial 4 = .ok (.invokestatic 228, 3) := dk_184 0 228 (dk_at dksX1_trial_0 4 rfl rfl)
theorem dX1_trial_7 : decode cX1_trial 7 = .ok (.ifCond .eq 22, 3) := dk_153 0 22 (dk_at dksX1_trial_0 7 rfl rfl)
theorem dX1_trial_10 : decode cX1_trial 10 = .ok (.iload_n 2, 1) := dk_28 (dk_at dksX1_trial_0 10 rfl rfl)
theorem dX1_trial_11 : decode cX1_trial 11 = .ok (.iconst 1, 1) := dk_4 (dk_at dksX1_trial_0 11 rfl rfl)
theorem dX1_trial_12 : decode cX1_trial 12 = .ok (.bipush 24, 2) := dk_16 24 (dk_at dksX1_trial_0 12 rfl rfl)
theorem dX1_trial_14 : decode cX1_trial 14 = .ok (.invokestatic 228, 3) := dk_184 0 228 (dk_at dksX1_trial_0 14 rfl rfl)
theorem dX1_trial_17 : decode cX1_trial 17 = .ok (.ifCond .eq 12, 3) := dk_153 0 12 (dk_at dksX1_trial_0 17 rfl rfl)
theorem dX1_trial_20 : decode cX1_trial 20 = .ok (.aload_n 0, 1) := dk_42 (dk_at dksX1_trial_0 20 rfl rfl)
theorem dX1_trial_21 : decode cX1_trial 21 = .ok (.getfield 335, 3) := dk_180 1 79 (dk_at dksX1_trial_0 21 rfl rfl)
theorem dX1_trial_24 : decode cX1_trial 24 = .ok (.bipush 6, 2) := dk_16 6 (dk_at dksX1_trial_1 0 rfl rfl)
theorem dX1_trial_26 : decode cX1_trial 26 = .ok (.if_icmp .ne 5, 3) := dk_160 0 5 (dk_at dksX1_trial_1 2 rfl rfl)
theorem dX1_trial_29 : decode cX1_trial 29 = .ok (.iconst (-1), 1) := dk_2 (dk_at dksX1_trial_1 5 rfl rfl)
theorem dX1_trial_30 : decode cX1_trial 30 = .ok (.ireturn, 1) := dk_172 (dk_at dksX1_trial_1 6 rfl rfl)
theorem dX1_trial_31 : decode cX1_trial 31 = .ok (.aload_n 0, 1) := dk_42 (dk_at dksX1_trial_1 7 rfl rfl)
theorem dX1_trial_32 : decode cX1_trial 32 = .ok (.getfield 71, 3) := dk_180 0 71 (dk_at dksX1_trial_1 8 rfl rfl)
theorem dX1_trial_35 : decode cX1_trial 35 = .ok (.aload_n 0, 1) := dk_42 (dk_at dksX1_trial_1 11 rfl rfl)
theorem dX1_trial_36 : decode cX1_trial 36 = .ok (.getfield 335, 3) := dk_180 1 79 (dk_at dksX1_trial_1 12 rfl rfl)
theorem dX1_trial_39 : decode cX1_trial 39 = .ok (.iload_n 1, 1) := dk_27 (dk_at dksX1_trial_1 15 rfl rfl)
theorem dX1_trial_40 : decode cX1_trial 40 = .ok (.iastore, 1) := dk_79 (dk_at dksX1_trial_1 16 rfl rfl)
theorem dX1_trial_41 : decode cX1_trial 41 = .ok (.aload_n 0, 1) := dk_42 (dk_at dksX1_trial_1 17 rfl rfl)
theorem dX1_trial_42 : decode cX1_trial 42 = .ok (.getfield 74, 3) := dk_180 0 74 (dk_at dksX1_trial_1 18 rfl rfl)
theorem dX1_trial_45 : decode cX1_trial 45 = .ok (.aload_n 0, 1) := dk_42 (dk_at dksX1_trial_1 21 rfl rfl)
theorem dX1_trial_46 : decode cX1_trial 46 = .ok (.getfield 335, 3) := dk_180 1 79 (dk_at dksX1_trial_2 0 rfl rfl)
theorem dX1_trial_49 : decode cX1_trial 49 = .ok (.iload_n 2, 1) := dk_28 (dk_at dksX1_trial_2 3 rfl rfl)
theorem dX1_trial_50 : decode cX1_trial 50 = .ok (.iastore, 1) := dk_79 (dk_at dksX1_trial_2 4 rfl rfl)
theorem dX1_trial_51 : decode cX1_trial 51 = .ok (.aload_n 0, 1) := dk_42 (dk_at dksX1_trial_2 5 rfl rfl)
theorem dX1_trial_52 : decode cX1_trial 52 = .ok (.dup, 1) := dk_89 (dk_at dksX1_trial_2 6 rfl rfl)
theorem dX1_trial_53 : decode cX1_trial 53 = .ok (.getfield 335, 3) := dk_180 1 79 (dk_at dksX1_trial_2 7 rfl rfl)
theorem dX1_trial_56 : decode cX1_trial 56 = .ok (.iconst 1, 1) := dk_4 (dk_at dksX1_trial_2 10 rfl rfl)
theorem dX1_trial_57 : decode cX1_trial 57 = .ok (.iadd, 1) := dk_96 (dk_at dksX1_trial_2 11 rfl rfl)
theorem dX1_trial_58 : decode cX1_trial 58 = .ok (.putfield 335, 3) := dk_181 1 79 (dk_at dksX1_trial_2 12 rfl rfl)
theorem dX1_trial_61 : decode cX1_trial 61 = .ok (.aload_n 0, 1) := dk_42 (dk_at dksX1_trial_2 15 rfl rfl)
theorem dX1_trial_62 : decode cX1_trial 62 = .ok (.getfield 335, 3) := dk_180 1 79 (dk_at dksX1_trial_2 16 rfl rfl)
theorem dX1_trial_65 : decode cX1_trial 65 = .ok (.iconst 1, 1) := dk_4 (dk_at dksX1_trial_2 19 rfl rfl)
theorem dX1_trial_66 : decode cX1_trial 66 = .ok (.isub, 1) := dk_100 (dk_at dksX1_trial_2 20 rfl rfl)
theorem dX1_trial_67 : decode cX1_trial 67 = .ok (.ireturn, 1) := dk_172 (dk_at dksX1_trial_2 21 rfl rfl)
abbrev cX1_tells : ByteArray := prog_1_method_51_code
def yX1_tells : MethodName := ⟨RX1, "tells", "(IIJ)I"⟩
def dkwX1_tells_1 : List UInt8 := [167, 0, 4, 2, 172]
abbrev dktX1_tells_1 : List UInt8 := dkwX1_tells_1 ++ []
def dkwX1_tells_0 : List UInt8 := [42, 27, 182, 1, 88, 153, 0, 21, 42, 28, 182, 1, 8, 153, 0, 13, 42, 27, 28, 33, 182, 1, 91]
abbrev dktX1_tells_0 : List UInt8 := dkwX1_tells_0 ++ dktX1_tells_1
theorem dksX1_tells_0 : cX1_tells.data.toList.drop 0 = dktX1_tells_0 := by decide +kernel
theorem dksX1_tells_1 : cX1_tells.data.toList.drop 23 = dktX1_tells_1 := dk_seg dksX1_tells_0 23 rfl rfl
theorem dX1_tells_0 : decode cX1_tells 0 = .ok (.aload_n 0, 1) := dk_42 (dk_at dksX1_tells_0 0 rfl rfl)
theorem dX1_tells_1 : decode cX1_tells 1 = .ok (.iload_n 1, 1) := dk_27 (dk_at dksX1_tells_0 1 rfl rfl)
theorem dX1_tells_2 : decode cX1_tells 2 = .ok (.invokevirtual 344, 3) := dk_182 1 88 (dk_at dksX1_tells_0 2 rfl rfl)
theorem dX1_tells_5 : decode cX1_tells 5 = .ok (.ifCond .eq 21, 3) := dk_153 0 21 (dk_at dksX1_tells_0 5 rfl rfl)
theorem dX1_tells_8 : decode cX1_tells 8 = .ok (.aload_n 0, 1) := dk_42 (dk_at dksX1_tells_0 8 rfl rfl)
theorem dX1_tells_9 : decode cX1_tells 9 = .ok (.iload_n 2, 1) := dk_28 (dk_at dksX1_tells_0 9 rfl rfl)
theorem dX1_tells_10 : decode cX1_tells 10 = .ok (.invokevirtual 264, 3) := dk_182 1 8 (dk_at dksX1_tells_0 10 rfl rfl)
theorem dX1_tells_13 : decode cX1_tells 13 = .ok (.ifCond .eq 13, 3) := dk_153 0 13 (dk_at dksX1_tells_0 13 rfl rfl)
theorem dX1_tells_16 : decode cX1_tells 16 = .ok (.aload_n 0, 1) := dk_42 (dk_at dksX1_tells_0 16 rfl rfl)
theorem dX1_tells_17 : decode cX1_tells 17 = .ok (.iload_n 1, 1) := dk_27 (dk_at dksX1_tells_0 17 rfl rfl)
theorem dX1_tells_18 : decode cX1_tells 18 = .ok (.iload_n 2, 1) := dk_28 (dk_at dksX1_tells_0 18 rfl rfl)
theorem dX1_tells_19 : decode cX1_tells 19 = .ok (.lload_n 3, 1) := dk_33 (dk_at dksX1_tells_0 19 rfl rfl)
theorem dX1_tells_20 : decode cX1_tells 20 = .ok (.invokevirtual 347, 3) := dk_182 1 91 (dk_at dksX1_tells_0 20 rfl rfl)
theorem dX1_tells_23 : decode cX1_tells 23 = .ok (.goto 4, 3) := dk_167 0 4 (dk_at dksX1_tells_1 0 rfl rfl)
theorem dX1_tells_26 : decode cX1_tells 26 = .ok (.iconst (-1), 1) := dk_2 (dk_at dksX1_tells_1 3 rfl rfl)
theorem dX1_tells_27 : decode cX1_tells 27 = .ok (.ireturn, 1) := dk_172 (dk_at dksX1_tells_1 4 rfl rfl)
abbrev cX1_isTrial : ByteArray := prog_1_method_50_code
def yX1_isTrial : MethodName := ⟨RX1, "isTrial", "(I)Z"⟩
def dkwX1_isTrial_0 : List UInt8 := [27, 3, 42, 180, 1, 79, 4, 100, 184, 0, 228, 172]
abbrev dktX1_isTrial_0 : List UInt8 := dkwX1_isTrial_0 ++ []
theorem dksX1_isTrial_0 : cX1_isTrial.data.toList.drop 0 = dktX1_isTrial_0 := by decide +kernel
theorem dX1_isTrial_0 : decode cX1_isTrial 0 = .ok (.iload_n 1, 1) := dk_27 (dk_at dksX1_isTrial_0 0 rfl rfl)
theorem dX1_isTrial_1 : decode cX1_isTrial 1 = .ok (.iconst 0, 1) := dk_3 (dk_at dksX1_isTrial_0 1 rfl rfl)
theorem dX1_isTrial_2 : decode cX1_isTrial 2 = .ok (.aload_n 0, 1) := dk_42 (dk_at dksX1_isTrial_0 2 rfl rfl)
theorem dX1_isTrial_3 : decode cX1_isTrial 3 = .ok (.getfield 335, 3) := dk_180 1 79 (dk_at dksX1_isTrial_0 3 rfl rfl)
theorem dX1_isTrial_6 : decode cX1_isTrial 6 = .ok (.iconst 1, 1) := dk_4 (dk_at dksX1_isTrial_0 6 rfl rfl)
theorem dX1_isTrial_7 : decode cX1_isTrial 7 = .ok (.isub, 1) := dk_100 (dk_at dksX1_isTrial_0 7 rfl rfl)
theorem dX1_isTrial_8 : decode cX1_isTrial 8 = .ok (.invokestatic 228, 3) := dk_184 0 228 (dk_at dksX1_isTrial_0 8 rfl rfl)
theorem dX1_isTrial_11 : decode cX1_isTrial 11 = .ok (.ireturn, 1) := dk_172 (dk_at dksX1_isTrial_0 11 rfl rfl)
abbrev cX1_toldBy : ByteArray := prog_1_method_49_code
def yX1_toldBy : MethodName := ⟨RX1, "toldBy", "(IIJ)I"⟩
def dkwX1_toldBy_2 : List UInt8 := [182, 1, 5, 42, 180, 0, 58, 182, 1, 37, 172]
abbrev dktX1_toldBy_2 : List UInt8 := dkwX1_toldBy_2 ++ []
def dkwX1_toldBy_1 : List UInt8 := [4, 182, 1, 1, 42, 180, 0, 58, 3, 181, 1, 85, 42, 180, 0, 58, 42, 180, 0, 74, 27, 46]
abbrev dktX1_toldBy_1 : List UInt8 := dkwX1_toldBy_1 ++ dktX1_toldBy_2
def dkwX1_toldBy_0 : List UInt8 := [42, 180, 0, 58, 42, 180, 0, 26, 28, 50, 33, 42, 180, 0, 232, 42, 180, 0, 71, 27, 46, 184, 1, 82]
abbrev dktX1_toldBy_0 : List UInt8 := dkwX1_toldBy_0 ++ dktX1_toldBy_1
theorem dksX1_toldBy_0 : cX1_toldBy.data.toList.drop 0 = dktX1_toldBy_0 := by decide +kernel
theorem dksX1_toldBy_1 : cX1_toldBy.data.toList.drop 24 = dktX1_toldBy_1 := dk_seg dksX1_toldBy_0 24 rfl rfl
theorem dksX1_toldBy_2 : cX1_toldBy.data.toList.drop 46 = dktX1_toldBy_2 := dk_seg dksX1_toldBy_1 22 rfl rfl
theorem dX1_toldBy_0 : decode cX1_toldBy 0 = .ok (.aload_n 0, 1) := dk_42 (dk_at dksX1_toldBy_0 0 rfl rfl)
theorem dX1_toldBy_1 : decode cX1_toldBy 1 = .ok (.getfield 58, 3) := dk_180 0 58 (dk_at dksX1_toldBy_0 1 rfl rfl)
theorem dX1_toldBy_4 : decode cX1_toldBy 4 = .ok (.aload_n 0, 1) := dk_42 (dk_at dksX1_toldBy_0 4 rfl rfl)
theorem dX1_toldBy_5 : decode cX1_toldBy 5 = .ok (.getfield 26, 3) := dk_180 0 26 (dk_at dksX1_toldBy_0 5 rfl rfl)
theorem dX1_toldBy_8 : decode cX1_toldBy 8 = .ok (.iload_n 2, 1) := dk_28 (dk_at dksX1_toldBy_0 8 rfl rfl)
theorem dX1_toldBy_9 : decode cX1_toldBy 9 = .ok (.aaload, 1) := dk_50 (dk_at dksX1_toldBy_0 9 rfl rfl)
theorem dX1_toldBy_10 : decode cX1_toldBy 10 = .ok (.lload_n 3, 1) := dk_33 (dk_at dksX1_toldBy_0 10 rfl rfl)
theorem dX1_toldBy_11 : decode cX1_toldBy 11 = .ok (.aload_n 0, 1) := dk_42 (dk_at dksX1_toldBy_0 11 rfl rfl)
theorem dX1_toldBy_12 : decode cX1_toldBy 12 = .ok (.getfield 232, 3) := dk_180 0 232 (dk_at dksX1_toldBy_0 12 rfl rfl)
theorem dX1_toldBy_15 : decode cX1_toldBy 15 = .ok (.aload_n 0, 1) := dk_42 (dk_at dksX1_toldBy_0 15 rfl rfl)
theorem dX1_toldBy_16 : decode cX1_toldBy 16 = .ok (.getfield 71, 3) := dk_180 0 71 (dk_at dksX1_toldBy_0 16 rfl rfl)
theorem dX1_toldBy_19 : decode cX1_toldBy 19 = .ok (.iload_n 1, 1) := dk_27 (dk_at dksX1_toldBy_0 19 rfl rfl)
theorem dX1_toldBy_20 : decode cX1_toldBy 20 = .ok (.iaload, 1) := dk_46 (dk_at dksX1_toldBy_0 20 rfl rfl)
theorem dX1_toldBy_21 : decode cX1_toldBy 21 = .ok (.invokestatic 338, 3) := dk_184 1 82 (dk_at dksX1_toldBy_0 21 rfl rfl)
theorem dX1_toldBy_24 : decode cX1_toldBy 24 = .ok (.iconst 1, 1) := dk_4 (dk_at dksX1_toldBy_1 0 rfl rfl)
theorem dX1_toldBy_25 : decode cX1_toldBy 25 = .ok (.invokevirtual 257, 3) := dk_182 1 1 (dk_at dksX1_toldBy_1 1 rfl rfl)
theorem dX1_toldBy_28 : decode cX1_toldBy 28 = .ok (.aload_n 0, 1) := dk_42 (dk_at dksX1_toldBy_1 4 rfl rfl)
theorem dX1_toldBy_29 : decode cX1_toldBy 29 = .ok (.getfield 58, 3) := dk_180 0 58 (dk_at dksX1_toldBy_1 5 rfl rfl)
theorem dX1_toldBy_32 : decode cX1_toldBy 32 = .ok (.iconst 0, 1) := dk_3 (dk_at dksX1_toldBy_1 8 rfl rfl)
theorem dX1_toldBy_33 : decode cX1_toldBy 33 = .ok (.putfield 341, 3) := dk_181 1 85 (dk_at dksX1_toldBy_1 9 rfl rfl)
theorem dX1_toldBy_36 : decode cX1_toldBy 36 = .ok (.aload_n 0, 1) := dk_42 (dk_at dksX1_toldBy_1 12 rfl rfl)
theorem dX1_toldBy_37 : decode cX1_toldBy 37 = .ok (.getfield 58, 3) := dk_180 0 58 (dk_at dksX1_toldBy_1 13 rfl rfl)
theorem dX1_toldBy_40 : decode cX1_toldBy 40 = .ok (.aload_n 0, 1) := dk_42 (dk_at dksX1_toldBy_1 16 rfl rfl)
theorem dX1_toldBy_41 : decode cX1_toldBy 41 = .ok (.getfield 74, 3) := dk_180 0 74 (dk_at dksX1_toldBy_1 17 rfl rfl)
theorem dX1_toldBy_44 : decode cX1_toldBy 44 = .ok (.iload_n 1, 1) := dk_27 (dk_at dksX1_toldBy_1 20 rfl rfl)
theorem dX1_toldBy_45 : decode cX1_toldBy 45 = .ok (.iaload, 1) := dk_46 (dk_at dksX1_toldBy_1 21 rfl rfl)
theorem dX1_toldBy_46 : decode cX1_toldBy 46 = .ok (.invokevirtual 261, 3) := dk_182 1 5 (dk_at dksX1_toldBy_2 0 rfl rfl)
theorem dX1_toldBy_49 : decode cX1_toldBy 49 = .ok (.aload_n 0, 1) := dk_42 (dk_at dksX1_toldBy_2 3 rfl rfl)
theorem dX1_toldBy_50 : decode cX1_toldBy 50 = .ok (.getfield 58, 3) := dk_180 0 58 (dk_at dksX1_toldBy_2 4 rfl rfl)
theorem dX1_toldBy_53 : decode cX1_toldBy 53 = .ok (.invokevirtual 293, 3) := dk_182 1 37 (dk_at dksX1_toldBy_2 7 rfl rfl)
theorem dX1_toldBy_56 : decode cX1_toldBy 56 = .ok (.ireturn, 1) := dk_172 (dk_at dksX1_toldBy_2 10 rfl rfl)
abbrev cX1_parted : ByteArray := prog_1_method_54_code
def yX1_parted : MethodName := ⟨RX1, "parted", "(IIJ)I"⟩
def dkwX1_parted_1 : List UInt8 := [167, 0, 4, 2, 172]
abbrev dktX1_parted_1 : List UInt8 := dkwX1_parted_1 ++ []
def dkwX1_parted_0 : List UInt8 := [42, 27, 182, 1, 88, 153, 0, 21, 42, 28, 182, 1, 95, 153, 0, 13, 42, 27, 28, 33, 182, 1, 98]
abbrev dktX1_parted_0 : List UInt8 := dkwX1_parted_0 ++ dktX1_parted_1
theorem dksX1_parted_0 : cX1_parted.data.toList.drop 0 = dktX1_parted_0 := by decide +kernel
theorem dksX1_parted_1 : cX1_parted.data.toList.drop 23 = dktX1_parted_1 := dk_seg dksX1_parted_0 23 rfl rfl
theorem dX1_parted_0 : decode cX1_parted 0 = .ok (.aload_n 0, 1) := dk_42 (dk_at dksX1_parted_0 0 rfl rfl)
theorem dX1_parted_1 : decode cX1_parted 1 = .ok (.iload_n 1, 1) := dk_27 (dk_at dksX1_parted_0 1 rfl rfl)
theorem dX1_parted_2 : decode cX1_parted 2 = .ok (.invokevirtual 344, 3) := dk_182 1 88 (dk_at dksX1_parted_0 2 rfl rfl)
theorem dX1_parted_5 : decode cX1_parted 5 = .ok (.ifCond .eq 21, 3) := dk_153 0 21 (dk_at dksX1_parted_0 5 rfl rfl)
theorem dX1_parted_8 : decode cX1_parted 8 = .ok (.aload_n 0, 1) := dk_42 (dk_at dksX1_parted_0 8 rfl rfl)
theorem dX1_parted_9 : decode cX1_parted 9 = .ok (.iload_n 2, 1) := dk_28 (dk_at dksX1_parted_0 9 rfl rfl)
theorem dX1_parted_10 : decode cX1_parted 10 = .ok (.invokevirtual 351, 3) := dk_182 1 95 (dk_at dksX1_parted_0 10 rfl rfl)
theorem dX1_parted_13 : decode cX1_parted 13 = .ok (.ifCond .eq 13, 3) := dk_153 0 13 (dk_at dksX1_parted_0 13 rfl rfl)
theorem dX1_parted_16 : decode cX1_parted 16 = .ok (.aload_n 0, 1) := dk_42 (dk_at dksX1_parted_0 16 rfl rfl)
theorem dX1_parted_17 : decode cX1_parted 17 = .ok (.iload_n 1, 1) := dk_27 (dk_at dksX1_parted_0 17 rfl rfl)
theorem dX1_parted_18 : decode cX1_parted 18 = .ok (.iload_n 2, 1) := dk_28 (dk_at dksX1_parted_0 18 rfl rfl)
theorem dX1_parted_19 : decode cX1_parted 19 = .ok (.lload_n 3, 1) := dk_33 (dk_at dksX1_parted_0 19 rfl rfl)
theorem dX1_parted_20 : decode cX1_parted 20 = .ok (.invokevirtual 354, 3) := dk_182 1 98 (dk_at dksX1_parted_0 20 rfl rfl)
theorem dX1_parted_23 : decode cX1_parted 23 = .ok (.goto 4, 3) := dk_167 0 4 (dk_at dksX1_parted_1 0 rfl rfl)
theorem dX1_parted_26 : decode cX1_parted 26 = .ok (.iconst (-1), 1) := dk_2 (dk_at dksX1_parted_1 3 rfl rfl)
theorem dX1_parted_27 : decode cX1_parted 27 = .ok (.ireturn, 1) := dk_172 (dk_at dksX1_parted_1 4 rfl rfl)
abbrev cX1_areLaws : ByteArray := prog_1_method_53_code
def yX1_areLaws : MethodName := ⟨RX1, "areLaws", "(I)Z"⟩
def dkwX1_areLaws_0 : List UInt8 := [27, 155, 0, 16, 27, 42, 180, 0, 225, 122, 154, 0, 7, 4, 167, 0, 4, 3, 172]
abbrev dktX1_areLaws_0 : List UInt8 := dkwX1_areLaws_0 ++ []
theorem dksX1_areLaws_0 : cX1_areLaws.data.toList.drop 0 = dktX1_areLaws_0 := by decide +kernel
theorem dX1_areLaws_0 : decode cX1_areLaws 0 = .ok (.iload_n 1, 1) := dk_27 (dk_at dksX1_areLaws_0 0 rfl rfl)
theorem dX1_areLaws_1 : decode cX1_areLaws 1 = .ok (.ifCond .lt 16, 3) := dk_155 0 16 (dk_at dksX1_areLaws_0 1 rfl rfl)
theorem dX1_areLaws_4 : decode cX1_areLaws 4 = .ok (.iload_n 1, 1) := dk_27 (dk_at dksX1_areLaws_0 4 rfl rfl)
theorem dX1_areLaws_5 : decode cX1_areLaws 5 = .ok (.aload_n 0, 1) := dk_42 (dk_at dksX1_areLaws_0 5 rfl rfl)
theorem dX1_areLaws_6 : decode cX1_areLaws 6 = .ok (.getfield 225, 3) := dk_180 0 225 (dk_at dksX1_areLaws_0 6 rfl rfl)
theorem dX1_areLaws_9 : decode cX1_areLaws 9 = .ok (.ishr, 1) := dk_122 (dk_at dksX1_areLaws_0 9 rfl rfl)
theorem dX1_areLaws_10 : decode cX1_areLaws 10 = .ok (.ifCond .ne 7, 3) := dk_154 0 7 (dk_at dksX1_areLaws_0 10 rfl rfl)
theorem dX1_areLaws_13 : decode cX1_areLaws 13 = .ok (.iconst 1, 1) := dk_4 (dk_at dksX1_areLaws_0 13 rfl rfl)
theorem dX1_areLaws_14 : decode cX1_areLaws 14 = .ok (.goto 4, 3) := dk_167 0 4 (dk_at dksX1_areLaws_0 14 rfl rfl)
theorem dX1_areLaws_17 : decode cX1_areLaws 17 = .ok (.iconst 0, 1) := dk_3 (dk_at dksX1_areLaws_0 17 rfl rfl)
theorem dX1_areLaws_18 : decode cX1_areLaws 18 = .ok (.ireturn, 1) := dk_172 (dk_at dksX1_areLaws_0 18 rfl rfl)
abbrev cX1_partedBy : ByteArray := prog_1_method_52_code
def yX1_partedBy : MethodName := ⟨RX1, "partedBy", "(IIJ)I"⟩
def dkwX1_partedBy_4 : List UInt8 := [21, 5, 172]
abbrev dktX1_partedBy_4 : List UInt8 := dkwX1_partedBy_4 ++ []
def dkwX1_partedBy_3 : List UInt8 := [180, 0, 77, 21, 6, 46, 159, 0, 6, 132, 5, 1, 132, 7, 1, 167, 255, 216, 132, 6, 1, 167, 255, 171]
abbrev dktX1_partedBy_3 : List UInt8 := dkwX1_partedBy_3 ++ dktX1_partedBy_4
def dkwX1_partedBy_2 : List UInt8 := [21, 6, 162, 0, 39, 28, 21, 7, 122, 4, 126, 4, 160, 0, 23, 42, 180, 0, 77, 21, 7, 46, 42]
abbrev dktX1_partedBy_2 : List UInt8 := dkwX1_partedBy_2 ++ dktX1_partedBy_3
def dkwX1_partedBy_1 : List UInt8 := [167, 0, 64, 42, 180, 0, 77, 21, 6, 42, 27, 21, 6, 33, 182, 1, 91, 79, 3, 54, 7, 21, 7]
abbrev dktX1_partedBy_1 : List UInt8 := dkwX1_partedBy_1 ++ dktX1_partedBy_2
def dkwX1_partedBy_0 : List UInt8 := [3, 54, 5, 3, 54, 6, 21, 6, 42, 180, 0, 225, 162, 0, 82, 28, 21, 6, 122, 4, 126, 154, 0, 6]
abbrev dktX1_partedBy_0 : List UInt8 := dkwX1_partedBy_0 ++ dktX1_partedBy_1
theorem dksX1_partedBy_0 : cX1_partedBy.data.toList.drop 0 = dktX1_partedBy_0 := by decide +kernel
theorem dksX1_partedBy_1 : cX1_partedBy.data.toList.drop 24 = dktX1_partedBy_1 := dk_seg dksX1_partedBy_0 24 rfl rfl
theorem dksX1_partedBy_2 : cX1_partedBy.data.toList.drop 47 = dktX1_partedBy_2 := dk_seg dksX1_partedBy_1 23 rfl rfl
theorem dksX1_partedBy_3 : cX1_partedBy.data.toList.drop 70 = dktX1_partedBy_3 := dk_seg dksX1_partedBy_2 23 rfl rfl
theorem dksX1_partedBy_4 : cX1_partedBy.data.toList.drop 94 = dktX1_partedBy_4 := dk_seg dksX1_partedBy_3 24 rfl rfl
theorem dX1_partedBy_0 : decode cX1_partedBy 0 = .ok (.iconst 0, 1) := dk_3 (dk_at dksX1_partedBy_0 0 rfl rfl)
theorem dX1_partedBy_1 : decode cX1_partedBy 1 = .ok (.istore 5, 2) := dk_54 5 (dk_at dksX1_partedBy_0 1 rfl rfl)
theorem dX1_partedBy_3 : decode cX1_partedBy 3 = .ok (.iconst 0, 1) := dk_3 (dk_at dksX1_partedBy_0 3 rfl rfl)
theorem dX1_partedBy_4 : decode cX1_partedBy 4 = .ok (.istore 6, 2) := dk_54 6 (dk_at dksX1_partedBy_0 4 rfl rfl)
theorem dX1_partedBy_6 : decode cX1_partedBy 6 = .ok (.iload 6, 2) := dk_21 6 (dk_at dksX1_partedBy_0 6 rfl rfl)
theorem dX1_partedBy_8 : decode cX1_partedBy 8 = .ok (.aload_n 0, 1) := dk_42 (dk_at dksX1_partedBy_0 8 rfl rfl)
theorem dX1_partedBy_9 : decode cX1_partedBy 9 = .ok (.getfield 225, 3) := dk_180 0 225 (dk_at dksX1_partedBy_0 9 rfl rfl)
theorem dX1_partedBy_12 : decode cX1_partedBy 12 = .ok (.if_icmp .ge 82, 3) := dk_162 0 82 (dk_at dksX1_partedBy_0 12 rfl rfl)
theorem dX1_partedBy_15 : decode cX1_partedBy 15 = .ok (.iload_n 2, 1) := dk_28 (dk_at dksX1_partedBy_0 15 rfl rfl)
theorem dX1_partedBy_16 : decode cX1_partedBy 16 = .ok (.iload 6, 2) := dk_21 6 (dk_at dksX1_partedBy_0 16 rfl rfl)
theorem dX1_partedBy_18 : decode cX1_partedBy 18 = .ok (.ishr, 1) := dk_122 (dk_at dksX1_partedBy_0 18 rfl rfl)
theorem dX1_partedBy_19 : decode cX1_partedBy 19 = .ok (.iconst 1, 1) := dk_4 (dk_at dksX1_partedBy_0 19 rfl rfl)
theorem dX1_partedBy_20 : decode cX1_partedBy 20 = .ok (.iand, 1) := dk_126 (dk_at dksX1_partedBy_0 20 rfl rfl)
theorem dX1_partedBy_21 : decode cX1_partedBy 21 = .ok (.ifCond .ne 6, 3) := dk_154 0 6 (dk_at dksX1_partedBy_0 21 rfl rfl)
theorem dX1_partedBy_24 : decode cX1_partedBy 24 = .ok (.goto 64, 3) := dk_167 0 64 (dk_at dksX1_partedBy_1 0 rfl rfl)
theorem dX1_partedBy_27 : decode cX1_partedBy 27 = .ok (.aload_n 0, 1) := dk_42 (dk_at dksX1_partedBy_1 3 rfl rfl)
theorem dX1_partedBy_28 : decode cX1_partedBy 28 = .ok (.getfield 77, 3) := dk_180 0 77 (dk_at dksX1_partedBy_1 4 rfl rfl)
theorem dX1_partedBy_31 : decode cX1_partedBy 31 = .ok (.iload 6, 2) := dk_21 6 (dk_at dksX1_partedBy_1 7 rfl rfl)
theorem dX1_partedBy_33 : decode cX1_partedBy 33 = .ok (.aload_n 0, 1) := dk_42 (dk_at dksX1_partedBy_1 9 rfl rfl)
theorem dX1_partedBy_34 : decode cX1_partedBy 34 = .ok (.iload_n 1, 1) := dk_27 (dk_at dksX1_partedBy_1 10 rfl rfl)
theorem dX1_partedBy_35 : decode cX1_partedBy 35 = .ok (.iload 6, 2) := dk_21 6 (dk_at dksX1_partedBy_1 11 rfl rfl)
theorem dX1_partedBy_37 : decode cX1_partedBy 37 = .ok (.lload_n 3, 1) := dk_33 (dk_at dksX1_partedBy_1 13 rfl rfl)
theorem dX1_partedBy_38 : decode cX1_partedBy 38 = .ok (.invokevirtual 347, 3) := dk_182 1 91 (dk_at dksX1_partedBy_1 14 rfl rfl)
theorem dX1_partedBy_41 : decode cX1_partedBy 41 = .ok (.iastore, 1) := dk_79 (dk_at dksX1_partedBy_1 17 rfl rfl)
theorem dX1_partedBy_42 : decode cX1_partedBy 42 = .ok (.iconst 0, 1) := dk_3 (dk_at dksX1_partedBy_1 18 rfl rfl)
theorem dX1_partedBy_43 : decode cX1_partedBy 43 = .ok (.istore 7, 2) := dk_54 7 (dk_at dksX1_partedBy_1 19 rfl rfl)
theorem dX1_partedBy_45 : decode cX1_partedBy 45 = .ok (.iload 7, 2) := dk_21 7 (dk_at dksX1_partedBy_1 21 rfl rfl)
theorem dX1_partedBy_47 : decode cX1_partedBy 47 = .ok (.iload 6, 2) := dk_21 6 (dk_at dksX1_partedBy_2 0 rfl rfl)
theorem dX1_partedBy_49 : decode cX1_partedBy 49 = .ok (.if_icmp .ge 39, 3) := dk_162 0 39 (dk_at dksX1_partedBy_2 2 rfl rfl)
theorem dX1_partedBy_52 : decode cX1_partedBy 52 = .ok (.iload_n 2, 1) := dk_28 (dk_at dksX1_partedBy_2 5 rfl rfl)
theorem dX1_partedBy_53 : decode cX1_partedBy 53 = .ok (.iload 7, 2) := dk_21 7 (dk_at dksX1_partedBy_2 6 rfl rfl)
theorem dX1_partedBy_55 : decode cX1_partedBy 55 = .ok (.ishr, 1) := dk_122 (dk_at dksX1_partedBy_2 8 rfl rfl)
theorem dX1_partedBy_56 : decode cX1_partedBy 56 = .ok (.iconst 1, 1) := dk_4 (dk_at dksX1_partedBy_2 9 rfl rfl)
theorem dX1_partedBy_57 : decode cX1_partedBy 57 = .ok (.iand, 1) := dk_126 (dk_at dksX1_partedBy_2 10 rfl rfl)
theorem dX1_partedBy_58 : decode cX1_partedBy 58 = .ok (.iconst 1, 1) := dk_4 (dk_at dksX1_partedBy_2 11 rfl rfl)
theorem dX1_partedBy_59 : decode cX1_partedBy 59 = .ok (.if_icmp .ne 23, 3) := dk_160 0 23 (dk_at dksX1_partedBy_2 12 rfl rfl)
theorem dX1_partedBy_62 : decode cX1_partedBy 62 = .ok (.aload_n 0, 1) := dk_42 (dk_at dksX1_partedBy_2 15 rfl rfl)
theorem dX1_partedBy_63 : decode cX1_partedBy 63 = .ok (.getfield 77, 3) := dk_180 0 77 (dk_at dksX1_partedBy_2 16 rfl rfl)
theorem dX1_partedBy_66 : decode cX1_partedBy 66 = .ok (.iload 7, 2) := dk_21 7 (dk_at dksX1_partedBy_2 19 rfl rfl)
theorem dX1_partedBy_68 : decode cX1_partedBy 68 = .ok (.iaload, 1) := dk_46 (dk_at dksX1_partedBy_2 21 rfl rfl)
theorem dX1_partedBy_69 : decode cX1_partedBy 69 = .ok (.aload_n 0, 1) := dk_42 (dk_at dksX1_partedBy_2 22 rfl rfl)
theorem dX1_partedBy_70 : decode cX1_partedBy 70 = .ok (.getfield 77, 3) := dk_180 0 77 (dk_at dksX1_partedBy_3 0 rfl rfl)
theorem dX1_partedBy_73 : decode cX1_partedBy 73 = .ok (.iload 6, 2) := dk_21 6 (dk_at dksX1_partedBy_3 3 rfl rfl)
theorem dX1_partedBy_75 : decode cX1_partedBy 75 = .ok (.iaload, 1) := dk_46 (dk_at dksX1_partedBy_3 5 rfl rfl)
theorem dX1_partedBy_76 : decode cX1_partedBy 76 = .ok (.if_icmp .eq 6, 3) := dk_159 0 6 (dk_at dksX1_partedBy_3 6 rfl rfl)
theorem dX1_partedBy_79 : decode cX1_partedBy 79 = .ok (.iinc 5 1, 3) := dk_132 5 1 (dk_at dksX1_partedBy_3 9 rfl rfl)
theorem dX1_partedBy_82 : decode cX1_partedBy 82 = .ok (.iinc 7 1, 3) := dk_132 7 1 (dk_at dksX1_partedBy_3 12 rfl rfl)
theorem dX1_partedBy_85 : decode cX1_partedBy 85 = .ok (.goto (-40), 3) := dk_167 255 216 (dk_at dksX1_partedBy_3 15 rfl rfl)
theorem dX1_partedBy_88 : decode cX1_partedBy 88 = .ok (.iinc 6 1, 3) := dk_132 6 1 (dk_at dksX1_partedBy_3 18 rfl rfl)
theorem dX1_partedBy_91 : decode cX1_partedBy 91 = .ok (.goto (-85), 3) := dk_167 255 171 (dk_at dksX1_partedBy_3 21 rfl rfl)
theorem dX1_partedBy_94 : decode cX1_partedBy 94 = .ok (.iload 5, 2) := dk_21 5 (dk_at dksX1_partedBy_4 0 rfl rfl)
theorem dX1_partedBy_96 : decode cX1_partedBy 96 = .ok (.ireturn, 1) := dk_172 (dk_at dksX1_partedBy_4 2 rfl rfl)
abbrev cX1_next : ByteArray := prog_1_method_55_code
def yX1_next : MethodName := ⟨RX1, "next", "(IJ)I"⟩
def dkwX1_next_2 : List UInt8 := [167, 0, 11, 21, 6, 54, 4, 21, 7, 54, 5, 132, 6, 1, 167, 255, 216, 21, 4, 172]
abbrev dktX1_next_2 : List UInt8 := dkwX1_next_2 ++ []
def dkwX1_next_1 : List UInt8 := [180, 1, 79, 162, 0, 37, 42, 21, 6, 27, 32, 182, 1, 98, 54, 7, 21, 7, 21, 5, 163, 0, 6]
abbrev dktX1_next_1 : List UInt8 := dkwX1_next_1 ++ dktX1_next_2
def dkwX1_next_0 : List UInt8 := [42, 27, 182, 1, 95, 154, 0, 5, 2, 172, 2, 54, 4, 2, 54, 5, 3, 54, 6, 21, 6, 42]
abbrev dktX1_next_0 : List UInt8 := dkwX1_next_0 ++ dktX1_next_1
theorem dksX1_next_0 : cX1_next.data.toList.drop 0 = dktX1_next_0 := by decide +kernel
theorem dksX1_next_1 : cX1_next.data.toList.drop 22 = dktX1_next_1 := dk_seg dksX1_next_0 22 rfl rfl
theorem dksX1_next_2 : cX1_next.data.toList.drop 45 = dktX1_next_2 := dk_seg dksX1_next_1 23 rfl rfl
theorem dX1_next_0 : decode cX1_next 0 = .ok (.aload_n 0, 1) := dk_42 (dk_at dksX1_next_0 0 rfl rfl)
theorem dX1_next_1 : decode cX1_next 1 = .ok (.iload_n 1, 1) := dk_27 (dk_at dksX1_next_0 1 rfl rfl)
theorem dX1_next_2 : decode cX1_next 2 = .ok (.invokevirtual 351, 3) := dk_182 1 95 (dk_at dksX1_next_0 2 rfl rfl)
theorem dX1_next_5 : decode cX1_next 5 = .ok (.ifCond .ne 5, 3) := dk_154 0 5 (dk_at dksX1_next_0 5 rfl rfl)
theorem dX1_next_8 : decode cX1_next 8 = .ok (.iconst (-1), 1) := dk_2 (dk_at dksX1_next_0 8 rfl rfl)
theorem dX1_next_9 : decode cX1_next 9 = .ok (.ireturn, 1) := dk_172 (dk_at dksX1_next_0 9 rfl rfl)
theorem dX1_next_10 : decode cX1_next 10 = .ok (.iconst (-1), 1) := dk_2 (dk_at dksX1_next_0 10 rfl rfl)
theorem dX1_next_11 : decode cX1_next 11 = .ok (.istore 4, 2) := dk_54 4 (dk_at dksX1_next_0 11 rfl rfl)
theorem dX1_next_13 : decode cX1_next 13 = .ok (.iconst (-1), 1) := dk_2 (dk_at dksX1_next_0 13 rfl rfl)
theorem dX1_next_14 : decode cX1_next 14 = .ok (.istore 5, 2) := dk_54 5 (dk_at dksX1_next_0 14 rfl rfl)
theorem dX1_next_16 : decode cX1_next 16 = .ok (.iconst 0, 1) := dk_3 (dk_at dksX1_next_0 16 rfl rfl)
theorem dX1_next_17 : decode cX1_next 17 = .ok (.istore 6, 2) := dk_54 6 (dk_at dksX1_next_0 17 rfl rfl)
theorem dX1_next_19 : decode cX1_next 19 = .ok (.iload 6, 2) := dk_21 6 (dk_at dksX1_next_0 19 rfl rfl)
theorem dX1_next_21 : decode cX1_next 21 = .ok (.aload_n 0, 1) := dk_42 (dk_at dksX1_next_0 21 rfl rfl)
theorem dX1_next_22 : decode cX1_next 22 = .ok (.getfield 335, 3) := dk_180 1 79 (dk_at dksX1_next_1 0 rfl rfl)
theorem dX1_next_25 : decode cX1_next 25 = .ok (.if_icmp .ge 37, 3) := dk_162 0 37 (dk_at dksX1_next_1 3 rfl rfl)
theorem dX1_next_28 : decode cX1_next 28 = .ok (.aload_n 0, 1) := dk_42 (dk_at dksX1_next_1 6 rfl rfl)
theorem dX1_next_29 : decode cX1_next 29 = .ok (.iload 6, 2) := dk_21 6 (dk_at dksX1_next_1 7 rfl rfl)
theorem dX1_next_31 : decode cX1_next 31 = .ok (.iload_n 1, 1) := dk_27 (dk_at dksX1_next_1 9 rfl rfl)
theorem dX1_next_32 : decode cX1_next 32 = .ok (.lload_n 2, 1) := dk_32 (dk_at dksX1_next_1 10 rfl rfl)
theorem dX1_next_33 : decode cX1_next 33 = .ok (.invokevirtual 354, 3) := dk_182 1 98 (dk_at dksX1_next_1 11 rfl rfl)
theorem dX1_next_36 : decode cX1_next 36 = .ok (.istore 7, 2) := dk_54 7 (dk_at dksX1_next_1 14 rfl rfl)
theorem dX1_next_38 : decode cX1_next 38 = .ok (.iload 7, 2) := dk_21 7 (dk_at dksX1_next_1 16 rfl rfl)
theorem dX1_next_40 : decode cX1_next 40 = .ok (.iload 5, 2) := dk_21 5 (dk_at dksX1_next_1 18 rfl rfl)
theorem dX1_next_42 : decode cX1_next 42 = .ok (.if_icmp .gt 6, 3) := dk_163 0 6 (dk_at dksX1_next_1 20 rfl rfl)
theorem dX1_next_45 : decode cX1_next 45 = .ok (.goto 11, 3) := dk_167 0 11 (dk_at dksX1_next_2 0 rfl rfl)
theorem dX1_next_48 : decode cX1_next 48 = .ok (.iload 6, 2) := dk_21 6 (dk_at dksX1_next_2 3 rfl rfl)
theorem dX1_next_50 : decode cX1_next 50 = .ok (.istore 4, 2) := dk_54 4 (dk_at dksX1_next_2 5 rfl rfl)
theorem dX1_next_52 : decode cX1_next 52 = .ok (.iload 7, 2) := dk_21 7 (dk_at dksX1_next_2 7 rfl rfl)
theorem dX1_next_54 : decode cX1_next 54 = .ok (.istore 5, 2) := dk_54 5 (dk_at dksX1_next_2 9 rfl rfl)
theorem dX1_next_56 : decode cX1_next 56 = .ok (.iinc 6 1, 3) := dk_132 6 1 (dk_at dksX1_next_2 11 rfl rfl)
theorem dX1_next_59 : decode cX1_next 59 = .ok (.goto (-40), 3) := dk_167 255 216 (dk_at dksX1_next_2 14 rfl rfl)
theorem dX1_next_62 : decode cX1_next 62 = .ok (.iload 4, 2) := dk_21 4 (dk_at dksX1_next_2 17 rfl rfl)
theorem dX1_next_64 : decode cX1_next 64 = .ok (.ireturn, 1) := dk_172 (dk_at dksX1_next_2 19 rfl rfl)
abbrev cX1_count : ByteArray := prog_1_method_56_code
def yX1_count : MethodName := ⟨RX1, "count", "(I)I"⟩
def dkwX1_count_3 : List UInt8 := [172, 42, 180, 0, 40, 172, 42, 180, 0, 44, 172, 17, 252, 24, 172]
abbrev dktX1_count_3 : List UInt8 := dkwX1_count_3 ++ []
def dkwX1_count_2 : List UInt8 := [42, 180, 0, 225, 172, 42, 180, 0, 232, 172, 42, 180, 1, 64, 172, 42, 180, 1, 79, 172, 42, 180, 0, 84]
abbrev dktX1_count_2 : List UInt8 := dkwX1_count_2 ++ dktX1_count_3
def dkwX1_count_1 : List UInt8 := [170, 0, 0, 0, 0, 0, 78, 0, 0, 0, 0, 0, 0, 0, 6, 0, 0, 0, 43, 0, 0, 0, 48, 0, 0, 0, 53, 0, 0, 0, 58, 0, 0, 0, 63, 0, 0, 0, 68, 0, 0, 0, 73]
abbrev dktX1_count_1 : List UInt8 := dkwX1_count_1 ++ dktX1_count_2
def dkwX1_count_0 : List UInt8 := [27]
abbrev dktX1_count_0 : List UInt8 := dkwX1_count_0 ++ dktX1_count_1
theorem dksX1_count_0 : cX1_count.data.toList.drop 0 = dktX1_count_0 := by decide +kernel
theorem dksX1_count_1 : cX1_count.data.toList.drop 1 = dktX1_count_1 := dk_seg dksX1_count_0 1 rfl rfl
theorem dksX1_count_2 : cX1_count.data.toList.drop 44 = dktX1_count_2 := dk_seg dksX1_count_1 43 rfl rfl
theorem dksX1_count_3 : cX1_count.data.toList.drop 68 = dktX1_count_3 := dk_seg dksX1_count_2 24 rfl rfl
theorem dX1_count_0 : decode cX1_count 0 = .ok (.iload_n 1, 1) := dk_27 (dk_at dksX1_count_0 0 rfl rfl)
theorem dX1_count_1 : decode cX1_count 1 = .ok (.tableswitch 78 0 6 #[43, 48, 53, 58, 63, 68, 73], 43) := by decide +kernel
theorem dX1_count_44 : decode cX1_count 44 = .ok (.aload_n 0, 1) := dk_42 (dk_at dksX1_count_2 0 rfl rfl)
theorem dX1_count_45 : decode cX1_count 45 = .ok (.getfield 225, 3) := dk_180 0 225 (dk_at dksX1_count_2 1 rfl rfl)
theorem dX1_count_48 : decode cX1_count 48 = .ok (.ireturn, 1) := dk_172 (dk_at dksX1_count_2 4 rfl rfl)
theorem dX1_count_49 : decode cX1_count 49 = .ok (.aload_n 0, 1) := dk_42 (dk_at dksX1_count_2 5 rfl rfl)
theorem dX1_count_50 : decode cX1_count 50 = .ok (.getfield 232, 3) := dk_180 0 232 (dk_at dksX1_count_2 6 rfl rfl)
theorem dX1_count_53 : decode cX1_count 53 = .ok (.ireturn, 1) := dk_172 (dk_at dksX1_count_2 9 rfl rfl)
theorem dX1_count_54 : decode cX1_count 54 = .ok (.aload_n 0, 1) := dk_42 (dk_at dksX1_count_2 10 rfl rfl)
theorem dX1_count_55 : decode cX1_count 55 = .ok (.getfield 320, 3) := dk_180 1 64 (dk_at dksX1_count_2 11 rfl rfl)
theorem dX1_count_58 : decode cX1_count 58 = .ok (.ireturn, 1) := dk_172 (dk_at dksX1_count_2 14 rfl rfl)
theorem dX1_count_59 : decode cX1_count 59 = .ok (.aload_n 0, 1) := dk_42 (dk_at dksX1_count_2 15 rfl rfl)
theorem dX1_count_60 : decode cX1_count 60 = .ok (.getfield 335, 3) := dk_180 1 79 (dk_at dksX1_count_2 16 rfl rfl)
theorem dX1_count_63 : decode cX1_count 63 = .ok (.ireturn, 1) := dk_172 (dk_at dksX1_count_2 19 rfl rfl)
theorem dX1_count_64 : decode cX1_count 64 = .ok (.aload_n 0, 1) := dk_42 (dk_at dksX1_count_2 20 rfl rfl)
theorem dX1_count_65 : decode cX1_count 65 = .ok (.getfield 84, 3) := dk_180 0 84 (dk_at dksX1_count_2 21 rfl rfl)
theorem dX1_count_68 : decode cX1_count 68 = .ok (.ireturn, 1) := dk_172 (dk_at dksX1_count_3 0 rfl rfl)
theorem dX1_count_69 : decode cX1_count 69 = .ok (.aload_n 0, 1) := dk_42 (dk_at dksX1_count_3 1 rfl rfl)
theorem dX1_count_70 : decode cX1_count 70 = .ok (.getfield 40, 3) := dk_180 0 40 (dk_at dksX1_count_3 2 rfl rfl)
theorem dX1_count_73 : decode cX1_count 73 = .ok (.ireturn, 1) := dk_172 (dk_at dksX1_count_3 5 rfl rfl)
theorem dX1_count_74 : decode cX1_count 74 = .ok (.aload_n 0, 1) := dk_42 (dk_at dksX1_count_3 6 rfl rfl)
theorem dX1_count_75 : decode cX1_count 75 = .ok (.getfield 44, 3) := dk_180 0 44 (dk_at dksX1_count_3 7 rfl rfl)
theorem dX1_count_78 : decode cX1_count 78 = .ok (.ireturn, 1) := dk_172 (dk_at dksX1_count_3 10 rfl rfl)
theorem dX1_count_79 : decode cX1_count 79 = .ok (.sipush (-1000), 3) := dk_17 252 24 (dk_at dksX1_count_3 11 rfl rfl)
theorem dX1_count_82 : decode cX1_count 82 = .ok (.ireturn, 1) := dk_172 (dk_at dksX1_count_3 14 rfl rfl)
abbrev cX1_worth_2 : ByteArray := prog_1_method_38_code
def yX1_worth_2 : MethodName := ⟨RX1, "worth", "(III)I"⟩
def dkwX1_worth_2_4 : List UInt8 := [167, 0, 5, 16, 99, 182, 1, 15, 172]
abbrev dktX1_worth_2_4 : List UInt8 := dkwX1_worth_2_4 ++ []
def dkwX1_worth_2_3 : List UInt8 := [16, 100, 167, 0, 25, 28, 4, 160, 0, 8, 16, 101, 167, 0, 15, 28, 5, 160, 0, 8, 16, 115]
abbrev dktX1_worth_2_3 : List UInt8 := dkwX1_worth_2_3 ++ dktX1_worth_2_4
def dkwX1_worth_2_2 : List UInt8 := [180, 0, 232, 3, 182, 1, 1, 42, 180, 0, 58, 182, 1, 14, 42, 180, 0, 58, 29, 28, 154, 0, 8]
abbrev dktX1_worth_2_2 : List UInt8 := dkwX1_worth_2_2 ++ dktX1_worth_2_3
def dkwX1_worth_2_1 : List UInt8 := [154, 0, 11, 187, 1, 11, 89, 183, 1, 13, 191, 42, 180, 0, 58, 42, 180, 0, 26, 27, 50, 9, 42]
abbrev dktX1_worth_2_1 : List UInt8 := dkwX1_worth_2_1 ++ dktX1_worth_2_2
def dkwX1_worth_2_0 : List UInt8 := [42, 27, 182, 1, 8, 153, 0, 20, 28, 3, 6, 184, 0, 228, 153, 0, 11, 42, 29, 182, 0, 235]
abbrev dktX1_worth_2_0 : List UInt8 := dkwX1_worth_2_0 ++ dktX1_worth_2_1
theorem dksX1_worth_2_0 : cX1_worth_2.data.toList.drop 0 = dktX1_worth_2_0 := by decide +kernel
theorem dksX1_worth_2_1 : cX1_worth_2.data.toList.drop 22 = dktX1_worth_2_1 := dk_seg dksX1_worth_2_0 22 rfl rfl
theorem dksX1_worth_2_2 : cX1_worth_2.data.toList.drop 45 = dktX1_worth_2_2 := dk_seg dksX1_worth_2_1 23 rfl rfl
theorem dksX1_worth_2_3 : cX1_worth_2.data.toList.drop 68 = dktX1_worth_2_3 := dk_seg dksX1_worth_2_2 23 rfl rfl
theorem dksX1_worth_2_4 : cX1_worth_2.data.toList.drop 90 = dktX1_worth_2_4 := dk_seg dksX1_worth_2_3 22 rfl rfl
theorem dX1_worth_2_0 : decode cX1_worth_2 0 = .ok (.aload_n 0, 1) := dk_42 (dk_at dksX1_worth_2_0 0 rfl rfl)
theorem dX1_worth_2_1 : decode cX1_worth_2 1 = .ok (.iload_n 1, 1) := dk_27 (dk_at dksX1_worth_2_0 1 rfl rfl)
theorem dX1_worth_2_2 : decode cX1_worth_2 2 = .ok (.invokevirtual 264, 3) := dk_182 1 8 (dk_at dksX1_worth_2_0 2 rfl rfl)
theorem dX1_worth_2_5 : decode cX1_worth_2 5 = .ok (.ifCond .eq 20, 3) := dk_153 0 20 (dk_at dksX1_worth_2_0 5 rfl rfl)
theorem dX1_worth_2_8 : decode cX1_worth_2 8 = .ok (.iload_n 2, 1) := dk_28 (dk_at dksX1_worth_2_0 8 rfl rfl)
theorem dX1_worth_2_9 : decode cX1_worth_2 9 = .ok (.iconst 0, 1) := dk_3 (dk_at dksX1_worth_2_0 9 rfl rfl)
theorem dX1_worth_2_10 : decode cX1_worth_2 10 = .ok (.iconst 3, 1) := dk_6 (dk_at dksX1_worth_2_0 10 rfl rfl)
theorem dX1_worth_2_11 : decode cX1_worth_2 11 = .ok (.invokestatic 228, 3) := dk_184 0 228 (dk_at dksX1_worth_2_0 11 rfl rfl)
theorem dX1_worth_2_14 : decode cX1_worth_2 14 = .ok (.ifCond .eq 11, 3) := dk_153 0 11 (dk_at dksX1_worth_2_0 14 rfl rfl)
theorem dX1_worth_2_17 : decode cX1_worth_2 17 = .ok (.aload_n 0, 1) := dk_42 (dk_at dksX1_worth_2_0 17 rfl rfl)
theorem dX1_worth_2_18 : decode cX1_worth_2 18 = .ok (.iload_n 3, 1) := dk_29 (dk_at dksX1_worth_2_0 18 rfl rfl)
theorem dX1_worth_2_19 : decode cX1_worth_2 19 = .ok (.invokevirtual 235, 3) := dk_182 0 235 (dk_at dksX1_worth_2_0 19 rfl rfl)
theorem dX1_worth_2_22 : decode cX1_worth_2 22 = .ok (.ifCond .ne 11, 3) := dk_154 0 11 (dk_at dksX1_worth_2_1 0 rfl rfl)
theorem dX1_worth_2_25 : decode cX1_worth_2 25 = .ok (.new 267, 3) := dk_187 1 11 (dk_at dksX1_worth_2_1 3 rfl rfl)
theorem dX1_worth_2_28 : decode cX1_worth_2 28 = .ok (.dup, 1) := dk_89 (dk_at dksX1_worth_2_1 6 rfl rfl)
theorem dX1_worth_2_29 : decode cX1_worth_2 29 = .ok (.invokespecial 269, 3) := dk_183 1 13 (dk_at dksX1_worth_2_1 7 rfl rfl)
theorem dX1_worth_2_32 : decode cX1_worth_2 32 = .ok (.athrow, 1) := dk_191 (dk_at dksX1_worth_2_1 10 rfl rfl)
theorem dX1_worth_2_33 : decode cX1_worth_2 33 = .ok (.aload_n 0, 1) := dk_42 (dk_at dksX1_worth_2_1 11 rfl rfl)
theorem dX1_worth_2_34 : decode cX1_worth_2 34 = .ok (.getfield 58, 3) := dk_180 0 58 (dk_at dksX1_worth_2_1 12 rfl rfl)
theorem dX1_worth_2_37 : decode cX1_worth_2 37 = .ok (.aload_n 0, 1) := dk_42 (dk_at dksX1_worth_2_1 15 rfl rfl)
theorem dX1_worth_2_38 : decode cX1_worth_2 38 = .ok (.getfield 26, 3) := dk_180 0 26 (dk_at dksX1_worth_2_1 16 rfl rfl)
theorem dX1_worth_2_41 : decode cX1_worth_2 41 = .ok (.iload_n 1, 1) := dk_27 (dk_at dksX1_worth_2_1 19 rfl rfl)
theorem dX1_worth_2_42 : decode cX1_worth_2 42 = .ok (.aaload, 1) := dk_50 (dk_at dksX1_worth_2_1 20 rfl rfl)
theorem dX1_worth_2_43 : decode cX1_worth_2 43 = .ok (.lconst 0, 1) := dk_9 (dk_at dksX1_worth_2_1 21 rfl rfl)
theorem dX1_worth_2_44 : decode cX1_worth_2 44 = .ok (.aload_n 0, 1) := dk_42 (dk_at dksX1_worth_2_1 22 rfl rfl)
theorem dX1_worth_2_45 : decode cX1_worth_2 45 = .ok (.getfield 232, 3) := dk_180 0 232 (dk_at dksX1_worth_2_2 0 rfl rfl)
theorem dX1_worth_2_48 : decode cX1_worth_2 48 = .ok (.iconst 0, 1) := dk_3 (dk_at dksX1_worth_2_2 3 rfl rfl)
theorem dX1_worth_2_49 : decode cX1_worth_2 49 = .ok (.invokevirtual 257, 3) := dk_182 1 1 (dk_at dksX1_worth_2_2 4 rfl rfl)
theorem dX1_worth_2_52 : decode cX1_worth_2 52 = .ok (.aload_n 0, 1) := dk_42 (dk_at dksX1_worth_2_2 7 rfl rfl)
theorem dX1_worth_2_53 : decode cX1_worth_2 53 = .ok (.getfield 58, 3) := dk_180 0 58 (dk_at dksX1_worth_2_2 8 rfl rfl)
theorem dX1_worth_2_56 : decode cX1_worth_2 56 = .ok (.invokevirtual 270, 3) := dk_182 1 14 (dk_at dksX1_worth_2_2 11 rfl rfl)
theorem dX1_worth_2_59 : decode cX1_worth_2 59 = .ok (.aload_n 0, 1) := dk_42 (dk_at dksX1_worth_2_2 14 rfl rfl)
theorem dX1_worth_2_60 : decode cX1_worth_2 60 = .ok (.getfield 58, 3) := dk_180 0 58 (dk_at dksX1_worth_2_2 15 rfl rfl)
theorem dX1_worth_2_63 : decode cX1_worth_2 63 = .ok (.iload_n 3, 1) := dk_29 (dk_at dksX1_worth_2_2 18 rfl rfl)
theorem dX1_worth_2_64 : decode cX1_worth_2 64 = .ok (.iload_n 2, 1) := dk_28 (dk_at dksX1_worth_2_2 19 rfl rfl)
theorem dX1_worth_2_65 : decode cX1_worth_2 65 = .ok (.ifCond .ne 8, 3) := dk_154 0 8 (dk_at dksX1_worth_2_2 20 rfl rfl)
theorem dX1_worth_2_68 : decode cX1_worth_2 68 = .ok (.bipush 100, 2) := dk_16 100 (dk_at dksX1_worth_2_3 0 rfl rfl)
theorem dX1_worth_2_70 : decode cX1_worth_2 70 = .ok (.goto 25, 3) := dk_167 0 25 (dk_at dksX1_worth_2_3 2 rfl rfl)
theorem dX1_worth_2_73 : decode cX1_worth_2 73 = .ok (.iload_n 2, 1) := dk_28 (dk_at dksX1_worth_2_3 5 rfl rfl)
theorem dX1_worth_2_74 : decode cX1_worth_2 74 = .ok (.iconst 1, 1) := dk_4 (dk_at dksX1_worth_2_3 6 rfl rfl)
theorem dX1_worth_2_75 : decode cX1_worth_2 75 = .ok (.if_icmp .ne 8, 3) := dk_160 0 8 (dk_at dksX1_worth_2_3 7 rfl rfl)
theorem dX1_worth_2_78 : decode cX1_worth_2 78 = .ok (.bipush 101, 2) := dk_16 101 (dk_at dksX1_worth_2_3 10 rfl rfl)
theorem dX1_worth_2_80 : decode cX1_worth_2 80 = .ok (.goto 15, 3) := dk_167 0 15 (dk_at dksX1_worth_2_3 12 rfl rfl)
theorem dX1_worth_2_83 : decode cX1_worth_2 83 = .ok (.iload_n 2, 1) := dk_28 (dk_at dksX1_worth_2_3 15 rfl rfl)
theorem dX1_worth_2_84 : decode cX1_worth_2 84 = .ok (.iconst 2, 1) := dk_5 (dk_at dksX1_worth_2_3 16 rfl rfl)
theorem dX1_worth_2_85 : decode cX1_worth_2 85 = .ok (.if_icmp .ne 8, 3) := dk_160 0 8 (dk_at dksX1_worth_2_3 17 rfl rfl)
theorem dX1_worth_2_88 : decode cX1_worth_2 88 = .ok (.bipush 115, 2) := dk_16 115 (dk_at dksX1_worth_2_3 20 rfl rfl)
theorem dX1_worth_2_90 : decode cX1_worth_2 90 = .ok (.goto 5, 3) := dk_167 0 5 (dk_at dksX1_worth_2_4 0 rfl rfl)
theorem dX1_worth_2_93 : decode cX1_worth_2 93 = .ok (.bipush 99, 2) := dk_16 99 (dk_at dksX1_worth_2_4 3 rfl rfl)
theorem dX1_worth_2_95 : decode cX1_worth_2 95 = .ok (.invokevirtual 271, 3) := dk_182 1 15 (dk_at dksX1_worth_2_4 5 rfl rfl)
theorem dX1_worth_2_98 : decode cX1_worth_2 98 = .ok (.ireturn, 1) := dk_172 (dk_at dksX1_worth_2_4 8 rfl rfl)
theorem q78 : (Jvm.Cond.initialized "OneBears") ∈ lw_all := lw_g (lw_at lw_m1 1 rfl) rfl
theorem q104 : (Jvm.Cond.instantiable "OneBears" (24 : Nat)) ∈ lw_all := lw_g (lw_at lw_m1 27 rfl) rfl
theorem q106 : (Jvm.Cond.instanceMethod ({ cls := "OneBears", name := "<init>", desc := "()V" } : Jvm.MethodName)) ∈ lw_all := lw_g (lw_at lw_m1 29 rfl) rfl
theorem q107 : (Jvm.Cond.code ({ cls := "OneBears", name := "<init>", desc := "()V" } : Jvm.MethodName) prog_1_method_2_code (1 : Nat) (Option.none : Option Jvm.ClassFile.FieldType)) ∈ lw_all := lw_g (lw_at lw_m1 30 rfl) rfl
theorem q108 : (Jvm.Cond.methodLink "OneBears" (1 : Nat) ({ cls := "java/lang/Object", name := "<init>", desc := "()V" } : Jvm.MethodName)) ∈ lw_all := lw_g (lw_at lw_m1 31 rfl) rfl
theorem q111 : (Jvm.Cond.classLink "OneBears" (7 : Nat) "OneBears$Fault") ∈ lw_all := lw_g (lw_at lw_m1 34 rfl) rfl
theorem q149 : (Jvm.Cond.methodLinkNest "OneBears" (9 : Nat) ({ cls := "OneBears$Fault", name := "<init>", desc := "()V" } : Jvm.MethodName) "OneBears") ∈ lw_tbl := lw_at lw_m1 72 rfl
theorem q168 : (Jvm.Cond.classLink "OneBears" (24 : Nat) "OneBears$Clause") ∈ lw_all := lw_g (lw_at lw_m1 91 rfl) rfl
theorem q170 : (Jvm.Cond.classLink "OneBears" (30 : Nat) "OneBears$Tree") ∈ lw_all := lw_g (lw_at lw_m1 93 rfl) rfl
theorem q172 : (Jvm.Cond.methodLinkNest "OneBears" (32 : Nat) ({ cls := "OneBears$Tree", name := "<init>", desc := "()V" } : Jvm.MethodName) "OneBears") ∈ lw_tbl := lw_at lw_m1 95 rfl
theorem q189 : (Jvm.Cond.classLink "OneBears" (53 : Nat) "OneBears$Colony") ∈ lw_all := lw_g (lw_at lw_m1 112 rfl) rfl
theorem q191 : (Jvm.Cond.methodLinkNest "OneBears" (55 : Nat) ({ cls := "OneBears$Colony", name := "<init>", desc := "(LOneBears;)V" } : Jvm.MethodName) "OneBears") ∈ lw_tbl := lw_at lw_m1 114 rfl
theorem q202 : (Jvm.Cond.fieldLinkNest "OneBears" (278 : Nat) "OneBears$Colony" "many" "I" "OneBears") ∈ lw_tbl := lw_at lw_m1 125 rfl
theorem q204 : (Jvm.Cond.fieldLinkNest "OneBears" (296 : Nat) "OneBears$Colony" "store" "I" "OneBears") ∈ lw_tbl := lw_at lw_m1 127 rfl
theorem q206 : (Jvm.Cond.fieldLinkNest "OneBears" (341 : Nat) "OneBears$Colony" "chance" "I" "OneBears") ∈ lw_tbl := lw_at lw_m1 129 rfl
theorem q209 : (Jvm.Cond.fieldLinkNest "OneBears" (303 : Nat) "OneBears$Colony" "reigns" "I" "OneBears") ∈ lw_tbl := lw_at lw_m1 132 rfl
theorem q212 : (Jvm.Cond.fieldLinkNest "OneBears" (309 : Nat) "OneBears$Colony" "wars" "I" "OneBears") ∈ lw_tbl := lw_at lw_m1 135 rfl
theorem q215 : (Jvm.Cond.fieldLinkNest "OneBears" (281 : Nat) "OneBears$Colony" "state" "[I" "OneBears") ∈ lw_tbl := lw_at lw_m1 138 rfl
theorem q217 : (Jvm.Cond.fieldLinkNest "OneBears" (284 : Nat) "OneBears$Colony" "weight" "[I" "OneBears") ∈ lw_tbl := lw_at lw_m1 140 rfl
theorem q219 : (Jvm.Cond.fieldLinkNest "OneBears" (287 : Nat) "OneBears$Colony" "when" "[I" "OneBears") ∈ lw_tbl := lw_at lw_m1 142 rfl
theorem q221 : (Jvm.Cond.fieldLinkNest "OneBears" (290 : Nat) "OneBears$Colony" "born" "[I" "OneBears") ∈ lw_tbl := lw_at lw_m1 144 rfl
theorem q270 : (Jvm.Cond.fieldLink "OneBears" (10 : Nat) "OneBears" "fault" "LOneBears$Fault;") ∈ lw_all := lw_g (lw_at lw_m1 193 rfl) rfl
theorem q271 : (Jvm.Cond.fieldLink "OneBears" (16 : Nat) "OneBears" "tape" "[B") ∈ lw_all := lw_g (lw_at lw_m1 194 rfl) rfl
theorem q272 : (Jvm.Cond.fieldLink "OneBears" (84 : Nat) "OneBears" "taped" "I") ∈ lw_all := lw_g (lw_at lw_m1 195 rfl) rfl
theorem q273 : (Jvm.Cond.fieldLink "OneBears" (87 : Nat) "OneBears" "place" "I") ∈ lw_all := lw_g (lw_at lw_m1 196 rfl) rfl
theorem q274 : (Jvm.Cond.fieldLink "OneBears" (90 : Nat) "OneBears" "deep" "I") ∈ lw_all := lw_g (lw_at lw_m1 197 rfl) rfl
theorem q275 : (Jvm.Cond.fieldLink "OneBears" (20 : Nat) "OneBears" "letters" "[I") ∈ lw_all := lw_g (lw_at lw_m1 198 rfl) rfl
theorem q277 : (Jvm.Cond.fieldLink "OneBears" (26 : Nat) "OneBears" "laws" "[LOneBears$Clause;") ∈ lw_all := lw_g (lw_at lw_m1 200 rfl) rfl
theorem q278 : (Jvm.Cond.fieldLink "OneBears" (225 : Nat) "OneBears" "lawMany" "I") ∈ lw_all := lw_g (lw_at lw_m1 201 rfl) rfl
theorem q279 : (Jvm.Cond.fieldLink "OneBears" (33 : Nat) "OneBears" "tree" "LOneBears$Tree;") ∈ lw_all := lw_g (lw_at lw_m1 202 rfl) rfl
theorem q281 : (Jvm.Cond.fieldLink "OneBears" (37 : Nat) "OneBears" "weights" "[I") ∈ lw_all := lw_g (lw_at lw_m1 204 rfl) rfl
theorem q283 : (Jvm.Cond.fieldLink "OneBears" (232 : Nat) "OneBears" "animals" "I") ∈ lw_all := lw_g (lw_at lw_m1 206 rfl) rfl
theorem q284 : (Jvm.Cond.fieldLink "OneBears" (40 : Nat) "OneBears" "queen" "I") ∈ lw_all := lw_g (lw_at lw_m1 207 rfl) rfl
theorem q286 : (Jvm.Cond.fieldLink "OneBears" (44 : Nat) "OneBears" "mate" "I") ∈ lw_all := lw_g (lw_at lw_m1 209 rfl) rfl
theorem q289 : (Jvm.Cond.fieldLink "OneBears" (47 : Nat) "OneBears" "things" "[I") ∈ lw_all := lw_g (lw_at lw_m1 212 rfl) rfl
theorem q290 : (Jvm.Cond.fieldLink "OneBears" (50 : Nat) "OneBears" "rains" "[I") ∈ lw_all := lw_g (lw_at lw_m1 213 rfl) rfl
theorem q292 : (Jvm.Cond.fieldLink "OneBears" (58 : Nat) "OneBears" "colony" "LOneBears$Colony;") ∈ lw_all := lw_g (lw_at lw_m1 215 rfl) rfl
theorem q293 : (Jvm.Cond.fieldLink "OneBears" (62 : Nat) "OneBears" "noteMonth" "[I") ∈ lw_all := lw_g (lw_at lw_m1 216 rfl) rfl
theorem q294 : (Jvm.Cond.fieldLink "OneBears" (65 : Nat) "OneBears" "noteThere" "[I") ∈ lw_all := lw_g (lw_at lw_m1 217 rfl) rfl
theorem q295 : (Jvm.Cond.fieldLink "OneBears" (68 : Nat) "OneBears" "noteOff" "[I") ∈ lw_all := lw_g (lw_at lw_m1 218 rfl) rfl
theorem q296 : (Jvm.Cond.fieldLink "OneBears" (71 : Nat) "OneBears" "trialAnimals" "[I") ∈ lw_all := lw_g (lw_at lw_m1 219 rfl) rfl
theorem q297 : (Jvm.Cond.fieldLink "OneBears" (74 : Nat) "OneBears" "trialMonths" "[I") ∈ lw_all := lw_g (lw_at lw_m1 220 rfl) rfl
theorem q298 : (Jvm.Cond.fieldLink "OneBears" (320 : Nat) "OneBears" "notes" "I") ∈ lw_all := lw_g (lw_at lw_m1 221 rfl) rfl
theorem q299 : (Jvm.Cond.fieldLink "OneBears" (335 : Nat) "OneBears" "trials" "I") ∈ lw_all := lw_g (lw_at lw_m1 222 rfl) rfl
theorem q300 : (Jvm.Cond.fieldLink "OneBears" (77 : Nat) "OneBears" "tellings" "[I") ∈ lw_all := lw_g (lw_at lw_m1 223 rfl) rfl
theorem q301 : (Jvm.Cond.laysFinal "OneBears" "OneBears" "fault" "LOneBears$Fault;") ∈ lw_all := lw_g (lw_at lw_m1 224 rfl) rfl
theorem q302 : (Jvm.Cond.soleField "OneBears" "fault") ∈ lw_all := lw_g (lw_at lw_m1 225 rfl) rfl
theorem q303 : (Jvm.Cond.laysFinal "OneBears" "OneBears" "tape" "[B") ∈ lw_all := lw_g (lw_at lw_m1 226 rfl) rfl
theorem q304 : (Jvm.Cond.soleField "OneBears" "tape") ∈ lw_all := lw_g (lw_at lw_m1 227 rfl) rfl
theorem q305 : (Jvm.Cond.lays "OneBears" "OneBears" "taped" "I") ∈ lw_all := lw_g (lw_at lw_m1 228 rfl) rfl
theorem q306 : (Jvm.Cond.soleField "OneBears" "taped") ∈ lw_all := lw_g (lw_at lw_m1 229 rfl) rfl
theorem q307 : (Jvm.Cond.lays "OneBears" "OneBears" "place" "I") ∈ lw_all := lw_g (lw_at lw_m1 230 rfl) rfl
theorem q308 : (Jvm.Cond.soleField "OneBears" "place") ∈ lw_all := lw_g (lw_at lw_m1 231 rfl) rfl
theorem q309 : (Jvm.Cond.lays "OneBears" "OneBears" "deep" "I") ∈ lw_all := lw_g (lw_at lw_m1 232 rfl) rfl
theorem q310 : (Jvm.Cond.soleField "OneBears" "deep") ∈ lw_all := lw_g (lw_at lw_m1 233 rfl) rfl
theorem q311 : (Jvm.Cond.laysFinal "OneBears" "OneBears" "letters" "[I") ∈ lw_all := lw_g (lw_at lw_m1 234 rfl) rfl
theorem q312 : (Jvm.Cond.soleField "OneBears" "letters") ∈ lw_all := lw_g (lw_at lw_m1 235 rfl) rfl
theorem q313 : (Jvm.Cond.laysFinal "OneBears" "OneBears" "laws" "[LOneBears$Clause;") ∈ lw_all := lw_g (lw_at lw_m1 236 rfl) rfl
theorem q314 : (Jvm.Cond.soleField "OneBears" "laws") ∈ lw_all := lw_g (lw_at lw_m1 237 rfl) rfl
theorem q315 : (Jvm.Cond.lays "OneBears" "OneBears" "lawMany" "I") ∈ lw_all := lw_g (lw_at lw_m1 238 rfl) rfl
theorem q316 : (Jvm.Cond.soleField "OneBears" "lawMany") ∈ lw_all := lw_g (lw_at lw_m1 239 rfl) rfl
theorem q317 : (Jvm.Cond.laysFinal "OneBears" "OneBears" "tree" "LOneBears$Tree;") ∈ lw_all := lw_g (lw_at lw_m2 0 rfl) rfl
theorem q318 : (Jvm.Cond.soleField "OneBears" "tree") ∈ lw_all := lw_g (lw_at lw_m2 1 rfl) rfl
theorem q319 : (Jvm.Cond.laysFinal "OneBears" "OneBears" "weights" "[I") ∈ lw_all := lw_g (lw_at lw_m2 2 rfl) rfl
theorem q320 : (Jvm.Cond.soleField "OneBears" "weights") ∈ lw_all := lw_g (lw_at lw_m2 3 rfl) rfl
theorem q321 : (Jvm.Cond.lays "OneBears" "OneBears" "animals" "I") ∈ lw_all := lw_g (lw_at lw_m2 4 rfl) rfl
theorem q322 : (Jvm.Cond.soleField "OneBears" "animals") ∈ lw_all := lw_g (lw_at lw_m2 5 rfl) rfl
theorem q323 : (Jvm.Cond.lays "OneBears" "OneBears" "queen" "I") ∈ lw_all := lw_g (lw_at lw_m2 6 rfl) rfl
theorem q324 : (Jvm.Cond.soleField "OneBears" "queen") ∈ lw_all := lw_g (lw_at lw_m2 7 rfl) rfl
theorem q325 : (Jvm.Cond.lays "OneBears" "OneBears" "mate" "I") ∈ lw_all := lw_g (lw_at lw_m2 8 rfl) rfl
theorem q326 : (Jvm.Cond.soleField "OneBears" "mate") ∈ lw_all := lw_g (lw_at lw_m2 9 rfl) rfl
theorem q327 : (Jvm.Cond.laysFinal "OneBears" "OneBears" "things" "[I") ∈ lw_all := lw_g (lw_at lw_m2 10 rfl) rfl
theorem q328 : (Jvm.Cond.soleField "OneBears" "things") ∈ lw_all := lw_g (lw_at lw_m2 11 rfl) rfl
theorem q329 : (Jvm.Cond.laysFinal "OneBears" "OneBears" "rains" "[I") ∈ lw_all := lw_g (lw_at lw_m2 12 rfl) rfl
theorem q330 : (Jvm.Cond.soleField "OneBears" "rains") ∈ lw_all := lw_g (lw_at lw_m2 13 rfl) rfl
theorem q331 : (Jvm.Cond.laysFinal "OneBears" "OneBears" "colony" "LOneBears$Colony;") ∈ lw_all := lw_g (lw_at lw_m2 14 rfl) rfl
theorem q332 : (Jvm.Cond.soleField "OneBears" "colony") ∈ lw_all := lw_g (lw_at lw_m2 15 rfl) rfl
theorem q333 : (Jvm.Cond.laysFinal "OneBears" "OneBears" "noteMonth" "[I") ∈ lw_all := lw_g (lw_at lw_m2 16 rfl) rfl
theorem q334 : (Jvm.Cond.soleField "OneBears" "noteMonth") ∈ lw_all := lw_g (lw_at lw_m2 17 rfl) rfl
theorem q335 : (Jvm.Cond.laysFinal "OneBears" "OneBears" "noteThere" "[I") ∈ lw_all := lw_g (lw_at lw_m2 18 rfl) rfl
theorem q336 : (Jvm.Cond.soleField "OneBears" "noteThere") ∈ lw_all := lw_g (lw_at lw_m2 19 rfl) rfl
theorem q337 : (Jvm.Cond.laysFinal "OneBears" "OneBears" "noteOff" "[I") ∈ lw_all := lw_g (lw_at lw_m2 20 rfl) rfl
theorem q338 : (Jvm.Cond.soleField "OneBears" "noteOff") ∈ lw_all := lw_g (lw_at lw_m2 21 rfl) rfl
theorem q339 : (Jvm.Cond.laysFinal "OneBears" "OneBears" "trialAnimals" "[I") ∈ lw_all := lw_g (lw_at lw_m2 22 rfl) rfl
theorem q340 : (Jvm.Cond.soleField "OneBears" "trialAnimals") ∈ lw_all := lw_g (lw_at lw_m2 23 rfl) rfl
theorem q341 : (Jvm.Cond.laysFinal "OneBears" "OneBears" "trialMonths" "[I") ∈ lw_all := lw_g (lw_at lw_m2 24 rfl) rfl
theorem q342 : (Jvm.Cond.soleField "OneBears" "trialMonths") ∈ lw_all := lw_g (lw_at lw_m2 25 rfl) rfl
theorem q343 : (Jvm.Cond.lays "OneBears" "OneBears" "notes" "I") ∈ lw_all := lw_g (lw_at lw_m2 26 rfl) rfl
theorem q344 : (Jvm.Cond.soleField "OneBears" "notes") ∈ lw_all := lw_g (lw_at lw_m2 27 rfl) rfl
theorem q345 : (Jvm.Cond.lays "OneBears" "OneBears" "trials" "I") ∈ lw_all := lw_g (lw_at lw_m2 28 rfl) rfl
theorem q346 : (Jvm.Cond.soleField "OneBears" "trials") ∈ lw_all := lw_g (lw_at lw_m2 29 rfl) rfl
theorem q347 : (Jvm.Cond.laysFinal "OneBears" "OneBears" "tellings" "[I") ∈ lw_all := lw_g (lw_at lw_m2 30 rfl) rfl
theorem q348 : (Jvm.Cond.soleField "OneBears" "tellings") ∈ lw_all := lw_g (lw_at lw_m2 31 rfl) rfl
theorem q349 : (Jvm.Cond.superclass "OneBears" "java/lang/Object") ∈ lw_all := lw_g (lw_at lw_m2 32 rfl) rfl
theorem q351 : (Jvm.Cond.instanceMethod ({ cls := "OneBears", name := "feed", desc := "(IIIII)I" } : Jvm.MethodName)) ∈ lw_all := lw_g (lw_at lw_m2 34 rfl) rfl
theorem q352 : (Jvm.Cond.selects "OneBears" ({ cls := "OneBears", name := "feed", desc := "(IIIII)I" } : Jvm.MethodName) ({ cls := "OneBears", name := "feed", desc := "(IIIII)I" } : Jvm.MethodName)) ∈ lw_all := lw_g (lw_at lw_m2 35 rfl) rfl
theorem q353 : (Jvm.Cond.code ({ cls := "OneBears", name := "feed", desc := "(IIIII)I" } : Jvm.MethodName) prog_1_method_4_code (9 : Nat) (Option.some Jvm.ClassFile.FieldType.int)) ∈ lw_all := lw_g (lw_at lw_m2 36 rfl) rfl
theorem q354 : (Jvm.Cond.methodLink "OneBears" (80 : Nat) ({ cls := "OneBears", name := "byteOf", desc := "(IIIIII)I" } : Jvm.MethodName)) ∈ lw_all := lw_g (lw_at lw_m2 37 rfl) rfl
theorem q355 : (Jvm.Cond.static ({ cls := "OneBears", name := "byteOf", desc := "(IIIIII)I" } : Jvm.MethodName)) ∈ lw_all := lw_g (lw_at lw_m2 38 rfl) rfl
theorem q356 : (Jvm.Cond.code ({ cls := "OneBears", name := "byteOf", desc := "(IIIIII)I" } : Jvm.MethodName) prog_1_method_3_code (7 : Nat) (Option.some Jvm.ClassFile.FieldType.int)) ∈ lw_all := lw_g (lw_at lw_m2 39 rfl) rfl
theorem q358 : (Jvm.Cond.instanceMethod ({ cls := "OneBears", name := "end", desc := "(I)Z" } : Jvm.MethodName)) ∈ lw_all := lw_g (lw_at lw_m2 41 rfl) rfl
theorem q359 : (Jvm.Cond.selects "OneBears" ({ cls := "OneBears", name := "end", desc := "(I)Z" } : Jvm.MethodName) ({ cls := "OneBears", name := "end", desc := "(I)Z" } : Jvm.MethodName)) ∈ lw_all := lw_g (lw_at lw_m2 42 rfl) rfl
theorem q360 : (Jvm.Cond.code ({ cls := "OneBears", name := "end", desc := "(I)Z" } : Jvm.MethodName) prog_1_method_5_code (2 : Nat) (Option.some Jvm.ClassFile.FieldType.boolean)) ∈ lw_all := lw_g (lw_at lw_m2 43 rfl) rfl
theorem q362 : (Jvm.Cond.instanceMethod ({ cls := "OneBears", name := "fault", desc := "()I" } : Jvm.MethodName)) ∈ lw_all := lw_g (lw_at lw_m2 45 rfl) rfl
theorem q363 : (Jvm.Cond.selects "OneBears" ({ cls := "OneBears", name := "fault", desc := "()I" } : Jvm.MethodName) ({ cls := "OneBears", name := "fault", desc := "()I" } : Jvm.MethodName)) ∈ lw_all := lw_g (lw_at lw_m2 46 rfl) rfl
theorem q364 : (Jvm.Cond.codeWith ({ cls := "OneBears", name := "fault", desc := "()I" } : Jvm.MethodName) prog_1_method_21_code (2 : Nat) (Option.some Jvm.ClassFile.FieldType.int) [((0 : Nat), (6 : Nat), (7 : Nat), (7 : Nat))]) ∈ lw_all := lw_g (lw_at lw_m2 47 rfl) rfl
theorem q365 : (Jvm.Cond.methodLink "OneBears" (193 : Nat) ({ cls := "OneBears", name := "whole", desc := "()LOneBears$Clause;" } : Jvm.MethodName)) ∈ lw_all := lw_g (lw_at lw_m2 48 rfl) rfl
theorem q366 : (Jvm.Cond.privateMethod ({ cls := "OneBears", name := "whole", desc := "()LOneBears$Clause;" } : Jvm.MethodName)) ∈ lw_tbl := lw_at lw_m2 49 rfl
theorem q367 : (Jvm.Cond.instanceMethod ({ cls := "OneBears", name := "whole", desc := "()LOneBears$Clause;" } : Jvm.MethodName)) ∈ lw_all := lw_g (lw_at lw_m2 50 rfl) rfl
theorem q368 : (Jvm.Cond.code ({ cls := "OneBears", name := "whole", desc := "()LOneBears$Clause;" } : Jvm.MethodName) prog_1_method_20_code (3 : Nat) (Option.some (Jvm.ClassFile.FieldType.object "OneBears$Clause"))) ∈ lw_all := lw_g (lw_at lw_m2 51 rfl) rfl
theorem q369 : (Jvm.Cond.methodLink "OneBears" (185 : Nat) ({ cls := "OneBears", name := "clause", desc := "()LOneBears$Clause;" } : Jvm.MethodName)) ∈ lw_all := lw_g (lw_at lw_m2 52 rfl) rfl
theorem q370 : (Jvm.Cond.privateMethod ({ cls := "OneBears", name := "clause", desc := "()LOneBears$Clause;" } : Jvm.MethodName)) ∈ lw_tbl := lw_at lw_m2 53 rfl
theorem q371 : (Jvm.Cond.instanceMethod ({ cls := "OneBears", name := "clause", desc := "()LOneBears$Clause;" } : Jvm.MethodName)) ∈ lw_all := lw_g (lw_at lw_m2 54 rfl) rfl
theorem q372 : (Jvm.Cond.code ({ cls := "OneBears", name := "clause", desc := "()LOneBears$Clause;" } : Jvm.MethodName) prog_1_method_19_code (5 : Nat) (Option.some (Jvm.ClassFile.FieldType.object "OneBears$Clause"))) ∈ lw_all := lw_g (lw_at lw_m2 55 rfl) rfl
theorem q373 : (Jvm.Cond.methodLink "OneBears" (97 : Nat) ({ cls := "OneBears", name := "look", desc := "()I" } : Jvm.MethodName)) ∈ lw_all := lw_g (lw_at lw_m2 56 rfl) rfl
theorem q374 : (Jvm.Cond.privateMethod ({ cls := "OneBears", name := "look", desc := "()I" } : Jvm.MethodName)) ∈ lw_tbl := lw_at lw_m2 57 rfl
theorem q375 : (Jvm.Cond.instanceMethod ({ cls := "OneBears", name := "look", desc := "()I" } : Jvm.MethodName)) ∈ lw_all := lw_g (lw_at lw_m2 58 rfl) rfl
theorem q376 : (Jvm.Cond.code ({ cls := "OneBears", name := "look", desc := "()I" } : Jvm.MethodName) prog_1_method_6_code (1 : Nat) (Option.some Jvm.ClassFile.FieldType.int)) ∈ lw_all := lw_g (lw_at lw_m2 59 rfl) rfl
theorem q377 : (Jvm.Cond.stringRef "OneBears" (180 : Nat) "desc") ∈ lw_tbl := lw_at lw_m2 60 rfl
theorem q378 : (Jvm.Cond.methodLink "OneBears" (114 : Nat) ({ cls := "java/lang/String", name := "indexOf", desc := "(I)I" } : Jvm.MethodName)) ∈ lw_all := lw_g (lw_at lw_m2 61 rfl) rfl
theorem q464 : (Jvm.Cond.methodLink "OneBears" (93 : Nat) ({ cls := "OneBears", name := "need", desc := "(Z)V" } : Jvm.MethodName)) ∈ lw_all := lw_g (lw_at lw_m2 147 rfl) rfl
theorem q465 : (Jvm.Cond.privateMethod ({ cls := "OneBears", name := "need", desc := "(Z)V" } : Jvm.MethodName)) ∈ lw_tbl := lw_at lw_m2 148 rfl
theorem q466 : (Jvm.Cond.instanceMethod ({ cls := "OneBears", name := "need", desc := "(Z)V" } : Jvm.MethodName)) ∈ lw_all := lw_g (lw_at lw_m2 149 rfl) rfl
theorem q467 : (Jvm.Cond.code ({ cls := "OneBears", name := "need", desc := "(Z)V" } : Jvm.MethodName) prog_1_method_8_code (2 : Nat) (Option.none : Option Jvm.ClassFile.FieldType)) ∈ lw_all := lw_g (lw_at lw_m2 150 rfl) rfl
theorem q468 : (Jvm.Cond.methodLink "OneBears" (104 : Nat) ({ cls := "OneBears", name := "sum", desc := "()LOneBears$Sum;" } : Jvm.MethodName)) ∈ lw_all := lw_g (lw_at lw_m2 151 rfl) rfl
theorem q469 : (Jvm.Cond.privateMethod ({ cls := "OneBears", name := "sum", desc := "()LOneBears$Sum;" } : Jvm.MethodName)) ∈ lw_tbl := lw_at lw_m2 152 rfl
theorem q470 : (Jvm.Cond.instanceMethod ({ cls := "OneBears", name := "sum", desc := "()LOneBears$Sum;" } : Jvm.MethodName)) ∈ lw_all := lw_g (lw_at lw_m2 153 rfl) rfl
theorem q471 : (Jvm.Cond.code ({ cls := "OneBears", name := "sum", desc := "()LOneBears$Sum;" } : Jvm.MethodName) prog_1_method_13_code (4 : Nat) (Option.some (Jvm.ClassFile.FieldType.object "OneBears$Sum"))) ∈ lw_all := lw_g (lw_at lw_m2 154 rfl) rfl
theorem q472 : (Jvm.Cond.methodLink "OneBears" (143 : Nat) ({ cls := "OneBears", name := "term", desc := "()LOneBears$Sum;" } : Jvm.MethodName)) ∈ lw_all := lw_g (lw_at lw_m2 155 rfl) rfl
theorem q473 : (Jvm.Cond.privateMethod ({ cls := "OneBears", name := "term", desc := "()LOneBears$Sum;" } : Jvm.MethodName)) ∈ lw_tbl := lw_at lw_m2 156 rfl
theorem q474 : (Jvm.Cond.instanceMethod ({ cls := "OneBears", name := "term", desc := "()LOneBears$Sum;" } : Jvm.MethodName)) ∈ lw_all := lw_g (lw_at lw_m2 157 rfl) rfl
theorem q475 : (Jvm.Cond.code ({ cls := "OneBears", name := "term", desc := "()LOneBears$Sum;" } : Jvm.MethodName) prog_1_method_12_code (4 : Nat) (Option.some (Jvm.ClassFile.FieldType.object "OneBears$Sum"))) ∈ lw_all := lw_g (lw_at lw_m2 158 rfl) rfl
theorem q476 : (Jvm.Cond.methodLink "OneBears" (131 : Nat) ({ cls := "OneBears", name := "atom", desc := "()LOneBears$Sum;" } : Jvm.MethodName)) ∈ lw_all := lw_g (lw_at lw_m2 159 rfl) rfl
theorem q477 : (Jvm.Cond.privateMethod ({ cls := "OneBears", name := "atom", desc := "()LOneBears$Sum;" } : Jvm.MethodName)) ∈ lw_tbl := lw_at lw_m2 160 rfl
theorem q478 : (Jvm.Cond.instanceMethod ({ cls := "OneBears", name := "atom", desc := "()LOneBears$Sum;" } : Jvm.MethodName)) ∈ lw_all := lw_g (lw_at lw_m2 161 rfl) rfl
theorem q479 : (Jvm.Cond.code ({ cls := "OneBears", name := "atom", desc := "()LOneBears$Sum;" } : Jvm.MethodName) prog_1_method_11_code (4 : Nat) (Option.some (Jvm.ClassFile.FieldType.object "OneBears$Sum"))) ∈ lw_all := lw_g (lw_at lw_m2 162 rfl) rfl
theorem q480 : (Jvm.Cond.methodLink "OneBears" (101 : Nat) ({ cls := "OneBears", name := "opens", desc := "()V" } : Jvm.MethodName)) ∈ lw_all := lw_g (lw_at lw_m2 163 rfl) rfl
theorem q481 : (Jvm.Cond.privateMethod ({ cls := "OneBears", name := "opens", desc := "()V" } : Jvm.MethodName)) ∈ lw_tbl := lw_at lw_m2 164 rfl
theorem q482 : (Jvm.Cond.instanceMethod ({ cls := "OneBears", name := "opens", desc := "()V" } : Jvm.MethodName)) ∈ lw_all := lw_g (lw_at lw_m2 165 rfl) rfl
theorem q483 : (Jvm.Cond.code ({ cls := "OneBears", name := "opens", desc := "()V" } : Jvm.MethodName) prog_1_method_9_code (1 : Nat) (Option.none : Option Jvm.ClassFile.FieldType)) ∈ lw_all := lw_g (lw_at lw_m2 166 rfl) rfl
theorem q484 : (Jvm.Cond.methodLink "OneBears" (108 : Nat) ({ cls := "OneBears", name := "closes", desc := "(I)V" } : Jvm.MethodName)) ∈ lw_all := lw_g (lw_at lw_m2 167 rfl) rfl
theorem q485 : (Jvm.Cond.privateMethod ({ cls := "OneBears", name := "closes", desc := "(I)V" } : Jvm.MethodName)) ∈ lw_tbl := lw_at lw_m2 168 rfl
theorem q486 : (Jvm.Cond.instanceMethod ({ cls := "OneBears", name := "closes", desc := "(I)V" } : Jvm.MethodName)) ∈ lw_all := lw_g (lw_at lw_m2 169 rfl) rfl
theorem q487 : (Jvm.Cond.code ({ cls := "OneBears", name := "closes", desc := "(I)V" } : Jvm.MethodName) prog_1_method_10_code (2 : Nat) (Option.none : Option Jvm.ClassFile.FieldType)) ∈ lw_all := lw_g (lw_at lw_m2 170 rfl) rfl
theorem q488 : (Jvm.Cond.stringRef "OneBears" (112 : Nat) "awnrqpkf") ∈ lw_tbl := lw_at lw_m2 171 rfl
theorem q489 : (Jvm.Cond.classLink "OneBears" (120 : Nat) "OneBears$Letter") ∈ lw_all := lw_g (lw_at lw_m2 172 rfl) rfl
theorem q491 : (Jvm.Cond.methodLink "OneBears" (122 : Nat) ({ cls := "OneBears$Letter", name := "<init>", desc := "(I)V" } : Jvm.MethodName)) ∈ lw_all := lw_g (lw_at lw_m2 174 rfl) rfl
theorem q502 : (Jvm.Cond.methodLink "OneBears" (124 : Nat) ({ cls := "OneBears", name := "isDigit", desc := "(I)Z" } : Jvm.MethodName)) ∈ lw_all := lw_g (lw_at lw_m2 185 rfl) rfl
theorem q503 : (Jvm.Cond.static ({ cls := "OneBears", name := "isDigit", desc := "(I)Z" } : Jvm.MethodName)) ∈ lw_all := lw_g (lw_at lw_m2 186 rfl) rfl
theorem q504 : (Jvm.Cond.code ({ cls := "OneBears", name := "isDigit", desc := "(I)Z" } : Jvm.MethodName) prog_1_method_7_code (1 : Nat) (Option.some Jvm.ClassFile.FieldType.boolean)) ∈ lw_all := lw_g (lw_at lw_m2 187 rfl) rfl
theorem q505 : (Jvm.Cond.classLink "OneBears" (128 : Nat) "OneBears$Constant") ∈ lw_all := lw_g (lw_at lw_m2 188 rfl) rfl
theorem q507 : (Jvm.Cond.methodLink "OneBears" (130 : Nat) ({ cls := "OneBears$Constant", name := "<init>", desc := "(I)V" } : Jvm.MethodName)) ∈ lw_all := lw_g (lw_at lw_m2 190 rfl) rfl
theorem q515 : (Jvm.Cond.classLink "OneBears" (134 : Nat) "OneBears$Chain") ∈ lw_all := lw_g (lw_at lw_m2 198 rfl) rfl
theorem q517 : (Jvm.Cond.methodLink "OneBears" (136 : Nat) ({ cls := "OneBears$Chain", name := "<init>", desc := "(LOneBears$Sum;)V" } : Jvm.MethodName)) ∈ lw_all := lw_g (lw_at lw_m2 200 rfl) rfl
theorem q531 : (Jvm.Cond.methodLink "OneBears" (139 : Nat) ({ cls := "OneBears$Chain", name := "add", desc := "(ILOneBears$Sum;)V" } : Jvm.MethodName)) ∈ lw_all := lw_g (lw_at lw_m2 214 rfl) rfl
theorem q551 : (Jvm.Cond.methodLink "OneBears" (146 : Nat) ({ cls := "OneBears", name := "isSign", desc := "(I)Z" } : Jvm.MethodName)) ∈ lw_all := lw_g (lw_at lw_m2 234 rfl) rfl
theorem q552 : (Jvm.Cond.static ({ cls := "OneBears", name := "isSign", desc := "(I)Z" } : Jvm.MethodName)) ∈ lw_all := lw_g (lw_at lw_m2 235 rfl) rfl
theorem q553 : (Jvm.Cond.code ({ cls := "OneBears", name := "isSign", desc := "(I)Z" } : Jvm.MethodName) prog_1_method_14_code (1 : Nat) (Option.some Jvm.ClassFile.FieldType.boolean)) ∈ lw_all := lw_g (lw_at lw_m2 236 rfl) rfl
theorem q555 : (Jvm.Cond.methodLink "OneBears" (182 : Nat) ({ cls := "OneBears$Clause", name := "<init>", desc := "(ILOneBears$Test;LOneBears$Sum;)V" } : Jvm.MethodName)) ∈ lw_all := lw_g (lw_at lw_m2 238 rfl) rfl
theorem q560 : (Jvm.Cond.fieldLinkNest "OneBears" (203 : Nat) "OneBears$Clause" "label" "I" "OneBears") ∈ lw_tbl := lw_at lw_m3 3 rfl
theorem q562 : (Jvm.Cond.fieldLinkNest "OneBears" (206 : Nat) "OneBears$Clause" "test" "LOneBears$Test;" "OneBears") ∈ lw_tbl := lw_at lw_m3 5 rfl
theorem q564 : (Jvm.Cond.fieldLinkNest "OneBears" (216 : Nat) "OneBears$Clause" "sum" "LOneBears$Sum;" "OneBears") ∈ lw_tbl := lw_at lw_m3 7 rfl
theorem q565 : (Jvm.Cond.fieldLinkNest "OneBears" (189 : Nat) "OneBears$Clause" "next" "LOneBears$Clause;" "OneBears") ∈ lw_tbl := lw_at lw_m3 8 rfl
theorem q575 : (Jvm.Cond.methodLink "OneBears" (163 : Nat) ({ cls := "OneBears", name := "condition", desc := "(LOneBears$Sum;)LOneBears$Test;" } : Jvm.MethodName)) ∈ lw_all := lw_g (lw_at lw_m3 18 rfl) rfl
theorem q576 : (Jvm.Cond.privateMethod ({ cls := "OneBears", name := "condition", desc := "(LOneBears$Sum;)LOneBears$Test;" } : Jvm.MethodName)) ∈ lw_tbl := lw_at lw_m3 19 rfl
theorem q577 : (Jvm.Cond.instanceMethod ({ cls := "OneBears", name := "condition", desc := "(LOneBears$Sum;)LOneBears$Test;" } : Jvm.MethodName)) ∈ lw_all := lw_g (lw_at lw_m3 20 rfl) rfl
theorem q578 : (Jvm.Cond.code ({ cls := "OneBears", name := "condition", desc := "(LOneBears$Sum;)LOneBears$Test;" } : Jvm.MethodName) prog_1_method_18_code (4 : Nat) (Option.some (Jvm.ClassFile.FieldType.object "OneBears$Test"))) ∈ lw_all := lw_g (lw_at lw_m3 21 rfl) rfl
theorem q579 : (Jvm.Cond.methodLink "OneBears" (177 : Nat) ({ cls := "OneBears", name := "part", desc := "(LOneBears$Sum;)LOneBears$Test;" } : Jvm.MethodName)) ∈ lw_all := lw_g (lw_at lw_m3 22 rfl) rfl
theorem q580 : (Jvm.Cond.privateMethod ({ cls := "OneBears", name := "part", desc := "(LOneBears$Sum;)LOneBears$Test;" } : Jvm.MethodName)) ∈ lw_tbl := lw_at lw_m3 23 rfl
theorem q581 : (Jvm.Cond.instanceMethod ({ cls := "OneBears", name := "part", desc := "(LOneBears$Sum;)LOneBears$Test;" } : Jvm.MethodName)) ∈ lw_all := lw_g (lw_at lw_m3 24 rfl) rfl
theorem q582 : (Jvm.Cond.code ({ cls := "OneBears", name := "part", desc := "(LOneBears$Sum;)LOneBears$Test;" } : Jvm.MethodName) prog_1_method_17_code (4 : Nat) (Option.some (Jvm.ClassFile.FieldType.object "OneBears$Test"))) ∈ lw_all := lw_g (lw_at lw_m3 25 rfl) rfl
theorem q583 : (Jvm.Cond.methodLink "OneBears" (154 : Nat) ({ cls := "OneBears", name := "unit", desc := "()LOneBears$Test;" } : Jvm.MethodName)) ∈ lw_all := lw_g (lw_at lw_m3 26 rfl) rfl
theorem q584 : (Jvm.Cond.privateMethod ({ cls := "OneBears", name := "unit", desc := "()LOneBears$Test;" } : Jvm.MethodName)) ∈ lw_tbl := lw_at lw_m3 27 rfl
theorem q585 : (Jvm.Cond.instanceMethod ({ cls := "OneBears", name := "unit", desc := "()LOneBears$Test;" } : Jvm.MethodName)) ∈ lw_all := lw_g (lw_at lw_m3 28 rfl) rfl
theorem q586 : (Jvm.Cond.code ({ cls := "OneBears", name := "unit", desc := "()LOneBears$Test;" } : Jvm.MethodName) prog_1_method_16_code (3 : Nat) (Option.some (Jvm.ClassFile.FieldType.object "OneBears$Test"))) ∈ lw_all := lw_g (lw_at lw_m3 29 rfl) rfl
theorem q587 : (Jvm.Cond.classLink "OneBears" (158 : Nat) "OneBears$Not") ∈ lw_all := lw_g (lw_at lw_m3 30 rfl) rfl
theorem q589 : (Jvm.Cond.methodLink "OneBears" (160 : Nat) ({ cls := "OneBears$Not", name := "<init>", desc := "(LOneBears$Test;)V" } : Jvm.MethodName)) ∈ lw_all := lw_g (lw_at lw_m3 32 rfl) rfl
theorem q603 : (Jvm.Cond.methodLink "OneBears" (167 : Nat) ({ cls := "OneBears", name := "compare", desc := "(LOneBears$Sum;)LOneBears$Test;" } : Jvm.MethodName)) ∈ lw_all := lw_g (lw_at lw_m3 46 rfl) rfl
theorem q604 : (Jvm.Cond.privateMethod ({ cls := "OneBears", name := "compare", desc := "(LOneBears$Sum;)LOneBears$Test;" } : Jvm.MethodName)) ∈ lw_tbl := lw_at lw_m3 47 rfl
theorem q605 : (Jvm.Cond.instanceMethod ({ cls := "OneBears", name := "compare", desc := "(LOneBears$Sum;)LOneBears$Test;" } : Jvm.MethodName)) ∈ lw_all := lw_g (lw_at lw_m3 48 rfl) rfl
theorem q606 : (Jvm.Cond.code ({ cls := "OneBears", name := "compare", desc := "(LOneBears$Sum;)LOneBears$Test;" } : Jvm.MethodName) prog_1_method_15_code (3 : Nat) (Option.some (Jvm.ClassFile.FieldType.object "OneBears$Test"))) ∈ lw_all := lw_g (lw_at lw_m3 49 rfl) rfl
theorem q607 : (Jvm.Cond.classLink "OneBears" (149 : Nat) "OneBears$Compare") ∈ lw_all := lw_g (lw_at lw_m3 50 rfl) rfl
theorem q609 : (Jvm.Cond.methodLink "OneBears" (151 : Nat) ({ cls := "OneBears$Compare", name := "<init>", desc := "(ILOneBears$Sum;LOneBears$Sum;)V" } : Jvm.MethodName)) ∈ lw_all := lw_g (lw_at lw_m3 52 rfl) rfl
theorem q624 : (Jvm.Cond.classLink "OneBears" (170 : Nat) "OneBears$Several") ∈ lw_all := lw_g (lw_at lw_m3 67 rfl) rfl
theorem q626 : (Jvm.Cond.methodLink "OneBears" (172 : Nat) ({ cls := "OneBears$Several", name := "<init>", desc := "(ZLOneBears$Test;)V" } : Jvm.MethodName)) ∈ lw_all := lw_g (lw_at lw_m3 69 rfl) rfl
theorem q641 : (Jvm.Cond.methodLink "OneBears" (175 : Nat) ({ cls := "OneBears$Several", name := "add", desc := "(LOneBears$Test;)V" } : Jvm.MethodName)) ∈ lw_all := lw_g (lw_at lw_m3 84 rfl) rfl
theorem q646 : (Jvm.Cond.instanceMethod ({ cls := "OneBears", name := "law", desc := "()I" } : Jvm.MethodName)) ∈ lw_all := lw_g (lw_at lw_m3 89 rfl) rfl
theorem q647 : (Jvm.Cond.selects "OneBears" ({ cls := "OneBears", name := "law", desc := "()I" } : Jvm.MethodName) ({ cls := "OneBears", name := "law", desc := "()I" } : Jvm.MethodName)) ∈ lw_all := lw_g (lw_at lw_m3 90 rfl) rfl
theorem q648 : (Jvm.Cond.codeWith ({ cls := "OneBears", name := "law", desc := "()I" } : Jvm.MethodName) prog_1_method_24_code (2 : Nat) (Option.some Jvm.ClassFile.FieldType.int) [((11 : Nat), (24 : Nat), (27 : Nat), (7 : Nat))]) ∈ lw_all := lw_g (lw_at lw_m3 91 rfl) rfl
theorem q650 : (Jvm.Cond.instanceMethod ({ cls := "OneBears", name := "animal", desc := "(III)I" } : Jvm.MethodName)) ∈ lw_all := lw_g (lw_at lw_m3 93 rfl) rfl
theorem q651 : (Jvm.Cond.selects "OneBears" ({ cls := "OneBears", name := "animal", desc := "(III)I" } : Jvm.MethodName) ({ cls := "OneBears", name := "animal", desc := "(III)I" } : Jvm.MethodName)) ∈ lw_all := lw_g (lw_at lw_m3 94 rfl) rfl
theorem q652 : (Jvm.Cond.code ({ cls := "OneBears", name := "animal", desc := "(III)I" } : Jvm.MethodName) prog_1_method_27_code (5 : Nat) (Option.some Jvm.ClassFile.FieldType.int)) ∈ lw_all := lw_g (lw_at lw_m3 95 rfl) rfl
theorem q653 : (Jvm.Cond.methodLink "OneBears" (235 : Nat) ({ cls := "OneBears", name := "isAnimal", desc := "(I)Z" } : Jvm.MethodName)) ∈ lw_all := lw_g (lw_at lw_m3 96 rfl) rfl
theorem q654 : (Jvm.Cond.privateMethod ({ cls := "OneBears", name := "isAnimal", desc := "(I)Z" } : Jvm.MethodName)) ∈ lw_tbl := lw_at lw_m3 97 rfl
theorem q655 : (Jvm.Cond.instanceMethod ({ cls := "OneBears", name := "isAnimal", desc := "(I)Z" } : Jvm.MethodName)) ∈ lw_all := lw_g (lw_at lw_m3 98 rfl) rfl
theorem q656 : (Jvm.Cond.code ({ cls := "OneBears", name := "isAnimal", desc := "(I)Z" } : Jvm.MethodName) prog_1_method_26_code (2 : Nat) (Option.some Jvm.ClassFile.FieldType.boolean)) ∈ lw_all := lw_g (lw_at lw_m3 99 rfl) rfl
theorem q657 : (Jvm.Cond.methodLink "OneBears" (228 : Nat) ({ cls := "OneBears", name := "in", desc := "(III)Z" } : Jvm.MethodName)) ∈ lw_all := lw_g (lw_at lw_m3 100 rfl) rfl
theorem q658 : (Jvm.Cond.static ({ cls := "OneBears", name := "in", desc := "(III)Z" } : Jvm.MethodName)) ∈ lw_all := lw_g (lw_at lw_m3 101 rfl) rfl
theorem q659 : (Jvm.Cond.code ({ cls := "OneBears", name := "in", desc := "(III)Z" } : Jvm.MethodName) prog_1_method_1_code (3 : Nat) (Option.some Jvm.ClassFile.FieldType.boolean)) ∈ lw_all := lw_g (lw_at lw_m3 102 rfl) rfl
theorem q660 : (Jvm.Cond.methodLink "OneBears" (238 : Nat) ({ cls := "OneBears$Tree", name := "add", desc := "(III)V" } : Jvm.MethodName)) ∈ lw_all := lw_g (lw_at lw_m3 103 rfl) rfl
theorem q666 : (Jvm.Cond.instanceMethod ({ cls := "OneBears", name := "kin", desc := "(II)J" } : Jvm.MethodName)) ∈ lw_all := lw_g (lw_at lw_m3 109 rfl) rfl
theorem q667 : (Jvm.Cond.selects "OneBears" ({ cls := "OneBears", name := "kin", desc := "(II)J" } : Jvm.MethodName) ({ cls := "OneBears", name := "kin", desc := "(II)J" } : Jvm.MethodName)) ∈ lw_all := lw_g (lw_at lw_m3 110 rfl) rfl
theorem q668 : (Jvm.Cond.code ({ cls := "OneBears", name := "kin", desc := "(II)J" } : Jvm.MethodName) prog_1_method_28_code (3 : Nat) (Option.some Jvm.ClassFile.FieldType.long)) ∈ lw_all := lw_g (lw_at lw_m3 111 rfl) rfl
theorem q669 : (Jvm.Cond.methodLink "OneBears" (241 : Nat) ({ cls := "OneBears$Tree", name := "kin", desc := "(II)J" } : Jvm.MethodName)) ∈ lw_all := lw_g (lw_at lw_m3 112 rfl) rfl
theorem q682 : (Jvm.Cond.constantLong "OneBears" (245 : Nat) (-1000 : Int64)) ∈ lw_all := lw_g (lw_at lw_m3 125 rfl) rfl
theorem q684 : (Jvm.Cond.instanceMethod ({ cls := "OneBears", name := "young", desc := "(III)J" } : Jvm.MethodName)) ∈ lw_all := lw_g (lw_at lw_m3 127 rfl) rfl
theorem q685 : (Jvm.Cond.selects "OneBears" ({ cls := "OneBears", name := "young", desc := "(III)J" } : Jvm.MethodName) ({ cls := "OneBears", name := "young", desc := "(III)J" } : Jvm.MethodName)) ∈ lw_all := lw_g (lw_at lw_m3 128 rfl) rfl
theorem q686 : (Jvm.Cond.code ({ cls := "OneBears", name := "young", desc := "(III)J" } : Jvm.MethodName) prog_1_method_29_code (4 : Nat) (Option.some Jvm.ClassFile.FieldType.long)) ∈ lw_all := lw_g (lw_at lw_m3 129 rfl) rfl
theorem q687 : (Jvm.Cond.methodLink "OneBears" (247 : Nat) ({ cls := "OneBears$Tree", name := "young", desc := "(III)J" } : Jvm.MethodName)) ∈ lw_all := lw_g (lw_at lw_m3 130 rfl) rfl
theorem q692 : (Jvm.Cond.instanceMethod ({ cls := "OneBears", name := "worthIt", desc := "(IIIII)I" } : Jvm.MethodName)) ∈ lw_all := lw_g (lw_at lw_m3 135 rfl) rfl
theorem q693 : (Jvm.Cond.selects "OneBears" ({ cls := "OneBears", name := "worthIt", desc := "(IIIII)I" } : Jvm.MethodName) ({ cls := "OneBears", name := "worthIt", desc := "(IIIII)I" } : Jvm.MethodName)) ∈ lw_all := lw_g (lw_at lw_m3 136 rfl) rfl
theorem q694 : (Jvm.Cond.code ({ cls := "OneBears", name := "worthIt", desc := "(IIIII)I" } : Jvm.MethodName) prog_1_method_30_code (11 : Nat) (Option.some Jvm.ClassFile.FieldType.int)) ∈ lw_all := lw_g (lw_at lw_m3 137 rfl) rfl
theorem q696 : (Jvm.Cond.instanceMethod ({ cls := "OneBears", name := "reign", desc := "(II)Z" } : Jvm.MethodName)) ∈ lw_all := lw_g (lw_at lw_m3 139 rfl) rfl
theorem q697 : (Jvm.Cond.selects "OneBears" ({ cls := "OneBears", name := "reign", desc := "(II)Z" } : Jvm.MethodName) ({ cls := "OneBears", name := "reign", desc := "(II)Z" } : Jvm.MethodName)) ∈ lw_all := lw_g (lw_at lw_m3 140 rfl) rfl
theorem q698 : (Jvm.Cond.code ({ cls := "OneBears", name := "reign", desc := "(II)Z" } : Jvm.MethodName) prog_1_method_31_code (3 : Nat) (Option.some Jvm.ClassFile.FieldType.boolean)) ∈ lw_all := lw_g (lw_at lw_m3 141 rfl) rfl
theorem q700 : (Jvm.Cond.instanceMethod ({ cls := "OneBears", name := "set", desc := "(II)Z" } : Jvm.MethodName)) ∈ lw_all := lw_g (lw_at lw_m3 143 rfl) rfl
theorem q701 : (Jvm.Cond.selects "OneBears" ({ cls := "OneBears", name := "set", desc := "(II)Z" } : Jvm.MethodName) ({ cls := "OneBears", name := "set", desc := "(II)Z" } : Jvm.MethodName)) ∈ lw_all := lw_g (lw_at lw_m3 144 rfl) rfl
theorem q702 : (Jvm.Cond.code ({ cls := "OneBears", name := "set", desc := "(II)Z" } : Jvm.MethodName) prog_1_method_34_code (3 : Nat) (Option.some Jvm.ClassFile.FieldType.boolean)) ∈ lw_all := lw_g (lw_at lw_m3 145 rfl) rfl
theorem q703 : (Jvm.Cond.methodLink "OneBears" (251 : Nat) ({ cls := "OneBears", name := "least", desc := "(I)I" } : Jvm.MethodName)) ∈ lw_all := lw_g (lw_at lw_m3 146 rfl) rfl
theorem q704 : (Jvm.Cond.static ({ cls := "OneBears", name := "least", desc := "(I)I" } : Jvm.MethodName)) ∈ lw_all := lw_g (lw_at lw_m3 147 rfl) rfl
theorem q705 : (Jvm.Cond.code ({ cls := "OneBears", name := "least", desc := "(I)I" } : Jvm.MethodName) prog_1_method_32_code (1 : Nat) (Option.some Jvm.ClassFile.FieldType.int)) ∈ lw_all := lw_g (lw_at lw_m3 148 rfl) rfl
theorem q706 : (Jvm.Cond.methodLink "OneBears" (254 : Nat) ({ cls := "OneBears", name := "most", desc := "(I)I" } : Jvm.MethodName)) ∈ lw_all := lw_g (lw_at lw_m3 149 rfl) rfl
theorem q707 : (Jvm.Cond.static ({ cls := "OneBears", name := "most", desc := "(I)I" } : Jvm.MethodName)) ∈ lw_all := lw_g (lw_at lw_m3 150 rfl) rfl
theorem q708 : (Jvm.Cond.code ({ cls := "OneBears", name := "most", desc := "(I)I" } : Jvm.MethodName) prog_1_method_33_code (1 : Nat) (Option.some Jvm.ClassFile.FieldType.int)) ∈ lw_all := lw_g (lw_at lw_m3 151 rfl) rfl
theorem q710 : (Jvm.Cond.instanceMethod ({ cls := "OneBears", name := "told", desc := "(I)I" } : Jvm.MethodName)) ∈ lw_all := lw_g (lw_at lw_m3 153 rfl) rfl
theorem q711 : (Jvm.Cond.selects "OneBears" ({ cls := "OneBears", name := "told", desc := "(I)I" } : Jvm.MethodName) ({ cls := "OneBears", name := "told", desc := "(I)I" } : Jvm.MethodName)) ∈ lw_all := lw_g (lw_at lw_m3 154 rfl) rfl
theorem q712 : (Jvm.Cond.code ({ cls := "OneBears", name := "told", desc := "(I)I" } : Jvm.MethodName) prog_1_method_35_code (2 : Nat) (Option.some Jvm.ClassFile.FieldType.int)) ∈ lw_all := lw_g (lw_at lw_m3 155 rfl) rfl
theorem q714 : (Jvm.Cond.instanceMethod ({ cls := "OneBears", name := "rain", desc := "(III)Z" } : Jvm.MethodName)) ∈ lw_all := lw_g (lw_at lw_m3 157 rfl) rfl
theorem q715 : (Jvm.Cond.selects "OneBears" ({ cls := "OneBears", name := "rain", desc := "(III)Z" } : Jvm.MethodName) ({ cls := "OneBears", name := "rain", desc := "(III)Z" } : Jvm.MethodName)) ∈ lw_all := lw_g (lw_at lw_m3 158 rfl) rfl
theorem q716 : (Jvm.Cond.code ({ cls := "OneBears", name := "rain", desc := "(III)Z" } : Jvm.MethodName) prog_1_method_36_code (5 : Nat) (Option.some Jvm.ClassFile.FieldType.boolean)) ∈ lw_all := lw_g (lw_at lw_m3 159 rfl) rfl
theorem q718 : (Jvm.Cond.instanceMethod ({ cls := "OneBears", name := "run", desc := "(IJIII)I" } : Jvm.MethodName)) ∈ lw_all := lw_g (lw_at lw_m3 161 rfl) rfl
theorem q719 : (Jvm.Cond.selects "OneBears" ({ cls := "OneBears", name := "run", desc := "(IJIII)I" } : Jvm.MethodName) ({ cls := "OneBears", name := "run", desc := "(IJIII)I" } : Jvm.MethodName)) ∈ lw_all := lw_g (lw_at lw_m3 162 rfl) rfl
theorem q720 : (Jvm.Cond.code ({ cls := "OneBears", name := "run", desc := "(IJIII)I" } : Jvm.MethodName) prog_1_method_39_code (7 : Nat) (Option.some Jvm.ClassFile.FieldType.int)) ∈ lw_all := lw_g (lw_at lw_m3 163 rfl) rfl
theorem q721 : (Jvm.Cond.methodLink "OneBears" (264 : Nat) ({ cls := "OneBears", name := "isLaw", desc := "(I)Z" } : Jvm.MethodName)) ∈ lw_all := lw_g (lw_at lw_m3 164 rfl) rfl
theorem q722 : (Jvm.Cond.privateMethod ({ cls := "OneBears", name := "isLaw", desc := "(I)Z" } : Jvm.MethodName)) ∈ lw_tbl := lw_at lw_m3 165 rfl
theorem q723 : (Jvm.Cond.instanceMethod ({ cls := "OneBears", name := "isLaw", desc := "(I)Z" } : Jvm.MethodName)) ∈ lw_all := lw_g (lw_at lw_m3 166 rfl) rfl
theorem q724 : (Jvm.Cond.code ({ cls := "OneBears", name := "isLaw", desc := "(I)Z" } : Jvm.MethodName) prog_1_method_25_code (2 : Nat) (Option.some Jvm.ClassFile.FieldType.boolean)) ∈ lw_all := lw_g (lw_at lw_m3 167 rfl) rfl
theorem q725 : (Jvm.Cond.methodLink "OneBears" (275 : Nat) ({ cls := "OneBears", name := "go", desc := "(IJII)V" } : Jvm.MethodName)) ∈ lw_all := lw_g (lw_at lw_m3 168 rfl) rfl
theorem q726 : (Jvm.Cond.privateMethod ({ cls := "OneBears", name := "go", desc := "(IJII)V" } : Jvm.MethodName)) ∈ lw_tbl := lw_at lw_m3 169 rfl
theorem q727 : (Jvm.Cond.instanceMethod ({ cls := "OneBears", name := "go", desc := "(IJII)V" } : Jvm.MethodName)) ∈ lw_all := lw_g (lw_at lw_m3 170 rfl) rfl
theorem q728 : (Jvm.Cond.code ({ cls := "OneBears", name := "go", desc := "(IJII)V" } : Jvm.MethodName) prog_1_method_37_code (6 : Nat) (Option.none : Option Jvm.ClassFile.FieldType)) ∈ lw_all := lw_g (lw_at lw_m3 171 rfl) rfl
theorem q729 : (Jvm.Cond.methodLink "OneBears" (257 : Nat) ({ cls := "OneBears$Colony", name := "begin", desc := "(LOneBears$Clause;JII)V" } : Jvm.MethodName)) ∈ lw_all := lw_g (lw_at lw_m3 172 rfl) rfl
theorem q738 : (Jvm.Cond.methodLink "OneBears" (261 : Nat) ({ cls := "OneBears$Colony", name := "go", desc := "(I)V" } : Jvm.MethodName)) ∈ lw_all := lw_g (lw_at lw_m3 181 rfl) rfl
theorem q771 : (Jvm.Cond.privateMethod ({ cls := "OneBears", name := "forget", desc := "()V" } : Jvm.MethodName)) ∈ lw_tbl := lw_at lw_m3 214 rfl
theorem q772 : (Jvm.Cond.instanceMethod ({ cls := "OneBears", name := "forget", desc := "()V" } : Jvm.MethodName)) ∈ lw_all := lw_g (lw_at lw_m3 215 rfl) rfl
theorem q773 : (Jvm.Cond.code ({ cls := "OneBears", name := "forget", desc := "()V" } : Jvm.MethodName) prog_1_method_22_code (2 : Nat) (Option.none : Option Jvm.ClassFile.FieldType)) ∈ lw_all := lw_g (lw_at lw_m3 216 rfl) rfl
theorem q774 : (Jvm.Cond.methodLink "OneBears" (196 : Nat) ({ cls := "java/lang/String", name := "length", desc := "()I" } : Jvm.MethodName)) ∈ lw_all := lw_g (lw_at lw_m3 217 rfl) rfl
theorem q775 : (Jvm.Cond.methodLink "OneBears" (199 : Nat) ({ cls := "java/lang/String", name := "charAt", desc := "(I)C" } : Jvm.MethodName)) ∈ lw_all := lw_g (lw_at lw_m3 218 rfl) rfl
theorem q809 : (Jvm.Cond.static ({ cls := "OneBears", name := "worth", desc := "(LOneBears$Clause;I[I)I" } : Jvm.MethodName)) ∈ lw_all := lw_g (lw_at lw_m4 12 rfl) rfl
theorem q810 : (Jvm.Cond.code ({ cls := "OneBears", name := "worth", desc := "(LOneBears$Clause;I[I)I" } : Jvm.MethodName) prog_1_method_23_code (4 : Nat) (Option.some Jvm.ClassFile.FieldType.int)) ∈ lw_all := lw_g (lw_at lw_m4 13 rfl) rfl
theorem q811 : (Jvm.Cond.methodLink "OneBears" (210 : Nat) ({ cls := "OneBears$Test", name := "holds", desc := "([I)Z" } : Jvm.MethodName)) ∈ lw_all := lw_g (lw_at lw_m4 14 rfl) rfl
theorem q851 : (Jvm.Cond.methodLink "OneBears" (219 : Nat) ({ cls := "OneBears$Sum", name := "value", desc := "([I)I" } : Jvm.MethodName)) ∈ lw_all := lw_g (lw_at lw_m4 54 rfl) rfl
theorem q879 : (Jvm.Cond.instanceMethod ({ cls := "OneBears", name := "all", desc := "(IJII)I" } : Jvm.MethodName)) ∈ lw_all := lw_g (lw_at lw_m4 82 rfl) rfl
theorem q880 : (Jvm.Cond.selects "OneBears" ({ cls := "OneBears", name := "all", desc := "(IJII)I" } : Jvm.MethodName) ({ cls := "OneBears", name := "all", desc := "(IJII)I" } : Jvm.MethodName)) ∈ lw_all := lw_g (lw_at lw_m4 83 rfl) rfl
theorem q881 : (Jvm.Cond.code ({ cls := "OneBears", name := "all", desc := "(IJII)I" } : Jvm.MethodName) prog_1_method_40_code (6 : Nat) (Option.some Jvm.ClassFile.FieldType.int)) ∈ lw_all := lw_g (lw_at lw_m4 84 rfl) rfl
theorem q882 : (Jvm.Cond.methodLink "OneBears" (293 : Nat) ({ cls := "OneBears$Colony", name := "there", desc := "()I" } : Jvm.MethodName)) ∈ lw_all := lw_g (lw_at lw_m4 85 rfl) rfl
theorem q883 : (Jvm.Cond.methodLink "OneBears" (299 : Nat) ({ cls := "OneBears$Colony", name := "hasQueen", desc := "()Z" } : Jvm.MethodName)) ∈ lw_all := lw_g (lw_at lw_m4 86 rfl) rfl
theorem q884 : (Jvm.Cond.methodLink "OneBears" (306 : Nat) ({ cls := "OneBears$Colony", name := "ended", desc := "(I)I" } : Jvm.MethodName)) ∈ lw_all := lw_g (lw_at lw_m4 87 rfl) rfl
theorem q889 : (Jvm.Cond.instanceMethod ({ cls := "OneBears", name := "find", desc := "(I)J" } : Jvm.MethodName)) ∈ lw_all := lw_g (lw_at lw_m4 92 rfl) rfl
theorem q890 : (Jvm.Cond.selects "OneBears" ({ cls := "OneBears", name := "find", desc := "(I)J" } : Jvm.MethodName) ({ cls := "OneBears", name := "find", desc := "(I)J" } : Jvm.MethodName)) ∈ lw_all := lw_g (lw_at lw_m4 93 rfl) rfl
theorem q891 : (Jvm.Cond.code ({ cls := "OneBears", name := "find", desc := "(I)J" } : Jvm.MethodName) prog_1_method_42_code (2 : Nat) (Option.some Jvm.ClassFile.FieldType.long)) ∈ lw_all := lw_g (lw_at lw_m4 94 rfl) rfl
theorem q892 : (Jvm.Cond.constantLong "OneBears" (312 : Nat) (100 : Int64)) ∈ lw_all := lw_g (lw_at lw_m4 95 rfl) rfl
theorem q893 : (Jvm.Cond.methodLink "OneBears" (314 : Nat) ({ cls := "OneBears", name := "power", desc := "(JI)J" } : Jvm.MethodName)) ∈ lw_all := lw_g (lw_at lw_m4 96 rfl) rfl
theorem q894 : (Jvm.Cond.static ({ cls := "OneBears", name := "power", desc := "(JI)J" } : Jvm.MethodName)) ∈ lw_all := lw_g (lw_at lw_m4 97 rfl) rfl
theorem q895 : (Jvm.Cond.code ({ cls := "OneBears", name := "power", desc := "(JI)J" } : Jvm.MethodName) prog_1_method_41_code (6 : Nat) (Option.some Jvm.ClassFile.FieldType.long)) ∈ lw_all := lw_g (lw_at lw_m4 98 rfl) rfl
theorem q896 : (Jvm.Cond.constantLong "OneBears" (318 : Nat) (-1 : Int64)) ∈ lw_all := lw_g (lw_at lw_m4 99 rfl) rfl
theorem q898 : (Jvm.Cond.instanceMethod ({ cls := "OneBears", name := "many", desc := "(II)I" } : Jvm.MethodName)) ∈ lw_all := lw_g (lw_at lw_m4 101 rfl) rfl
theorem q899 : (Jvm.Cond.selects "OneBears" ({ cls := "OneBears", name := "many", desc := "(II)I" } : Jvm.MethodName) ({ cls := "OneBears", name := "many", desc := "(II)I" } : Jvm.MethodName)) ∈ lw_all := lw_g (lw_at lw_m4 102 rfl) rfl
theorem q900 : (Jvm.Cond.code ({ cls := "OneBears", name := "many", desc := "(II)I" } : Jvm.MethodName) prog_1_method_43_code (4 : Nat) (Option.some Jvm.ClassFile.FieldType.int)) ∈ lw_all := lw_g (lw_at lw_m4 103 rfl) rfl
theorem q902 : (Jvm.Cond.instanceMethod ({ cls := "OneBears", name := "note", desc := "(III)I" } : Jvm.MethodName)) ∈ lw_all := lw_g (lw_at lw_m4 105 rfl) rfl
theorem q903 : (Jvm.Cond.selects "OneBears" ({ cls := "OneBears", name := "note", desc := "(III)I" } : Jvm.MethodName) ({ cls := "OneBears", name := "note", desc := "(III)I" } : Jvm.MethodName)) ∈ lw_all := lw_g (lw_at lw_m4 106 rfl) rfl
theorem q904 : (Jvm.Cond.code ({ cls := "OneBears", name := "note", desc := "(III)I" } : Jvm.MethodName) prog_1_method_44_code (4 : Nat) (Option.some Jvm.ClassFile.FieldType.int)) ∈ lw_all := lw_g (lw_at lw_m4 107 rfl) rfl
theorem q906 : (Jvm.Cond.instanceMethod ({ cls := "OneBears", name := "fits", desc := "(J)I" } : Jvm.MethodName)) ∈ lw_all := lw_g (lw_at lw_m4 109 rfl) rfl
theorem q907 : (Jvm.Cond.selects "OneBears" ({ cls := "OneBears", name := "fits", desc := "(J)I" } : Jvm.MethodName) ({ cls := "OneBears", name := "fits", desc := "(J)I" } : Jvm.MethodName)) ∈ lw_all := lw_g (lw_at lw_m4 110 rfl) rfl
theorem q908 : (Jvm.Cond.code ({ cls := "OneBears", name := "fits", desc := "(J)I" } : Jvm.MethodName) prog_1_method_46_code (5 : Nat) (Option.some Jvm.ClassFile.FieldType.int)) ∈ lw_all := lw_g (lw_at lw_m4 111 rfl) rfl
theorem q909 : (Jvm.Cond.methodLink "OneBears" (331 : Nat) ({ cls := "OneBears", name := "isFit", desc := "(IJ)Z" } : Jvm.MethodName)) ∈ lw_all := lw_g (lw_at lw_m4 112 rfl) rfl
theorem q910 : (Jvm.Cond.privateMethod ({ cls := "OneBears", name := "isFit", desc := "(IJ)Z" } : Jvm.MethodName)) ∈ lw_tbl := lw_at lw_m4 113 rfl
theorem q911 : (Jvm.Cond.instanceMethod ({ cls := "OneBears", name := "isFit", desc := "(IJ)Z" } : Jvm.MethodName)) ∈ lw_all := lw_g (lw_at lw_m4 114 rfl) rfl
theorem q912 : (Jvm.Cond.code ({ cls := "OneBears", name := "isFit", desc := "(IJ)Z" } : Jvm.MethodName) prog_1_method_45_code (6 : Nat) (Option.some Jvm.ClassFile.FieldType.boolean)) ∈ lw_all := lw_g (lw_at lw_m4 115 rfl) rfl
theorem q913 : (Jvm.Cond.methodLink "OneBears" (323 : Nat) ({ cls := "java/lang/Math", name := "abs", desc := "(I)I" } : Jvm.MethodName)) ∈ lw_all := lw_g (lw_at lw_m4 116 rfl) rfl
theorem q916 : (Jvm.Cond.methodLink "OneBears" (328 : Nat) ({ cls := "OneBears$Colony", name := "step", desc := "()V" } : Jvm.MethodName)) ∈ lw_all := lw_g (lw_at lw_m4 119 rfl) rfl
theorem q918 : (Jvm.Cond.instanceMethod ({ cls := "OneBears", name := "whatIf", desc := "(IJI)I" } : Jvm.MethodName)) ∈ lw_all := lw_g (lw_at lw_m4 121 rfl) rfl
theorem q919 : (Jvm.Cond.selects "OneBears" ({ cls := "OneBears", name := "whatIf", desc := "(IJI)I" } : Jvm.MethodName) ({ cls := "OneBears", name := "whatIf", desc := "(IJI)I" } : Jvm.MethodName)) ∈ lw_all := lw_g (lw_at lw_m4 122 rfl) rfl
theorem q920 : (Jvm.Cond.code ({ cls := "OneBears", name := "whatIf", desc := "(IJI)I" } : Jvm.MethodName) prog_1_method_47_code (6 : Nat) (Option.some Jvm.ClassFile.FieldType.int)) ∈ lw_all := lw_g (lw_at lw_m4 123 rfl) rfl
theorem q922 : (Jvm.Cond.instanceMethod ({ cls := "OneBears", name := "trial", desc := "(II)I" } : Jvm.MethodName)) ∈ lw_all := lw_g (lw_at lw_m4 125 rfl) rfl
theorem q923 : (Jvm.Cond.selects "OneBears" ({ cls := "OneBears", name := "trial", desc := "(II)I" } : Jvm.MethodName) ({ cls := "OneBears", name := "trial", desc := "(II)I" } : Jvm.MethodName)) ∈ lw_all := lw_g (lw_at lw_m4 126 rfl) rfl
theorem q924 : (Jvm.Cond.code ({ cls := "OneBears", name := "trial", desc := "(II)I" } : Jvm.MethodName) prog_1_method_48_code (3 : Nat) (Option.some Jvm.ClassFile.FieldType.int)) ∈ lw_all := lw_g (lw_at lw_m4 127 rfl) rfl
theorem q926 : (Jvm.Cond.instanceMethod ({ cls := "OneBears", name := "tells", desc := "(IIJ)I" } : Jvm.MethodName)) ∈ lw_all := lw_g (lw_at lw_m4 129 rfl) rfl
theorem q927 : (Jvm.Cond.selects "OneBears" ({ cls := "OneBears", name := "tells", desc := "(IIJ)I" } : Jvm.MethodName) ({ cls := "OneBears", name := "tells", desc := "(IIJ)I" } : Jvm.MethodName)) ∈ lw_all := lw_g (lw_at lw_m4 130 rfl) rfl
theorem q928 : (Jvm.Cond.code ({ cls := "OneBears", name := "tells", desc := "(IIJ)I" } : Jvm.MethodName) prog_1_method_51_code (5 : Nat) (Option.some Jvm.ClassFile.FieldType.int)) ∈ lw_all := lw_g (lw_at lw_m4 131 rfl) rfl
theorem q929 : (Jvm.Cond.methodLink "OneBears" (344 : Nat) ({ cls := "OneBears", name := "isTrial", desc := "(I)Z" } : Jvm.MethodName)) ∈ lw_all := lw_g (lw_at lw_m4 132 rfl) rfl
theorem q930 : (Jvm.Cond.privateMethod ({ cls := "OneBears", name := "isTrial", desc := "(I)Z" } : Jvm.MethodName)) ∈ lw_tbl := lw_at lw_m4 133 rfl
theorem q931 : (Jvm.Cond.instanceMethod ({ cls := "OneBears", name := "isTrial", desc := "(I)Z" } : Jvm.MethodName)) ∈ lw_all := lw_g (lw_at lw_m4 134 rfl) rfl
theorem q932 : (Jvm.Cond.code ({ cls := "OneBears", name := "isTrial", desc := "(I)Z" } : Jvm.MethodName) prog_1_method_50_code (2 : Nat) (Option.some Jvm.ClassFile.FieldType.boolean)) ∈ lw_all := lw_g (lw_at lw_m4 135 rfl) rfl
theorem q933 : (Jvm.Cond.methodLink "OneBears" (347 : Nat) ({ cls := "OneBears", name := "toldBy", desc := "(IIJ)I" } : Jvm.MethodName)) ∈ lw_all := lw_g (lw_at lw_m4 136 rfl) rfl
theorem q934 : (Jvm.Cond.privateMethod ({ cls := "OneBears", name := "toldBy", desc := "(IIJ)I" } : Jvm.MethodName)) ∈ lw_tbl := lw_at lw_m4 137 rfl
theorem q935 : (Jvm.Cond.instanceMethod ({ cls := "OneBears", name := "toldBy", desc := "(IIJ)I" } : Jvm.MethodName)) ∈ lw_all := lw_g (lw_at lw_m4 138 rfl) rfl
theorem q936 : (Jvm.Cond.code ({ cls := "OneBears", name := "toldBy", desc := "(IIJ)I" } : Jvm.MethodName) prog_1_method_49_code (5 : Nat) (Option.some Jvm.ClassFile.FieldType.int)) ∈ lw_all := lw_g (lw_at lw_m4 139 rfl) rfl
theorem q937 : (Jvm.Cond.methodLink "OneBears" (338 : Nat) ({ cls := "java/lang/Math", name := "min", desc := "(II)I" } : Jvm.MethodName)) ∈ lw_all := lw_g (lw_at lw_m4 140 rfl) rfl
theorem q939 : (Jvm.Cond.instanceMethod ({ cls := "OneBears", name := "parted", desc := "(IIJ)I" } : Jvm.MethodName)) ∈ lw_all := lw_g (lw_at lw_m4 142 rfl) rfl
theorem q940 : (Jvm.Cond.selects "OneBears" ({ cls := "OneBears", name := "parted", desc := "(IIJ)I" } : Jvm.MethodName) ({ cls := "OneBears", name := "parted", desc := "(IIJ)I" } : Jvm.MethodName)) ∈ lw_all := lw_g (lw_at lw_m4 143 rfl) rfl
theorem q941 : (Jvm.Cond.code ({ cls := "OneBears", name := "parted", desc := "(IIJ)I" } : Jvm.MethodName) prog_1_method_54_code (5 : Nat) (Option.some Jvm.ClassFile.FieldType.int)) ∈ lw_all := lw_g (lw_at lw_m4 144 rfl) rfl
theorem q942 : (Jvm.Cond.methodLink "OneBears" (351 : Nat) ({ cls := "OneBears", name := "areLaws", desc := "(I)Z" } : Jvm.MethodName)) ∈ lw_all := lw_g (lw_at lw_m4 145 rfl) rfl
theorem q943 : (Jvm.Cond.privateMethod ({ cls := "OneBears", name := "areLaws", desc := "(I)Z" } : Jvm.MethodName)) ∈ lw_tbl := lw_at lw_m4 146 rfl
theorem q944 : (Jvm.Cond.instanceMethod ({ cls := "OneBears", name := "areLaws", desc := "(I)Z" } : Jvm.MethodName)) ∈ lw_all := lw_g (lw_at lw_m4 147 rfl) rfl
theorem q945 : (Jvm.Cond.code ({ cls := "OneBears", name := "areLaws", desc := "(I)Z" } : Jvm.MethodName) prog_1_method_53_code (2 : Nat) (Option.some Jvm.ClassFile.FieldType.boolean)) ∈ lw_all := lw_g (lw_at lw_m4 148 rfl) rfl
theorem q946 : (Jvm.Cond.methodLink "OneBears" (354 : Nat) ({ cls := "OneBears", name := "partedBy", desc := "(IIJ)I" } : Jvm.MethodName)) ∈ lw_all := lw_g (lw_at lw_m4 149 rfl) rfl
theorem q947 : (Jvm.Cond.privateMethod ({ cls := "OneBears", name := "partedBy", desc := "(IIJ)I" } : Jvm.MethodName)) ∈ lw_tbl := lw_at lw_m4 150 rfl
theorem q948 : (Jvm.Cond.instanceMethod ({ cls := "OneBears", name := "partedBy", desc := "(IIJ)I" } : Jvm.MethodName)) ∈ lw_all := lw_g (lw_at lw_m4 151 rfl) rfl
theorem q949 : (Jvm.Cond.code ({ cls := "OneBears", name := "partedBy", desc := "(IIJ)I" } : Jvm.MethodName) prog_1_method_52_code (8 : Nat) (Option.some Jvm.ClassFile.FieldType.int)) ∈ lw_all := lw_g (lw_at lw_m4 152 rfl) rfl
theorem q951 : (Jvm.Cond.instanceMethod ({ cls := "OneBears", name := "next", desc := "(IJ)I" } : Jvm.MethodName)) ∈ lw_all := lw_g (lw_at lw_m4 154 rfl) rfl
theorem q952 : (Jvm.Cond.selects "OneBears" ({ cls := "OneBears", name := "next", desc := "(IJ)I" } : Jvm.MethodName) ({ cls := "OneBears", name := "next", desc := "(IJ)I" } : Jvm.MethodName)) ∈ lw_all := lw_g (lw_at lw_m4 155 rfl) rfl
theorem q953 : (Jvm.Cond.code ({ cls := "OneBears", name := "next", desc := "(IJ)I" } : Jvm.MethodName) prog_1_method_55_code (8 : Nat) (Option.some Jvm.ClassFile.FieldType.int)) ∈ lw_all := lw_g (lw_at lw_m4 156 rfl) rfl
theorem q955 : (Jvm.Cond.instanceMethod ({ cls := "OneBears", name := "count", desc := "(I)I" } : Jvm.MethodName)) ∈ lw_all := lw_g (lw_at lw_m4 158 rfl) rfl
theorem q956 : (Jvm.Cond.selects "OneBears" ({ cls := "OneBears", name := "count", desc := "(I)I" } : Jvm.MethodName) ({ cls := "OneBears", name := "count", desc := "(I)I" } : Jvm.MethodName)) ∈ lw_all := lw_g (lw_at lw_m4 159 rfl) rfl
theorem q957 : (Jvm.Cond.code ({ cls := "OneBears", name := "count", desc := "(I)I" } : Jvm.MethodName) prog_1_method_56_code (2 : Nat) (Option.some Jvm.ClassFile.FieldType.int)) ∈ lw_all := lw_g (lw_at lw_m4 160 rfl) rfl
theorem q963 : (Jvm.Cond.instanceMethod ({ cls := "OneBears", name := "worth", desc := "(III)I" } : Jvm.MethodName)) ∈ lw_all := lw_g (lw_at lw_m4 166 rfl) rfl
theorem q964 : (Jvm.Cond.selects "OneBears" ({ cls := "OneBears", name := "worth", desc := "(III)I" } : Jvm.MethodName) ({ cls := "OneBears", name := "worth", desc := "(III)I" } : Jvm.MethodName)) ∈ lw_all := lw_g (lw_at lw_m4 167 rfl) rfl
theorem q965 : (Jvm.Cond.code ({ cls := "OneBears", name := "worth", desc := "(III)I" } : Jvm.MethodName) prog_1_method_38_code (4 : Nat) (Option.some Jvm.ClassFile.FieldType.int)) ∈ lw_all := lw_g (lw_at lw_m4 168 rfl) rfl
theorem q966 : (Jvm.Cond.classLink "OneBears" (267 : Nat) "java/util/NoSuchElementException") ∈ lw_all := lw_g (lw_at lw_m4 169 rfl) rfl
theorem q977 : (Jvm.Cond.methodLink "OneBears" (269 : Nat) ({ cls := "java/util/NoSuchElementException", name := "<init>", desc := "()V" } : Jvm.MethodName)) ∈ lw_all := lw_g (lw_at lw_m4 180 rfl) rfl
theorem q986 : (Jvm.Cond.methodLink "OneBears" (270 : Nat) ({ cls := "OneBears$Colony", name := "opens", desc := "()V" } : Jvm.MethodName)) ∈ lw_all := lw_g (lw_at lw_m4 189 rfl) rfl
theorem q987 : (Jvm.Cond.methodLink "OneBears" (271 : Nat) ({ cls := "OneBears$Colony", name := "worthOf", desc := "(II)I" } : Jvm.MethodName)) ∈ lw_all := lw_g (lw_at lw_m4 190 rfl) rfl
theorem q1487 : (Jvm.Cond.castable "OneBears" "java/lang/Object") ∈ lw_tbl := lw_at lw_m6 210 rfl
theorem in_X1 : ∀ w ∈ wsX10, w ∈ lw_all := lw_in wsX10 [301, 303, 305, 307, 309, 311, 313, 315, 317, 319, 321, 323, 325, 327, 329, 331, 333, 335, 337, 339, 341, 343, 345, 347] (by decide +kernel) (by decide +kernel)
