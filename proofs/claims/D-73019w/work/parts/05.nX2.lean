/-! SownByArgumentModel -/
set_option maxRecDepth 100000
def RX2 : String := "SownByArgumentModel"
def TX2 : u_T := fun k => match k with
  | 0 => ("SownByArgumentModel", "a", "[I", true)
  | 1 => ("SownByArgumentModel", "image", "[I", true)
  | 2 => ("SownByArgumentModel", "texts", "[I", true)
  | 3 => ("SownByArgumentModel", "tape", "[I", true)
  | 4 => ("SownByArgumentModel", "taped", "I", false)
  | 5 => ("SownByArgumentModel", "fault", "I", false)
  | 6 => ("SownByArgumentModel", "faultPlace", "I", false)
  | 7 => ("SownByArgumentModel", "at", "I", false)
  | 8 => ("SownByArgumentModel", "place", "I", false)
  | 9 => ("SownByArgumentModel", "token", "I", false)
  | 10 => ("SownByArgumentModel", "number", "I", false)
  | 11 => ("SownByArgumentModel", "word", "J", false)
  | 12 => ("SownByArgumentModel", "text0", "I", false)
  | 13 => ("SownByArgumentModel", "written", "I", false)
  | 14 => ("SownByArgumentModel", "sort0", "I", false)
  | 15 => ("SownByArgumentModel", "pile", "[I", true)
  | 16 => ("SownByArgumentModel", "piled", "I", false)
  | 17 => ("SownByArgumentModel", "opens", "I", false)
  | 18 => ("SownByArgumentModel", "isWhole", "Z", false)
  | 19 => ("SownByArgumentModel", "isWorth", "Z", false)
  | 20 => ("SownByArgumentModel", "claimed", "I", false)
  | 21 => ("SownByArgumentModel", "named", "[I", true)
  | 22 => ("SownByArgumentModel", "values", "[J", true)
  | 23 => ("SownByArgumentModel", "truth", "[Z", true)
  | 24 => ("SownByArgumentModel", "isClaiming", "Z", false)
  | 25 => ("SownByArgumentModel", "isWritten", "Z", false)
  | 26 => ("SownByArgumentModel", "refuted", "I", false)
  | 27 => ("SownByArgumentModel", "claimOf", "[I", true)
  | 28 => ("SownByArgumentModel", "aside", "[I", true)
  | 29 => ("SownByArgumentModel", "wins", "[Z", true)
  | 30 => ("SownByArgumentModel", "chosen", "[I", true)
  | 31 => ("SownByArgumentModel", "traded", "[I", true)
  | 32 => ("SownByArgumentModel", "points", "[I", true)
  | 33 => ("SownByArgumentModel", "prices", "[I", true)
  | _ => ("SownByArgumentModel", "would", "[I", true)
def tyX2 : Nat → FieldType := fun k => match k with
  | 0 => .array .int
  | 1 => .array .int
  | 2 => .array .int
  | 3 => .array .int
  | 4 => .int
  | 5 => .int
  | 6 => .int
  | 7 => .int
  | 8 => .int
  | 9 => .int
  | 10 => .int
  | 11 => .long
  | 12 => .int
  | 13 => .int
  | 14 => .int
  | 15 => .array .int
  | 16 => .int
  | 17 => .int
  | 18 => .boolean
  | 19 => .boolean
  | 20 => .int
  | 21 => .array .int
  | 22 => .array .long
  | 23 => .array .boolean
  | 24 => .boolean
  | 25 => .boolean
  | 26 => .int
  | 27 => .array .int
  | 28 => .array .int
  | 29 => .array .boolean
  | 30 => .array .int
  | 31 => .array .int
  | 32 => .array .int
  | 33 => .array .int
  | _ => .array .int
abbrev wsX20 : List Cond := u_ws RX2 TX2 35
set_option maxRecDepth 100000 in
theorem nmX2 : ∀ a, a < 35 → ∀ b, b < 35 → a ≠ b → (TX2 a).2.1 ≠ (TX2 b).2.1 := by decide +kernel
set_option maxRecDepth 100000 in
theorem tyX2_ok : ∀ k, k < 35 → parseFieldDescriptor (TX2 k).2.2.1 = some (tyX2 k) := by decide +kernel
abbrev cX2_init : ByteArray := prog_20_method_1_code
def yX2_init : MethodName := ⟨RX2, "<init>", "()V"⟩
def dkwX2_init_8 : List UInt8 := [167, 255, 236, 42, 180, 0, 7, 42, 180, 0, 13, 184, 0, 71, 177]
abbrev dktX2_init_8 : List UInt8 := dkwX2_init_8 ++ []
def dkwX2_init_7 : List UInt8 := [3, 60, 27, 8, 162, 0, 21, 42, 180, 0, 7, 16, 17, 5, 27, 104, 96, 2, 79, 132, 1, 1]
abbrev dktX2_init_7 : List UInt8 := dkwX2_init_7 ++ dktX2_init_8
def dkwX2_init_6 : List UInt8 := [42, 8, 188, 10, 181, 0, 68, 42, 180, 0, 7, 16, 6, 17, 1, 103, 79, 42, 180, 0, 7, 5, 2, 79]
abbrev dktX2_init_6 : List UInt8 := dkwX2_init_6 ++ dktX2_init_7
def dkwX2_init_5 : List UInt8 := [181, 0, 56, 42, 8, 188, 10, 181, 0, 59, 42, 8, 188, 10, 181, 0, 62, 42, 8, 188, 10, 181, 0, 65]
abbrev dktX2_init_5 : List UInt8 := dkwX2_init_5 ++ dktX2_init_6
def dkwX2_init_4 : List UInt8 := [181, 0, 47, 42, 16, 27, 188, 10, 181, 0, 50, 42, 17, 1, 0, 188, 4, 181, 0, 53, 42, 8, 188, 10]
abbrev dktX2_init_4 : List UInt8 := dkwX2_init_4 ++ dktX2_init_5
def dkwX2_init_3 : List UInt8 := [188, 11, 181, 0, 35, 42, 17, 1, 74, 188, 4, 181, 0, 39, 42, 4, 181, 0, 43, 42, 8, 188, 10]
abbrev dktX2_init_3 : List UInt8 := dkwX2_init_3 ++ dktX2_init_4
def dkwX2_init_2 : List UInt8 := [181, 0, 26, 42, 17, 0, 160, 188, 10, 181, 0, 29, 42, 16, 10, 188, 10, 181, 0, 32, 42, 17, 1, 74]
abbrev dktX2_init_2 : List UInt8 := dkwX2_init_2 ++ dktX2_init_3
def dkwX2_init_1 : List UInt8 := [17, 11, 40, 188, 10, 181, 0, 16, 42, 17, 1, 44, 188, 10, 181, 0, 19, 42, 2, 181, 0, 22, 42, 2]
abbrev dktX2_init_1 : List UInt8 := dkwX2_init_1 ++ dktX2_init_2
def dkwX2_init_0 : List UInt8 := [42, 183, 0, 1, 42, 17, 5, 86, 188, 10, 181, 0, 7, 42, 17, 5, 86, 188, 10, 181, 0, 13, 42]
abbrev dktX2_init_0 : List UInt8 := dkwX2_init_0 ++ dktX2_init_1
theorem dksX2_init_0 : cX2_init.data.toList.drop 0 = dktX2_init_0 := by decide +kernel
theorem dksX2_init_1 : cX2_init.data.toList.drop 23 = dktX2_init_1 := dk_seg dksX2_init_0 23 rfl rfl
theorem dksX2_init_2 : cX2_init.data.toList.drop 47 = dktX2_init_2 := dk_seg dksX2_init_1 24 rfl rfl
theorem dksX2_init_3 : cX2_init.data.toList.drop 71 = dktX2_init_3 := dk_seg dksX2_init_2 24 rfl rfl
theorem dksX2_init_4 : cX2_init.data.toList.drop 94 = dktX2_init_4 := dk_seg dksX2_init_3 23 rfl rfl
theorem dksX2_init_5 : cX2_init.data.toList.drop 118 = dktX2_init_5 := dk_seg dksX2_init_4 24 rfl rfl
theorem dksX2_init_6 : cX2_init.data.toList.drop 142 = dktX2_init_6 := dk_seg dksX2_init_5 24 rfl rfl
theorem dksX2_init_7 : cX2_init.data.toList.drop 166 = dktX2_init_7 := dk_seg dksX2_init_6 24 rfl rfl
theorem dksX2_init_8 : cX2_init.data.toList.drop 188 = dktX2_init_8 := dk_seg dksX2_init_7 22 rfl rfl
theorem dX2_init_0 : decode cX2_init 0 = .ok (.aload_n 0, 1) := dk_42 (dk_at dksX2_init_0 0 rfl rfl)
theorem dX2_init_1 : decode cX2_init 1 = .ok (.invokespecial 1, 3) := dk_183 0 1 (dk_at dksX2_init_0 1 rfl rfl)
theorem dX2_init_4 : decode cX2_init 4 = .ok (.aload_n 0, 1) := dk_42 (dk_at dksX2_init_0 4 rfl rfl)
theorem dX2_init_5 : decode cX2_init 5 = .ok (.sipush 1366, 3) := dk_17 5 86 (dk_at dksX2_init_0 5 rfl rfl)
theorem dX2_init_8 : decode cX2_init 8 = .ok (.newarray .int, 2) := dk_188_10 (dk_at dksX2_init_0 8 rfl rfl)
theorem dX2_init_10 : decode cX2_init 10 = .ok (.putfield 7, 3) := dk_181 0 7 (dk_at dksX2_init_0 10 rfl rfl)
theorem dX2_init_13 : decode cX2_init 13 = .ok (.aload_n 0, 1) := dk_42 (dk_at dksX2_init_0 13 rfl rfl)
theorem dX2_init_14 : decode cX2_init 14 = .ok (.sipush 1366, 3) := dk_17 5 86 (dk_at dksX2_init_0 14 rfl rfl)
theorem dX2_init_17 : decode cX2_init 17 = .ok (.newarray .int, 2) := dk_188_10 (dk_at dksX2_init_0 17 rfl rfl)
theorem dX2_init_19 : decode cX2_init 19 = .ok (.putfield 13, 3) := dk_181 0 13 (dk_at dksX2_init_0 19 rfl rfl)
theorem dX2_init_22 : decode cX2_init 22 = .ok (.aload_n 0, 1) := dk_42 (dk_at dksX2_init_0 22 rfl rfl)
theorem dX2_init_23 : decode cX2_init 23 = .ok (.sipush 2856, 3) := dk_17 11 40 (dk_at dksX2_init_1 0 rfl rfl)
theorem dX2_init_26 : decode cX2_init 26 = .ok (.newarray .int, 2) := dk_188_10 (dk_at dksX2_init_1 3 rfl rfl)
theorem dX2_init_28 : decode cX2_init 28 = .ok (.putfield 16, 3) := dk_181 0 16 (dk_at dksX2_init_1 5 rfl rfl)
theorem dX2_init_31 : decode cX2_init 31 = .ok (.aload_n 0, 1) := dk_42 (dk_at dksX2_init_1 8 rfl rfl)
theorem dX2_init_32 : decode cX2_init 32 = .ok (.sipush 300, 3) := dk_17 1 44 (dk_at dksX2_init_1 9 rfl rfl)
theorem dX2_init_35 : decode cX2_init 35 = .ok (.newarray .int, 2) := dk_188_10 (dk_at dksX2_init_1 12 rfl rfl)
theorem dX2_init_37 : decode cX2_init 37 = .ok (.putfield 19, 3) := dk_181 0 19 (dk_at dksX2_init_1 14 rfl rfl)
theorem dX2_init_40 : decode cX2_init 40 = .ok (.aload_n 0, 1) := dk_42 (dk_at dksX2_init_1 17 rfl rfl)
theorem dX2_init_41 : decode cX2_init 41 = .ok (.iconst (-1), 1) := dk_2 (dk_at dksX2_init_1 18 rfl rfl)
theorem dX2_init_42 : decode cX2_init 42 = .ok (.putfield 22, 3) := dk_181 0 22 (dk_at dksX2_init_1 19 rfl rfl)
theorem dX2_init_45 : decode cX2_init 45 = .ok (.aload_n 0, 1) := dk_42 (dk_at dksX2_init_1 22 rfl rfl)
theorem dX2_init_46 : decode cX2_init 46 = .ok (.iconst (-1), 1) := dk_2 (dk_at dksX2_init_1 23 rfl rfl)
theorem dX2_init_47 : decode cX2_init 47 = .ok (.putfield 26, 3) := dk_181 0 26 (dk_at dksX2_init_2 0 rfl rfl)
theorem dX2_init_50 : decode cX2_init 50 = .ok (.aload_n 0, 1) := dk_42 (dk_at dksX2_init_2 3 rfl rfl)
theorem dX2_init_51 : decode cX2_init 51 = .ok (.sipush 160, 3) := dk_17 0 160 (dk_at dksX2_init_2 4 rfl rfl)
theorem dX2_init_54 : decode cX2_init 54 = .ok (.newarray .int, 2) := dk_188_10 (dk_at dksX2_init_2 7 rfl rfl)
theorem dX2_init_56 : decode cX2_init 56 = .ok (.putfield 29, 3) := dk_181 0 29 (dk_at dksX2_init_2 9 rfl rfl)
theorem dX2_init_59 : decode cX2_init 59 = .ok (.aload_n 0, 1) := dk_42 (dk_at dksX2_init_2 12 rfl rfl)
theorem dX2_init_60 : decode cX2_init 60 = .ok (.bipush 10, 2) := dk_16 10 (dk_at dksX2_init_2 13 rfl rfl)
theorem dX2_init_62 : decode cX2_init 62 = .ok (.newarray .int, 2) := dk_188_10 (dk_at dksX2_init_2 15 rfl rfl)
theorem dX2_init_64 : decode cX2_init 64 = .ok (.putfield 32, 3) := dk_181 0 32 (dk_at dksX2_init_2 17 rfl rfl)
theorem dX2_init_67 : decode cX2_init 67 = .ok (.aload_n 0, 1) := dk_42 (dk_at dksX2_init_2 20 rfl rfl)
theorem dX2_init_68 : decode cX2_init 68 = .ok (.sipush 330, 3) := dk_17 1 74 (dk_at dksX2_init_2 21 rfl rfl)
theorem dX2_init_71 : decode cX2_init 71 = .ok (.newarray .long, 2) := dk_188_11 (dk_at dksX2_init_3 0 rfl rfl)
theorem dX2_init_73 : decode cX2_init 73 = .ok (.putfield 35, 3) := dk_181 0 35 (dk_at dksX2_init_3 2 rfl rfl)
theorem dX2_init_76 : decode cX2_init 76 = .ok (.aload_n 0, 1) := dk_42 (dk_at dksX2_init_3 5 rfl rfl)
theorem dX2_init_77 : decode cX2_init 77 = .ok (.sipush 330, 3) := dk_17 1 74 (dk_at dksX2_init_3 6 rfl rfl)
theorem dX2_init_80 : decode cX2_init 80 = .ok (.newarray .boolean, 2) := dk_188_4 (dk_at dksX2_init_3 9 rfl rfl)
theorem dX2_init_82 : decode cX2_init 82 = .ok (.putfield 39, 3) := dk_181 0 39 (dk_at dksX2_init_3 11 rfl rfl)
theorem dX2_init_85 : decode cX2_init 85 = .ok (.aload_n 0, 1) := dk_42 (dk_at dksX2_init_3 14 rfl rfl)
theorem dX2_init_86 : decode cX2_init 86 = .ok (.iconst 1, 1) := dk_4 (dk_at dksX2_init_3 15 rfl rfl)
theorem dX2_init_87 : decode cX2_init 87 = .ok (.putfield 43, 3) := dk_181 0 43 (dk_at dksX2_init_3 16 rfl rfl)
theorem dX2_init_90 : decode cX2_init 90 = .ok (.aload_n 0, 1) := dk_42 (dk_at dksX2_init_3 19 rfl rfl)
theorem dX2_init_91 : decode cX2_init 91 = .ok (.iconst 5, 1) := dk_8 (dk_at dksX2_init_3 20 rfl rfl)
theorem dX2_init_92 : decode cX2_init 92 = .ok (.newarray .int, 2) := dk_188_10 (dk_at dksX2_init_3 21 rfl rfl)
theorem dX2_init_94 : decode cX2_init 94 = .ok (.putfield 47, 3) := dk_181 0 47 (dk_at dksX2_init_4 0 rfl rfl)
theorem dX2_init_97 : decode cX2_init 97 = .ok (.aload_n 0, 1) := dk_42 (dk_at dksX2_init_4 3 rfl rfl)
theorem dX2_init_98 : decode cX2_init 98 = .ok (.bipush 27, 2) := dk_16 27 (dk_at dksX2_init_4 4 rfl rfl)
theorem dX2_init_100 : decode cX2_init 100 = .ok (.newarray .int, 2) := dk_188_10 (dk_at dksX2_init_4 6 rfl rfl)
theorem dX2_init_102 : decode cX2_init 102 = .ok (.putfield 50, 3) := dk_181 0 50 (dk_at dksX2_init_4 8 rfl rfl)
theorem dX2_init_105 : decode cX2_init 105 = .ok (.aload_n 0, 1) := dk_42 (dk_at dksX2_init_4 11 rfl rfl)
theorem dX2_init_106 : decode cX2_init 106 = .ok (.sipush 256, 3) := dk_17 1 0 (dk_at dksX2_init_4 12 rfl rfl)
theorem dX2_init_109 : decode cX2_init 109 = .ok (.newarray .boolean, 2) := dk_188_4 (dk_at dksX2_init_4 15 rfl rfl)
theorem dX2_init_111 : decode cX2_init 111 = .ok (.putfield 53, 3) := dk_181 0 53 (dk_at dksX2_init_4 17 rfl rfl)
theorem dX2_init_114 : decode cX2_init 114 = .ok (.aload_n 0, 1) := dk_42 (dk_at dksX2_init_4 20 rfl rfl)
theorem dX2_init_115 : decode cX2_init 115 = .ok (.iconst 5, 1) := dk_8 (dk_at dksX2_init_4 21 rfl rfl)
theorem dX2_init_116 : decode cX2_init 116 = .ok (.newarray .int, 2) := dk_188_10 (dk_at dksX2_init_4 22 rfl rfl)
theorem dX2_init_118 : decode cX2_init 118 = .ok (.putfield 56, 3) := dk_181 0 56 (dk_at dksX2_init_5 0 rfl rfl)
theorem dX2_init_121 : decode cX2_init 121 = .ok (.aload_n 0, 1) := dk_42 (dk_at dksX2_init_5 3 rfl rfl)
theorem dX2_init_122 : decode cX2_init 122 = .ok (.iconst 5, 1) := dk_8 (dk_at dksX2_init_5 4 rfl rfl)
theorem dX2_init_123 : decode cX2_init 123 = .ok (.newarray .int, 2) := dk_188_10 (dk_at dksX2_init_5 5 rfl rfl)
theorem dX2_init_125 : decode cX2_init 125 = .ok (.putfield 59, 3) := dk_181 0 59 (dk_at dksX2_init_5 7 rfl rfl)
theorem dX2_init_128 : decode cX2_init 128 = .ok (.aload_n 0, 1) := dk_42 (dk_at dksX2_init_5 10 rfl rfl)
theorem dX2_init_129 : decode cX2_init 129 = .ok (.iconst 5, 1) := dk_8 (dk_at dksX2_init_5 11 rfl rfl)
theorem dX2_init_130 : decode cX2_init 130 = .ok (.newarray .int, 2) := dk_188_10 (dk_at dksX2_init_5 12 rfl rfl)
theorem dX2_init_132 : decode cX2_init 132 = .ok (.putfield 62, 3) := dk_181 0 62 (dk_at dksX2_init_5 14 rfl rfl)
theorem dX2_init_135 : decode cX2_init 135 = .ok (.aload_n 0, 1) := dk_42 (dk_at dksX2_init_5 17 rfl rfl)
theorem dX2_init_136 : decode cX2_init 136 = .ok (.iconst 5, 1) := dk_8 (dk_at dksX2_init_5 18 rfl rfl)
theorem dX2_init_137 : decode cX2_init 137 = .ok (.newarray .int, 2) := dk_188_10 (dk_at dksX2_init_5 19 rfl rfl)
theorem dX2_init_139 : decode cX2_init 139 = .ok (.putfield 65, 3) := dk_181 0 65 (dk_at dksX2_init_5 21 rfl rfl)
theorem dX2_init_142 : decode cX2_init 142 = .ok (.aload_n 0, 1) := dk_42 (dk_at dksX2_init_6 0 rfl rfl)
theorem dX2_init_143 : decode cX2_init 143 = .ok (.iconst 5, 1) := dk_8 (dk_at dksX2_init_6 1 rfl rfl)
theorem dX2_init_144 : decode cX2_init 144 = .ok (.newarray .int, 2) := dk_188_10 (dk_at dksX2_init_6 2 rfl rfl)
theorem dX2_init_146 : decode cX2_init 146 = .ok (.putfield 68, 3) := dk_181 0 68 (dk_at dksX2_init_6 4 rfl rfl)
theorem dX2_init_149 : decode cX2_init 149 = .ok (.aload_n 0, 1) := dk_42 (dk_at dksX2_init_6 7 rfl rfl)
theorem dX2_init_150 : decode cX2_init 150 = .ok (.getfield 7, 3) := dk_180 0 7 (dk_at dksX2_init_6 8 rfl rfl)
theorem dX2_init_153 : decode cX2_init 153 = .ok (.bipush 6, 2) := dk_16 6 (dk_at dksX2_init_6 11 rfl rfl)
theorem dX2_init_155 : decode cX2_init 155 = .ok (.sipush 359, 3) := dk_17 1 103 (dk_at dksX2_init_6 13 rfl rfl)
theorem dX2_init_158 : decode cX2_init 158 = .ok (.iastore, 1) := dk_79 (dk_at dksX2_init_6 16 rfl rfl)
theorem dX2_init_159 : decode cX2_init 159 = .ok (.aload_n 0, 1) := dk_42 (dk_at dksX2_init_6 17 rfl rfl)
theorem dX2_init_160 : decode cX2_init 160 = .ok (.getfield 7, 3) := dk_180 0 7 (dk_at dksX2_init_6 18 rfl rfl)
theorem dX2_init_163 : decode cX2_init 163 = .ok (.iconst 2, 1) := dk_5 (dk_at dksX2_init_6 21 rfl rfl)
theorem dX2_init_164 : decode cX2_init 164 = .ok (.iconst (-1), 1) := dk_2 (dk_at dksX2_init_6 22 rfl rfl)
theorem dX2_init_165 : decode cX2_init 165 = .ok (.iastore, 1) := dk_79 (dk_at dksX2_init_6 23 rfl rfl)
theorem dX2_init_166 : decode cX2_init 166 = .ok (.iconst 0, 1) := dk_3 (dk_at dksX2_init_7 0 rfl rfl)
theorem dX2_init_167 : decode cX2_init 167 = .ok (.istore_n 1, 1) := dk_60 (dk_at dksX2_init_7 1 rfl rfl)
theorem dX2_init_168 : decode cX2_init 168 = .ok (.iload_n 1, 1) := dk_27 (dk_at dksX2_init_7 2 rfl rfl)
theorem dX2_init_169 : decode cX2_init 169 = .ok (.iconst 5, 1) := dk_8 (dk_at dksX2_init_7 3 rfl rfl)
theorem dX2_init_170 : decode cX2_init 170 = .ok (.if_icmp .ge 21, 3) := dk_162 0 21 (dk_at dksX2_init_7 4 rfl rfl)
theorem dX2_init_173 : decode cX2_init 173 = .ok (.aload_n 0, 1) := dk_42 (dk_at dksX2_init_7 7 rfl rfl)
theorem dX2_init_174 : decode cX2_init 174 = .ok (.getfield 7, 3) := dk_180 0 7 (dk_at dksX2_init_7 8 rfl rfl)
theorem dX2_init_177 : decode cX2_init 177 = .ok (.bipush 17, 2) := dk_16 17 (dk_at dksX2_init_7 11 rfl rfl)
theorem dX2_init_179 : decode cX2_init 179 = .ok (.iconst 2, 1) := dk_5 (dk_at dksX2_init_7 13 rfl rfl)
theorem dX2_init_180 : decode cX2_init 180 = .ok (.iload_n 1, 1) := dk_27 (dk_at dksX2_init_7 14 rfl rfl)
theorem dX2_init_181 : decode cX2_init 181 = .ok (.imul, 1) := dk_104 (dk_at dksX2_init_7 15 rfl rfl)
theorem dX2_init_182 : decode cX2_init 182 = .ok (.iadd, 1) := dk_96 (dk_at dksX2_init_7 16 rfl rfl)
theorem dX2_init_183 : decode cX2_init 183 = .ok (.iconst (-1), 1) := dk_2 (dk_at dksX2_init_7 17 rfl rfl)
theorem dX2_init_184 : decode cX2_init 184 = .ok (.iastore, 1) := dk_79 (dk_at dksX2_init_7 18 rfl rfl)
theorem dX2_init_185 : decode cX2_init 185 = .ok (.iinc 1 1, 3) := dk_132 1 1 (dk_at dksX2_init_7 19 rfl rfl)
theorem dX2_init_188 : decode cX2_init 188 = .ok (.goto (-20), 3) := dk_167 255 236 (dk_at dksX2_init_8 0 rfl rfl)
theorem dX2_init_191 : decode cX2_init 191 = .ok (.aload_n 0, 1) := dk_42 (dk_at dksX2_init_8 3 rfl rfl)
theorem dX2_init_192 : decode cX2_init 192 = .ok (.getfield 7, 3) := dk_180 0 7 (dk_at dksX2_init_8 4 rfl rfl)
theorem dX2_init_195 : decode cX2_init 195 = .ok (.aload_n 0, 1) := dk_42 (dk_at dksX2_init_8 7 rfl rfl)
theorem dX2_init_196 : decode cX2_init 196 = .ok (.getfield 13, 3) := dk_180 0 13 (dk_at dksX2_init_8 8 rfl rfl)
theorem dX2_init_199 : decode cX2_init 199 = .ok (.invokestatic 71, 3) := dk_184 0 71 (dk_at dksX2_init_8 11 rfl rfl)
theorem dX2_init_202 : decode cX2_init 202 = .ok (.return_, 1) := dk_177 (dk_at dksX2_init_8 14 rfl rfl)
abbrev cX2_copy : ByteArray := prog_20_method_2_code
def yX2_copy : MethodName := ⟨RX2, "copy", "([I[I)V"⟩
def dkwX2_copy_0 : List UInt8 := [3, 61, 28, 17, 5, 86, 162, 0, 15, 43, 28, 42, 28, 46, 79, 132, 2, 1, 167, 255, 240, 177]
abbrev dktX2_copy_0 : List UInt8 := dkwX2_copy_0 ++ []
theorem dksX2_copy_0 : cX2_copy.data.toList.drop 0 = dktX2_copy_0 := by decide +kernel
theorem dX2_copy_0 : decode cX2_copy 0 = .ok (.iconst 0, 1) := dk_3 (dk_at dksX2_copy_0 0 rfl rfl)
theorem dX2_copy_1 : decode cX2_copy 1 = .ok (.istore_n 2, 1) := dk_61 (dk_at dksX2_copy_0 1 rfl rfl)
theorem dX2_copy_2 : decode cX2_copy 2 = .ok (.iload_n 2, 1) := dk_28 (dk_at dksX2_copy_0 2 rfl rfl)
theorem dX2_copy_3 : decode cX2_copy 3 = .ok (.sipush 1366, 3) := dk_17 5 86 (dk_at dksX2_copy_0 3 rfl rfl)
theorem dX2_copy_6 : decode cX2_copy 6 = .ok (.if_icmp .ge 15, 3) := dk_162 0 15 (dk_at dksX2_copy_0 6 rfl rfl)
theorem dX2_copy_9 : decode cX2_copy 9 = .ok (.aload_n 1, 1) := dk_43 (dk_at dksX2_copy_0 9 rfl rfl)
theorem dX2_copy_10 : decode cX2_copy 10 = .ok (.iload_n 2, 1) := dk_28 (dk_at dksX2_copy_0 10 rfl rfl)
theorem dX2_copy_11 : decode cX2_copy 11 = .ok (.aload_n 0, 1) := dk_42 (dk_at dksX2_copy_0 11 rfl rfl)
theorem dX2_copy_12 : decode cX2_copy 12 = .ok (.iload_n 2, 1) := dk_28 (dk_at dksX2_copy_0 12 rfl rfl)
theorem dX2_copy_13 : decode cX2_copy 13 = .ok (.iaload, 1) := dk_46 (dk_at dksX2_copy_0 13 rfl rfl)
theorem dX2_copy_14 : decode cX2_copy 14 = .ok (.iastore, 1) := dk_79 (dk_at dksX2_copy_0 14 rfl rfl)
theorem dX2_copy_15 : decode cX2_copy 15 = .ok (.iinc 2 1, 3) := dk_132 2 1 (dk_at dksX2_copy_0 15 rfl rfl)
theorem dX2_copy_18 : decode cX2_copy 18 = .ok (.goto (-16), 3) := dk_167 255 240 (dk_at dksX2_copy_0 18 rfl rfl)
theorem dX2_copy_21 : decode cX2_copy 21 = .ok (.return_, 1) := dk_177 (dk_at dksX2_copy_0 21 rfl rfl)
abbrev cX2_farmer : ByteArray := prog_20_method_18_code
def yX2_farmer : MethodName := ⟨RX2, "farmer", "(I)I"⟩
def dkwX2_farmer_2 : List UInt8 := [42, 180, 0, 7, 3, 46, 4, 100, 172]
abbrev dktX2_farmer_2 : List UInt8 := dkwX2_farmer_2 ++ []
def dkwX2_farmer_1 : List UInt8 := [180, 0, 7, 16, 27, 42, 180, 0, 7, 3, 46, 96, 27, 79, 42, 180, 0, 7, 3, 92, 46, 4, 96, 79]
abbrev dktX2_farmer_1 : List UInt8 := dkwX2_farmer_1 ++ dktX2_farmer_2
def dkwX2_farmer_0 : List UInt8 := [27, 4, 16, 9, 184, 0, 75, 153, 0, 13, 42, 180, 0, 7, 3, 46, 8, 160, 0, 5, 2, 172, 42]
abbrev dktX2_farmer_0 : List UInt8 := dkwX2_farmer_0 ++ dktX2_farmer_1
theorem dksX2_farmer_0 : cX2_farmer.data.toList.drop 0 = dktX2_farmer_0 := by decide +kernel
theorem dksX2_farmer_1 : cX2_farmer.data.toList.drop 23 = dktX2_farmer_1 := dk_seg dksX2_farmer_0 23 rfl rfl
theorem dksX2_farmer_2 : cX2_farmer.data.toList.drop 47 = dktX2_farmer_2 := dk_seg dksX2_farmer_1 24 rfl rfl
theorem dX2_farmer_0 : decode cX2_farmer 0 = .ok (.iload_n 1, 1) := dk_27 (dk_at dksX2_farmer_0 0 rfl rfl)
theorem dX2_farmer_1 : decode cX2_farmer 1 = .ok (.iconst 1, 1) := dk_4 (dk_at dksX2_farmer_0 1 rfl rfl)
theorem dX2_farmer_2 : decode cX2_farmer 2 = .ok (.bipush 9, 2) := dk_16 9 (dk_at dksX2_farmer_0 2 rfl rfl)
theorem dX2_farmer_4 : decode cX2_farmer 4 = .ok (.invokestatic 75, 3) := dk_184 0 75 (dk_at dksX2_farmer_0 4 rfl rfl)
theorem dX2_farmer_7 : decode cX2_farmer 7 = .ok (.ifCond .eq 13, 3) := dk_153 0 13 (dk_at dksX2_farmer_0 7 rfl rfl)
theorem dX2_farmer_10 : decode cX2_farmer 10 = .ok (.aload_n 0, 1) := dk_42 (dk_at dksX2_farmer_0 10 rfl rfl)
theorem dX2_farmer_11 : decode cX2_farmer 11 = .ok (.getfield 7, 3) := dk_180 0 7 (dk_at dksX2_farmer_0 11 rfl rfl)
theorem dX2_farmer_14 : decode cX2_farmer 14 = .ok (.iconst 0, 1) := dk_3 (dk_at dksX2_farmer_0 14 rfl rfl)
theorem dX2_farmer_15 : decode cX2_farmer 15 = .ok (.iaload, 1) := dk_46 (dk_at dksX2_farmer_0 15 rfl rfl)
theorem dX2_farmer_16 : decode cX2_farmer 16 = .ok (.iconst 5, 1) := dk_8 (dk_at dksX2_farmer_0 16 rfl rfl)
theorem dX2_farmer_17 : decode cX2_farmer 17 = .ok (.if_icmp .ne 5, 3) := dk_160 0 5 (dk_at dksX2_farmer_0 17 rfl rfl)
theorem dX2_farmer_20 : decode cX2_farmer 20 = .ok (.iconst (-1), 1) := dk_2 (dk_at dksX2_farmer_0 20 rfl rfl)
theorem dX2_farmer_21 : decode cX2_farmer 21 = .ok (.ireturn, 1) := dk_172 (dk_at dksX2_farmer_0 21 rfl rfl)
theorem dX2_farmer_22 : decode cX2_farmer 22 = .ok (.aload_n 0, 1) := dk_42 (dk_at dksX2_farmer_0 22 rfl rfl)
theorem dX2_farmer_23 : decode cX2_farmer 23 = .ok (.getfield 7, 3) := dk_180 0 7 (dk_at dksX2_farmer_1 0 rfl rfl)
theorem dX2_farmer_26 : decode cX2_farmer 26 = .ok (.bipush 27, 2) := dk_16 27 (dk_at dksX2_farmer_1 3 rfl rfl)
theorem dX2_farmer_28 : decode cX2_farmer 28 = .ok (.aload_n 0, 1) := dk_42 (dk_at dksX2_farmer_1 5 rfl rfl)
theorem dX2_farmer_29 : decode cX2_farmer 29 = .ok (.getfield 7, 3) := dk_180 0 7 (dk_at dksX2_farmer_1 6 rfl rfl)
theorem dX2_farmer_32 : decode cX2_farmer 32 = .ok (.iconst 0, 1) := dk_3 (dk_at dksX2_farmer_1 9 rfl rfl)
theorem dX2_farmer_33 : decode cX2_farmer 33 = .ok (.iaload, 1) := dk_46 (dk_at dksX2_farmer_1 10 rfl rfl)
theorem dX2_farmer_34 : decode cX2_farmer 34 = .ok (.iadd, 1) := dk_96 (dk_at dksX2_farmer_1 11 rfl rfl)
theorem dX2_farmer_35 : decode cX2_farmer 35 = .ok (.iload_n 1, 1) := dk_27 (dk_at dksX2_farmer_1 12 rfl rfl)
theorem dX2_farmer_36 : decode cX2_farmer 36 = .ok (.iastore, 1) := dk_79 (dk_at dksX2_farmer_1 13 rfl rfl)
theorem dX2_farmer_37 : decode cX2_farmer 37 = .ok (.aload_n 0, 1) := dk_42 (dk_at dksX2_farmer_1 14 rfl rfl)
theorem dX2_farmer_38 : decode cX2_farmer 38 = .ok (.getfield 7, 3) := dk_180 0 7 (dk_at dksX2_farmer_1 15 rfl rfl)
theorem dX2_farmer_41 : decode cX2_farmer 41 = .ok (.iconst 0, 1) := dk_3 (dk_at dksX2_farmer_1 18 rfl rfl)
theorem dX2_farmer_42 : decode cX2_farmer 42 = .ok (.dup2, 1) := dk_92 (dk_at dksX2_farmer_1 19 rfl rfl)
theorem dX2_farmer_43 : decode cX2_farmer 43 = .ok (.iaload, 1) := dk_46 (dk_at dksX2_farmer_1 20 rfl rfl)
theorem dX2_farmer_44 : decode cX2_farmer 44 = .ok (.iconst 1, 1) := dk_4 (dk_at dksX2_farmer_1 21 rfl rfl)
theorem dX2_farmer_45 : decode cX2_farmer 45 = .ok (.iadd, 1) := dk_96 (dk_at dksX2_farmer_1 22 rfl rfl)
theorem dX2_farmer_46 : decode cX2_farmer 46 = .ok (.iastore, 1) := dk_79 (dk_at dksX2_farmer_1 23 rfl rfl)
theorem dX2_farmer_47 : decode cX2_farmer 47 = .ok (.aload_n 0, 1) := dk_42 (dk_at dksX2_farmer_2 0 rfl rfl)
theorem dX2_farmer_48 : decode cX2_farmer 48 = .ok (.getfield 7, 3) := dk_180 0 7 (dk_at dksX2_farmer_2 1 rfl rfl)
theorem dX2_farmer_51 : decode cX2_farmer 51 = .ok (.iconst 0, 1) := dk_3 (dk_at dksX2_farmer_2 4 rfl rfl)
theorem dX2_farmer_52 : decode cX2_farmer 52 = .ok (.iaload, 1) := dk_46 (dk_at dksX2_farmer_2 5 rfl rfl)
theorem dX2_farmer_53 : decode cX2_farmer 53 = .ok (.iconst 1, 1) := dk_4 (dk_at dksX2_farmer_2 6 rfl rfl)
theorem dX2_farmer_54 : decode cX2_farmer 54 = .ok (.isub, 1) := dk_100 (dk_at dksX2_farmer_2 7 rfl rfl)
theorem dX2_farmer_55 : decode cX2_farmer 55 = .ok (.ireturn, 1) := dk_172 (dk_at dksX2_farmer_2 8 rfl rfl)
abbrev cX2_isIn : ByteArray := prog_20_method_3_code
def yX2_isIn : MethodName := ⟨RX2, "isIn", "(III)Z"⟩
def dkwX2_isIn_0 : List UInt8 := [26, 27, 161, 0, 12, 26, 28, 163, 0, 7, 4, 167, 0, 4, 3, 172]
abbrev dktX2_isIn_0 : List UInt8 := dkwX2_isIn_0 ++ []
theorem dksX2_isIn_0 : cX2_isIn.data.toList.drop 0 = dktX2_isIn_0 := by decide +kernel
theorem dX2_isIn_0 : decode cX2_isIn 0 = .ok (.iload_n 0, 1) := dk_26 (dk_at dksX2_isIn_0 0 rfl rfl)
theorem dX2_isIn_1 : decode cX2_isIn 1 = .ok (.iload_n 1, 1) := dk_27 (dk_at dksX2_isIn_0 1 rfl rfl)
theorem dX2_isIn_2 : decode cX2_isIn 2 = .ok (.if_icmp .lt 12, 3) := dk_161 0 12 (dk_at dksX2_isIn_0 2 rfl rfl)
theorem dX2_isIn_5 : decode cX2_isIn 5 = .ok (.iload_n 0, 1) := dk_26 (dk_at dksX2_isIn_0 5 rfl rfl)
theorem dX2_isIn_6 : decode cX2_isIn 6 = .ok (.iload_n 2, 1) := dk_28 (dk_at dksX2_isIn_0 6 rfl rfl)
theorem dX2_isIn_7 : decode cX2_isIn 7 = .ok (.if_icmp .gt 7, 3) := dk_163 0 7 (dk_at dksX2_isIn_0 7 rfl rfl)
theorem dX2_isIn_10 : decode cX2_isIn 10 = .ok (.iconst 1, 1) := dk_4 (dk_at dksX2_isIn_0 10 rfl rfl)
theorem dX2_isIn_11 : decode cX2_isIn 11 = .ok (.goto 4, 3) := dk_167 0 4 (dk_at dksX2_isIn_0 11 rfl rfl)
theorem dX2_isIn_14 : decode cX2_isIn 14 = .ok (.iconst 0, 1) := dk_3 (dk_at dksX2_isIn_0 14 rfl rfl)
theorem dX2_isIn_15 : decode cX2_isIn 15 = .ok (.ireturn, 1) := dk_172 (dk_at dksX2_isIn_0 15 rfl rfl)
abbrev cX2_soil : ByteArray := prog_20_method_19_code
def yX2_soil : MethodName := ⟨RX2, "soil", "(II)Z"⟩
def dkwX2_soil_1 : List UInt8 := [16, 32, 27, 96, 28, 79, 4, 172]
abbrev dktX2_soil_1 : List UInt8 := dkwX2_soil_1 ++ []
def dkwX2_soil_0 : List UInt8 := [27, 184, 0, 95, 153, 0, 13, 28, 3, 16, 20, 184, 0, 75, 154, 0, 5, 3, 172, 42, 180, 0, 7]
abbrev dktX2_soil_0 : List UInt8 := dkwX2_soil_0 ++ dktX2_soil_1
theorem dksX2_soil_0 : cX2_soil.data.toList.drop 0 = dktX2_soil_0 := by decide +kernel
theorem dksX2_soil_1 : cX2_soil.data.toList.drop 23 = dktX2_soil_1 := dk_seg dksX2_soil_0 23 rfl rfl
theorem dX2_soil_0 : decode cX2_soil 0 = .ok (.iload_n 1, 1) := dk_27 (dk_at dksX2_soil_0 0 rfl rfl)
theorem dX2_soil_1 : decode cX2_soil 1 = .ok (.invokestatic 95, 3) := dk_184 0 95 (dk_at dksX2_soil_0 1 rfl rfl)
theorem dX2_soil_4 : decode cX2_soil 4 = .ok (.ifCond .eq 13, 3) := dk_153 0 13 (dk_at dksX2_soil_0 4 rfl rfl)
theorem dX2_soil_7 : decode cX2_soil 7 = .ok (.iload_n 2, 1) := dk_28 (dk_at dksX2_soil_0 7 rfl rfl)
theorem dX2_soil_8 : decode cX2_soil 8 = .ok (.iconst 0, 1) := dk_3 (dk_at dksX2_soil_0 8 rfl rfl)
theorem dX2_soil_9 : decode cX2_soil 9 = .ok (.bipush 20, 2) := dk_16 20 (dk_at dksX2_soil_0 9 rfl rfl)
theorem dX2_soil_11 : decode cX2_soil 11 = .ok (.invokestatic 75, 3) := dk_184 0 75 (dk_at dksX2_soil_0 11 rfl rfl)
theorem dX2_soil_14 : decode cX2_soil 14 = .ok (.ifCond .ne 5, 3) := dk_154 0 5 (dk_at dksX2_soil_0 14 rfl rfl)
theorem dX2_soil_17 : decode cX2_soil 17 = .ok (.iconst 0, 1) := dk_3 (dk_at dksX2_soil_0 17 rfl rfl)
theorem dX2_soil_18 : decode cX2_soil 18 = .ok (.ireturn, 1) := dk_172 (dk_at dksX2_soil_0 18 rfl rfl)
theorem dX2_soil_19 : decode cX2_soil 19 = .ok (.aload_n 0, 1) := dk_42 (dk_at dksX2_soil_0 19 rfl rfl)
theorem dX2_soil_20 : decode cX2_soil 20 = .ok (.getfield 7, 3) := dk_180 0 7 (dk_at dksX2_soil_0 20 rfl rfl)
theorem dX2_soil_23 : decode cX2_soil 23 = .ok (.bipush 32, 2) := dk_16 32 (dk_at dksX2_soil_1 0 rfl rfl)
theorem dX2_soil_25 : decode cX2_soil 25 = .ok (.iload_n 1, 1) := dk_27 (dk_at dksX2_soil_1 2 rfl rfl)
theorem dX2_soil_26 : decode cX2_soil 26 = .ok (.iadd, 1) := dk_96 (dk_at dksX2_soil_1 3 rfl rfl)
theorem dX2_soil_27 : decode cX2_soil 27 = .ok (.iload_n 2, 1) := dk_28 (dk_at dksX2_soil_1 4 rfl rfl)
theorem dX2_soil_28 : decode cX2_soil 28 = .ok (.iastore, 1) := dk_79 (dk_at dksX2_soil_1 5 rfl rfl)
theorem dX2_soil_29 : decode cX2_soil 29 = .ok (.iconst 1, 1) := dk_4 (dk_at dksX2_soil_1 6 rfl rfl)
theorem dX2_soil_30 : decode cX2_soil 30 = .ok (.ireturn, 1) := dk_172 (dk_at dksX2_soil_1 7 rfl rfl)
abbrev cX2_isField : ByteArray := prog_20_method_8_code
def yX2_isField : MethodName := ⟨RX2, "isField", "(I)Z"⟩
def dkwX2_isField_0 : List UInt8 := [26, 3, 7, 184, 0, 75, 172]
abbrev dktX2_isField_0 : List UInt8 := dkwX2_isField_0 ++ []
theorem dksX2_isField_0 : cX2_isField.data.toList.drop 0 = dktX2_isField_0 := by decide +kernel
theorem dX2_isField_0 : decode cX2_isField 0 = .ok (.iload_n 0, 1) := dk_26 (dk_at dksX2_isField_0 0 rfl rfl)
theorem dX2_isField_1 : decode cX2_isField 1 = .ok (.iconst 0, 1) := dk_3 (dk_at dksX2_isField_0 1 rfl rfl)
theorem dX2_isField_2 : decode cX2_isField 2 = .ok (.iconst 4, 1) := dk_7 (dk_at dksX2_isField_0 2 rfl rfl)
theorem dX2_isField_3 : decode cX2_isField 3 = .ok (.invokestatic 75, 3) := dk_184 0 75 (dk_at dksX2_isField_0 3 rfl rfl)
theorem dX2_isField_6 : decode cX2_isField 6 = .ok (.ireturn, 1) := dk_172 (dk_at dksX2_isField_0 6 rfl rfl)
abbrev cX2_wants : ByteArray := prog_20_method_20_code
def yX2_wants : MethodName := ⟨RX2, "wants", "(III)Z"⟩
def dkwX2_wants_1 : List UInt8 := [154, 0, 5, 3, 172, 42, 180, 0, 7, 16, 37, 8, 27, 104, 96, 28, 96, 29, 79, 4, 172]
abbrev dktX2_wants_1 : List UInt8 := dkwX2_wants_1 ++ []
def dkwX2_wants_0 : List UInt8 := [27, 3, 7, 184, 0, 75, 153, 0, 20, 28, 184, 0, 95, 153, 0, 13, 29, 3, 16, 20, 184, 0, 75]
abbrev dktX2_wants_0 : List UInt8 := dkwX2_wants_0 ++ dktX2_wants_1
theorem dksX2_wants_0 : cX2_wants.data.toList.drop 0 = dktX2_wants_0 := by decide +kernel
theorem dksX2_wants_1 : cX2_wants.data.toList.drop 23 = dktX2_wants_1 := dk_seg dksX2_wants_0 23 rfl rfl
theorem dX2_wants_0 : decode cX2_wants 0 = .ok (.iload_n 1, 1) := dk_27 (dk_at dksX2_wants_0 0 rfl rfl)
theorem dX2_wants_1 : decode cX2_wants 1 = .ok (.iconst 0, 1) := dk_3 (dk_at dksX2_wants_0 1 rfl rfl)
theorem dX2_wants_2 : decode cX2_wants 2 = .ok (.iconst 4, 1) := dk_7 (dk_at dksX2_wants_0 2 rfl rfl)
theorem dX2_wants_3 : decode cX2_wants 3 = .ok (.invokestatic 75, 3) := dk_184 0 75 (dk_at dksX2_wants_0 3 rfl rfl)
theorem dX2_wants_6 : decode cX2_wants 6 = .ok (.ifCond .eq 20, 3) := dk_153 0 20 (dk_at dksX2_wants_0 6 rfl rfl)
theorem dX2_wants_9 : decode cX2_wants 9 = .ok (.iload_n 2, 1) := dk_28 (dk_at dksX2_wants_0 9 rfl rfl)
theorem dX2_wants_10 : decode cX2_wants 10 = .ok (.invokestatic 95, 3) := dk_184 0 95 (dk_at dksX2_wants_0 10 rfl rfl)
theorem dX2_wants_13 : decode cX2_wants 13 = .ok (.ifCond .eq 13, 3) := dk_153 0 13 (dk_at dksX2_wants_0 13 rfl rfl)
theorem dX2_wants_16 : decode cX2_wants 16 = .ok (.iload_n 3, 1) := dk_29 (dk_at dksX2_wants_0 16 rfl rfl)
theorem dX2_wants_17 : decode cX2_wants 17 = .ok (.iconst 0, 1) := dk_3 (dk_at dksX2_wants_0 17 rfl rfl)
theorem dX2_wants_18 : decode cX2_wants 18 = .ok (.bipush 20, 2) := dk_16 20 (dk_at dksX2_wants_0 18 rfl rfl)
theorem dX2_wants_20 : decode cX2_wants 20 = .ok (.invokestatic 75, 3) := dk_184 0 75 (dk_at dksX2_wants_0 20 rfl rfl)
theorem dX2_wants_23 : decode cX2_wants 23 = .ok (.ifCond .ne 5, 3) := dk_154 0 5 (dk_at dksX2_wants_1 0 rfl rfl)
theorem dX2_wants_26 : decode cX2_wants 26 = .ok (.iconst 0, 1) := dk_3 (dk_at dksX2_wants_1 3 rfl rfl)
theorem dX2_wants_27 : decode cX2_wants 27 = .ok (.ireturn, 1) := dk_172 (dk_at dksX2_wants_1 4 rfl rfl)
theorem dX2_wants_28 : decode cX2_wants 28 = .ok (.aload_n 0, 1) := dk_42 (dk_at dksX2_wants_1 5 rfl rfl)
theorem dX2_wants_29 : decode cX2_wants 29 = .ok (.getfield 7, 3) := dk_180 0 7 (dk_at dksX2_wants_1 6 rfl rfl)
theorem dX2_wants_32 : decode cX2_wants 32 = .ok (.bipush 37, 2) := dk_16 37 (dk_at dksX2_wants_1 9 rfl rfl)
theorem dX2_wants_34 : decode cX2_wants 34 = .ok (.iconst 5, 1) := dk_8 (dk_at dksX2_wants_1 11 rfl rfl)
theorem dX2_wants_35 : decode cX2_wants 35 = .ok (.iload_n 1, 1) := dk_27 (dk_at dksX2_wants_1 12 rfl rfl)
theorem dX2_wants_36 : decode cX2_wants 36 = .ok (.imul, 1) := dk_104 (dk_at dksX2_wants_1 13 rfl rfl)
theorem dX2_wants_37 : decode cX2_wants 37 = .ok (.iadd, 1) := dk_96 (dk_at dksX2_wants_1 14 rfl rfl)
theorem dX2_wants_38 : decode cX2_wants 38 = .ok (.iload_n 2, 1) := dk_28 (dk_at dksX2_wants_1 15 rfl rfl)
theorem dX2_wants_39 : decode cX2_wants 39 = .ok (.iadd, 1) := dk_96 (dk_at dksX2_wants_1 16 rfl rfl)
theorem dX2_wants_40 : decode cX2_wants 40 = .ok (.iload_n 3, 1) := dk_29 (dk_at dksX2_wants_1 17 rfl rfl)
theorem dX2_wants_41 : decode cX2_wants 41 = .ok (.iastore, 1) := dk_79 (dk_at dksX2_wants_1 18 rfl rfl)
theorem dX2_wants_42 : decode cX2_wants 42 = .ok (.iconst 1, 1) := dk_4 (dk_at dksX2_wants_1 19 rfl rfl)
theorem dX2_wants_43 : decode cX2_wants 43 = .ok (.ireturn, 1) := dk_172 (dk_at dksX2_wants_1 20 rfl rfl)
abbrev cX2_feed : ByteArray := prog_20_method_22_code
def yX2_feed : MethodName := ⟨RX2, "feed", "(IIIII)I"⟩
def dkwX2_feed_2 : List UInt8 := [172]
abbrev dktX2_feed_2 : List UInt8 := dkwX2_feed_2 ++ []
def dkwX2_feed_1 : List UInt8 := [182, 0, 102, 42, 29, 182, 0, 102, 42, 21, 4, 182, 0, 102, 42, 21, 5, 182, 0, 102, 42, 180, 0, 99]
abbrev dktX2_feed_1 : List UInt8 := dkwX2_feed_1 ++ dktX2_feed_2
def dkwX2_feed_0 : List UInt8 := [42, 180, 0, 99, 16, 20, 96, 17, 1, 44, 164, 0, 5, 2, 172, 42, 27, 182, 0, 102, 42, 28]
abbrev dktX2_feed_0 : List UInt8 := dkwX2_feed_0 ++ dktX2_feed_1
theorem dksX2_feed_0 : cX2_feed.data.toList.drop 0 = dktX2_feed_0 := by decide +kernel
theorem dksX2_feed_1 : cX2_feed.data.toList.drop 22 = dktX2_feed_1 := dk_seg dksX2_feed_0 22 rfl rfl
theorem dksX2_feed_2 : cX2_feed.data.toList.drop 46 = dktX2_feed_2 := dk_seg dksX2_feed_1 24 rfl rfl
theorem dX2_feed_0 : decode cX2_feed 0 = .ok (.aload_n 0, 1) := dk_42 (dk_at dksX2_feed_0 0 rfl rfl)
theorem dX2_feed_1 : decode cX2_feed 1 = .ok (.getfield 99, 3) := dk_180 0 99 (dk_at dksX2_feed_0 1 rfl rfl)
theorem dX2_feed_4 : decode cX2_feed 4 = .ok (.bipush 20, 2) := dk_16 20 (dk_at dksX2_feed_0 4 rfl rfl)
theorem dX2_feed_6 : decode cX2_feed 6 = .ok (.iadd, 1) := dk_96 (dk_at dksX2_feed_0 6 rfl rfl)
theorem dX2_feed_7 : decode cX2_feed 7 = .ok (.sipush 300, 3) := dk_17 1 44 (dk_at dksX2_feed_0 7 rfl rfl)
theorem dX2_feed_10 : decode cX2_feed 10 = .ok (.if_icmp .le 5, 3) := dk_164 0 5 (dk_at dksX2_feed_0 10 rfl rfl)
theorem dX2_feed_13 : decode cX2_feed 13 = .ok (.iconst (-1), 1) := dk_2 (dk_at dksX2_feed_0 13 rfl rfl)
theorem dX2_feed_14 : decode cX2_feed 14 = .ok (.ireturn, 1) := dk_172 (dk_at dksX2_feed_0 14 rfl rfl)
theorem dX2_feed_15 : decode cX2_feed 15 = .ok (.aload_n 0, 1) := dk_42 (dk_at dksX2_feed_0 15 rfl rfl)
theorem dX2_feed_16 : decode cX2_feed 16 = .ok (.iload_n 1, 1) := dk_27 (dk_at dksX2_feed_0 16 rfl rfl)
theorem dX2_feed_17 : decode cX2_feed 17 = .ok (.invokevirtual 102, 3) := dk_182 0 102 (dk_at dksX2_feed_0 17 rfl rfl)
theorem dX2_feed_20 : decode cX2_feed 20 = .ok (.aload_n 0, 1) := dk_42 (dk_at dksX2_feed_0 20 rfl rfl)
theorem dX2_feed_21 : decode cX2_feed 21 = .ok (.iload_n 2, 1) := dk_28 (dk_at dksX2_feed_0 21 rfl rfl)
theorem dX2_feed_22 : decode cX2_feed 22 = .ok (.invokevirtual 102, 3) := dk_182 0 102 (dk_at dksX2_feed_1 0 rfl rfl)
theorem dX2_feed_25 : decode cX2_feed 25 = .ok (.aload_n 0, 1) := dk_42 (dk_at dksX2_feed_1 3 rfl rfl)
theorem dX2_feed_26 : decode cX2_feed 26 = .ok (.iload_n 3, 1) := dk_29 (dk_at dksX2_feed_1 4 rfl rfl)
theorem dX2_feed_27 : decode cX2_feed 27 = .ok (.invokevirtual 102, 3) := dk_182 0 102 (dk_at dksX2_feed_1 5 rfl rfl)
theorem dX2_feed_30 : decode cX2_feed 30 = .ok (.aload_n 0, 1) := dk_42 (dk_at dksX2_feed_1 8 rfl rfl)
theorem dX2_feed_31 : decode cX2_feed 31 = .ok (.iload 4, 2) := dk_21 4 (dk_at dksX2_feed_1 9 rfl rfl)
theorem dX2_feed_33 : decode cX2_feed 33 = .ok (.invokevirtual 102, 3) := dk_182 0 102 (dk_at dksX2_feed_1 11 rfl rfl)
theorem dX2_feed_36 : decode cX2_feed 36 = .ok (.aload_n 0, 1) := dk_42 (dk_at dksX2_feed_1 14 rfl rfl)
theorem dX2_feed_37 : decode cX2_feed 37 = .ok (.iload 5, 2) := dk_21 5 (dk_at dksX2_feed_1 15 rfl rfl)
theorem dX2_feed_39 : decode cX2_feed 39 = .ok (.invokevirtual 102, 3) := dk_182 0 102 (dk_at dksX2_feed_1 17 rfl rfl)
theorem dX2_feed_42 : decode cX2_feed 42 = .ok (.aload_n 0, 1) := dk_42 (dk_at dksX2_feed_1 20 rfl rfl)
theorem dX2_feed_43 : decode cX2_feed 43 = .ok (.getfield 99, 3) := dk_180 0 99 (dk_at dksX2_feed_1 21 rfl rfl)
theorem dX2_feed_46 : decode cX2_feed 46 = .ok (.ireturn, 1) := dk_172 (dk_at dksX2_feed_2 0 rfl rfl)
abbrev cX2_four : ByteArray := prog_20_method_21_code
def yX2_four : MethodName := ⟨RX2, "four", "(I)V"⟩
def dkwX2_four_1 : List UInt8 := [89, 180, 0, 99, 4, 96, 181, 0, 99, 132, 2, 248, 167, 255, 223, 177]
abbrev dktX2_four_1 : List UInt8 := dkwX2_four_1 ++ []
def dkwX2_four_0 : List UInt8 := [16, 24, 61, 28, 155, 0, 35, 42, 180, 0, 19, 42, 180, 0, 99, 27, 28, 122, 17, 0, 255, 126, 79, 42]
abbrev dktX2_four_0 : List UInt8 := dkwX2_four_0 ++ dktX2_four_1
theorem dksX2_four_0 : cX2_four.data.toList.drop 0 = dktX2_four_0 := by decide +kernel
theorem dksX2_four_1 : cX2_four.data.toList.drop 24 = dktX2_four_1 := dk_seg dksX2_four_0 24 rfl rfl
theorem dX2_four_0 : decode cX2_four 0 = .ok (.bipush 24, 2) := dk_16 24 (dk_at dksX2_four_0 0 rfl rfl)
theorem dX2_four_2 : decode cX2_four 2 = .ok (.istore_n 2, 1) := dk_61 (dk_at dksX2_four_0 2 rfl rfl)
theorem dX2_four_3 : decode cX2_four 3 = .ok (.iload_n 2, 1) := dk_28 (dk_at dksX2_four_0 3 rfl rfl)
theorem dX2_four_4 : decode cX2_four 4 = .ok (.ifCond .lt 35, 3) := dk_155 0 35 (dk_at dksX2_four_0 4 rfl rfl)
theorem dX2_four_7 : decode cX2_four 7 = .ok (.aload_n 0, 1) := dk_42 (dk_at dksX2_four_0 7 rfl rfl)
theorem dX2_four_8 : decode cX2_four 8 = .ok (.getfield 19, 3) := dk_180 0 19 (dk_at dksX2_four_0 8 rfl rfl)
theorem dX2_four_11 : decode cX2_four 11 = .ok (.aload_n 0, 1) := dk_42 (dk_at dksX2_four_0 11 rfl rfl)
theorem dX2_four_12 : decode cX2_four 12 = .ok (.getfield 99, 3) := dk_180 0 99 (dk_at dksX2_four_0 12 rfl rfl)
theorem dX2_four_15 : decode cX2_four 15 = .ok (.iload_n 1, 1) := dk_27 (dk_at dksX2_four_0 15 rfl rfl)
theorem dX2_four_16 : decode cX2_four 16 = .ok (.iload_n 2, 1) := dk_28 (dk_at dksX2_four_0 16 rfl rfl)
theorem dX2_four_17 : decode cX2_four 17 = .ok (.ishr, 1) := dk_122 (dk_at dksX2_four_0 17 rfl rfl)
theorem dX2_four_18 : decode cX2_four 18 = .ok (.sipush 255, 3) := dk_17 0 255 (dk_at dksX2_four_0 18 rfl rfl)
theorem dX2_four_21 : decode cX2_four 21 = .ok (.iand, 1) := dk_126 (dk_at dksX2_four_0 21 rfl rfl)
theorem dX2_four_22 : decode cX2_four 22 = .ok (.iastore, 1) := dk_79 (dk_at dksX2_four_0 22 rfl rfl)
theorem dX2_four_23 : decode cX2_four 23 = .ok (.aload_n 0, 1) := dk_42 (dk_at dksX2_four_0 23 rfl rfl)
theorem dX2_four_24 : decode cX2_four 24 = .ok (.dup, 1) := dk_89 (dk_at dksX2_four_1 0 rfl rfl)
theorem dX2_four_25 : decode cX2_four 25 = .ok (.getfield 99, 3) := dk_180 0 99 (dk_at dksX2_four_1 1 rfl rfl)
theorem dX2_four_28 : decode cX2_four 28 = .ok (.iconst 1, 1) := dk_4 (dk_at dksX2_four_1 4 rfl rfl)
theorem dX2_four_29 : decode cX2_four 29 = .ok (.iadd, 1) := dk_96 (dk_at dksX2_four_1 5 rfl rfl)
theorem dX2_four_30 : decode cX2_four 30 = .ok (.putfield 99, 3) := dk_181 0 99 (dk_at dksX2_four_1 6 rfl rfl)
theorem dX2_four_33 : decode cX2_four 33 = .ok (.iinc 2 (-8), 3) := dk_132 2 248 (dk_at dksX2_four_1 9 rfl rfl)
theorem dX2_four_36 : decode cX2_four 36 = .ok (.goto (-33), 3) := dk_167 255 223 (dk_at dksX2_four_1 12 rfl rfl)
theorem dX2_four_39 : decode cX2_four 39 = .ok (.return_, 1) := dk_177 (dk_at dksX2_four_1 15 rfl rfl)
abbrev cX2_end : ByteArray := prog_20_method_23_code
def yX2_end : MethodName := ⟨RX2, "end", "(I)I"⟩
def dkwX2_end_0 : List UInt8 := [27, 3, 42, 180, 0, 99, 184, 0, 75, 154, 0, 5, 2, 172, 42, 27, 181, 0, 99, 27, 172]
abbrev dktX2_end_0 : List UInt8 := dkwX2_end_0 ++ []
theorem dksX2_end_0 : cX2_end.data.toList.drop 0 = dktX2_end_0 := by decide +kernel
theorem dX2_end_0 : decode cX2_end 0 = .ok (.iload_n 1, 1) := dk_27 (dk_at dksX2_end_0 0 rfl rfl)
theorem dX2_end_1 : decode cX2_end 1 = .ok (.iconst 0, 1) := dk_3 (dk_at dksX2_end_0 1 rfl rfl)
theorem dX2_end_2 : decode cX2_end 2 = .ok (.aload_n 0, 1) := dk_42 (dk_at dksX2_end_0 2 rfl rfl)
theorem dX2_end_3 : decode cX2_end 3 = .ok (.getfield 99, 3) := dk_180 0 99 (dk_at dksX2_end_0 3 rfl rfl)
theorem dX2_end_6 : decode cX2_end 6 = .ok (.invokestatic 75, 3) := dk_184 0 75 (dk_at dksX2_end_0 6 rfl rfl)
theorem dX2_end_9 : decode cX2_end 9 = .ok (.ifCond .ne 5, 3) := dk_154 0 5 (dk_at dksX2_end_0 9 rfl rfl)
theorem dX2_end_12 : decode cX2_end 12 = .ok (.iconst (-1), 1) := dk_2 (dk_at dksX2_end_0 12 rfl rfl)
theorem dX2_end_13 : decode cX2_end 13 = .ok (.ireturn, 1) := dk_172 (dk_at dksX2_end_0 13 rfl rfl)
theorem dX2_end_14 : decode cX2_end 14 = .ok (.aload_n 0, 1) := dk_42 (dk_at dksX2_end_0 14 rfl rfl)
theorem dX2_end_15 : decode cX2_end 15 = .ok (.iload_n 1, 1) := dk_27 (dk_at dksX2_end_0 15 rfl rfl)
theorem dX2_end_16 : decode cX2_end 16 = .ok (.putfield 99, 3) := dk_181 0 99 (dk_at dksX2_end_0 16 rfl rfl)
theorem dX2_end_19 : decode cX2_end 19 = .ok (.iload_n 1, 1) := dk_27 (dk_at dksX2_end_0 19 rfl rfl)
theorem dX2_end_20 : decode cX2_end 20 = .ok (.ireturn, 1) := dk_172 (dk_at dksX2_end_0 20 rfl rfl)
abbrev cX2_text : ByteArray := prog_20_method_62_code
def yX2_text : MethodName := ⟨RX2, "text", "()I"⟩
def dkwX2_text_3 : List UInt8 := [46, 4, 96, 79, 42, 180, 0, 7, 4, 46, 4, 100, 172]
abbrev dktX2_text_3 : List UInt8 := dkwX2_text_3 ++ []
def dkwX2_text_2 : List UInt8 := [180, 0, 22, 153, 0, 5, 2, 172, 42, 42, 180, 0, 7, 4, 46, 182, 1, 20, 42, 180, 0, 7, 4, 92]
abbrev dktX2_text_2 : List UInt8 := dkwX2_text_2 ++ dktX2_text_3
def dkwX2_text_1 : List UInt8 := [180, 0, 22, 154, 0, 7, 2, 167, 0, 7, 42, 180, 0, 112, 181, 0, 26, 42, 3, 181, 0, 99, 42]
abbrev dktX2_text_1 : List UInt8 := dkwX2_text_1 ++ dktX2_text_2
def dkwX2_text_0 : List UInt8 := [42, 180, 0, 7, 4, 46, 7, 160, 0, 5, 2, 172, 42, 42, 182, 1, 17, 181, 0, 22, 42, 42]
abbrev dktX2_text_0 : List UInt8 := dkwX2_text_0 ++ dktX2_text_1
theorem dksX2_text_0 : cX2_text.data.toList.drop 0 = dktX2_text_0 := by decide +kernel
theorem dksX2_text_1 : cX2_text.data.toList.drop 22 = dktX2_text_1 := dk_seg dksX2_text_0 22 rfl rfl
theorem dksX2_text_2 : cX2_text.data.toList.drop 45 = dktX2_text_2 := dk_seg dksX2_text_1 23 rfl rfl
theorem dksX2_text_3 : cX2_text.data.toList.drop 69 = dktX2_text_3 := dk_seg dksX2_text_2 24 rfl rfl
theorem dX2_text_0 : decode cX2_text 0 = .ok (.aload_n 0, 1) := dk_42 (dk_at dksX2_text_0 0 rfl rfl)
theorem dX2_text_1 : decode cX2_text 1 = .ok (.getfield 7, 3) := dk_180 0 7 (dk_at dksX2_text_0 1 rfl rfl)
theorem dX2_text_4 : decode cX2_text 4 = .ok (.iconst 1, 1) := dk_4 (dk_at dksX2_text_0 4 rfl rfl)
theorem dX2_text_5 : decode cX2_text 5 = .ok (.iaload, 1) := dk_46 (dk_at dksX2_text_0 5 rfl rfl)
theorem dX2_text_6 : decode cX2_text 6 = .ok (.iconst 4, 1) := dk_7 (dk_at dksX2_text_0 6 rfl rfl)
theorem dX2_text_7 : decode cX2_text 7 = .ok (.if_icmp .ne 5, 3) := dk_160 0 5 (dk_at dksX2_text_0 7 rfl rfl)
theorem dX2_text_10 : decode cX2_text 10 = .ok (.iconst (-1), 1) := dk_2 (dk_at dksX2_text_0 10 rfl rfl)
theorem dX2_text_11 : decode cX2_text 11 = .ok (.ireturn, 1) := dk_172 (dk_at dksX2_text_0 11 rfl rfl)
theorem dX2_text_12 : decode cX2_text 12 = .ok (.aload_n 0, 1) := dk_42 (dk_at dksX2_text_0 12 rfl rfl)
theorem dX2_text_13 : decode cX2_text 13 = .ok (.aload_n 0, 1) := dk_42 (dk_at dksX2_text_0 13 rfl rfl)
theorem dX2_text_14 : decode cX2_text 14 = .ok (.invokevirtual 273, 3) := dk_182 1 17 (dk_at dksX2_text_0 14 rfl rfl)
theorem dX2_text_17 : decode cX2_text 17 = .ok (.putfield 22, 3) := dk_181 0 22 (dk_at dksX2_text_0 17 rfl rfl)
theorem dX2_text_20 : decode cX2_text 20 = .ok (.aload_n 0, 1) := dk_42 (dk_at dksX2_text_0 20 rfl rfl)
theorem dX2_text_21 : decode cX2_text 21 = .ok (.aload_n 0, 1) := dk_42 (dk_at dksX2_text_0 21 rfl rfl)
theorem dX2_text_22 : decode cX2_text 22 = .ok (.getfield 22, 3) := dk_180 0 22 (dk_at dksX2_text_1 0 rfl rfl)
theorem dX2_text_25 : decode cX2_text 25 = .ok (.ifCond .ne 7, 3) := dk_154 0 7 (dk_at dksX2_text_1 3 rfl rfl)
theorem dX2_text_28 : decode cX2_text 28 = .ok (.iconst (-1), 1) := dk_2 (dk_at dksX2_text_1 6 rfl rfl)
theorem dX2_text_29 : decode cX2_text 29 = .ok (.goto 7, 3) := dk_167 0 7 (dk_at dksX2_text_1 7 rfl rfl)
theorem dX2_text_32 : decode cX2_text 32 = .ok (.aload_n 0, 1) := dk_42 (dk_at dksX2_text_1 10 rfl rfl)
theorem dX2_text_33 : decode cX2_text 33 = .ok (.getfield 112, 3) := dk_180 0 112 (dk_at dksX2_text_1 11 rfl rfl)
theorem dX2_text_36 : decode cX2_text 36 = .ok (.putfield 26, 3) := dk_181 0 26 (dk_at dksX2_text_1 14 rfl rfl)
theorem dX2_text_39 : decode cX2_text 39 = .ok (.aload_n 0, 1) := dk_42 (dk_at dksX2_text_1 17 rfl rfl)
theorem dX2_text_40 : decode cX2_text 40 = .ok (.iconst 0, 1) := dk_3 (dk_at dksX2_text_1 18 rfl rfl)
theorem dX2_text_41 : decode cX2_text 41 = .ok (.putfield 99, 3) := dk_181 0 99 (dk_at dksX2_text_1 19 rfl rfl)
theorem dX2_text_44 : decode cX2_text 44 = .ok (.aload_n 0, 1) := dk_42 (dk_at dksX2_text_1 22 rfl rfl)
theorem dX2_text_45 : decode cX2_text 45 = .ok (.getfield 22, 3) := dk_180 0 22 (dk_at dksX2_text_2 0 rfl rfl)
theorem dX2_text_48 : decode cX2_text 48 = .ok (.ifCond .eq 5, 3) := dk_153 0 5 (dk_at dksX2_text_2 3 rfl rfl)
theorem dX2_text_51 : decode cX2_text 51 = .ok (.iconst (-1), 1) := dk_2 (dk_at dksX2_text_2 6 rfl rfl)
theorem dX2_text_52 : decode cX2_text 52 = .ok (.ireturn, 1) := dk_172 (dk_at dksX2_text_2 7 rfl rfl)
theorem dX2_text_53 : decode cX2_text 53 = .ok (.aload_n 0, 1) := dk_42 (dk_at dksX2_text_2 8 rfl rfl)
theorem dX2_text_54 : decode cX2_text 54 = .ok (.aload_n 0, 1) := dk_42 (dk_at dksX2_text_2 9 rfl rfl)
theorem dX2_text_55 : decode cX2_text 55 = .ok (.getfield 7, 3) := dk_180 0 7 (dk_at dksX2_text_2 10 rfl rfl)
theorem dX2_text_58 : decode cX2_text 58 = .ok (.iconst 1, 1) := dk_4 (dk_at dksX2_text_2 13 rfl rfl)
theorem dX2_text_59 : decode cX2_text 59 = .ok (.iaload, 1) := dk_46 (dk_at dksX2_text_2 14 rfl rfl)
theorem dX2_text_60 : decode cX2_text 60 = .ok (.invokevirtual 276, 3) := dk_182 1 20 (dk_at dksX2_text_2 15 rfl rfl)
theorem dX2_text_63 : decode cX2_text 63 = .ok (.aload_n 0, 1) := dk_42 (dk_at dksX2_text_2 18 rfl rfl)
theorem dX2_text_64 : decode cX2_text 64 = .ok (.getfield 7, 3) := dk_180 0 7 (dk_at dksX2_text_2 19 rfl rfl)
theorem dX2_text_67 : decode cX2_text 67 = .ok (.iconst 1, 1) := dk_4 (dk_at dksX2_text_2 22 rfl rfl)
theorem dX2_text_68 : decode cX2_text 68 = .ok (.dup2, 1) := dk_92 (dk_at dksX2_text_2 23 rfl rfl)
theorem dX2_text_69 : decode cX2_text 69 = .ok (.iaload, 1) := dk_46 (dk_at dksX2_text_3 0 rfl rfl)
theorem dX2_text_70 : decode cX2_text 70 = .ok (.iconst 1, 1) := dk_4 (dk_at dksX2_text_3 1 rfl rfl)
theorem dX2_text_71 : decode cX2_text 71 = .ok (.iadd, 1) := dk_96 (dk_at dksX2_text_3 2 rfl rfl)
theorem dX2_text_72 : decode cX2_text 72 = .ok (.iastore, 1) := dk_79 (dk_at dksX2_text_3 3 rfl rfl)
theorem dX2_text_73 : decode cX2_text 73 = .ok (.aload_n 0, 1) := dk_42 (dk_at dksX2_text_3 4 rfl rfl)
theorem dX2_text_74 : decode cX2_text 74 = .ok (.getfield 7, 3) := dk_180 0 7 (dk_at dksX2_text_3 5 rfl rfl)
theorem dX2_text_77 : decode cX2_text 77 = .ok (.iconst 1, 1) := dk_4 (dk_at dksX2_text_3 8 rfl rfl)
theorem dX2_text_78 : decode cX2_text 78 = .ok (.iaload, 1) := dk_46 (dk_at dksX2_text_3 9 rfl rfl)
theorem dX2_text_79 : decode cX2_text 79 = .ok (.iconst 1, 1) := dk_4 (dk_at dksX2_text_3 10 rfl rfl)
theorem dX2_text_80 : decode cX2_text 80 = .ok (.isub, 1) := dk_100 (dk_at dksX2_text_3 11 rfl rfl)
theorem dX2_text_81 : decode cX2_text 81 = .ok (.ireturn, 1) := dk_172 (dk_at dksX2_text_3 12 rfl rfl)
abbrev cX2_readText : ByteArray := prog_20_method_61_code
def yX2_readText : MethodName := ⟨RX2, "readText", "()I"⟩
def dkwX2_readText_2 : List UInt8 := [42, 180, 0, 115, 153, 0, 17, 42, 182, 1, 14, 60, 27, 153, 0, 5, 27, 172, 167, 255, 238, 3, 172]
abbrev dktX2_readText_2 : List UInt8 := dkwX2_readText_2 ++ []
def dkwX2_readText_1 : List UInt8 := [42, 3, 181, 0, 156, 42, 3, 181, 1, 4, 42, 3, 181, 1, 7, 42, 3, 181, 0, 106, 42, 182, 0, 189]
abbrev dktX2_readText_1 : List UInt8 := dkwX2_readText_1 ++ dktX2_readText_2
def dkwX2_readText_0 : List UInt8 := [42, 17, 2, 202, 42, 180, 0, 7, 4, 46, 104, 181, 0, 153, 42, 180, 0, 16, 42, 180, 0, 153, 3, 79]
abbrev dktX2_readText_0 : List UInt8 := dkwX2_readText_0 ++ dktX2_readText_1
theorem dksX2_readText_0 : cX2_readText.data.toList.drop 0 = dktX2_readText_0 := by decide +kernel
theorem dksX2_readText_1 : cX2_readText.data.toList.drop 24 = dktX2_readText_1 := dk_seg dksX2_readText_0 24 rfl rfl
theorem dksX2_readText_2 : cX2_readText.data.toList.drop 48 = dktX2_readText_2 := dk_seg dksX2_readText_1 24 rfl rfl
theorem dX2_readText_0 : decode cX2_readText 0 = .ok (.aload_n 0, 1) := dk_42 (dk_at dksX2_readText_0 0 rfl rfl)
theorem dX2_readText_1 : decode cX2_readText 1 = .ok (.sipush 714, 3) := dk_17 2 202 (dk_at dksX2_readText_0 1 rfl rfl)
theorem dX2_readText_4 : decode cX2_readText 4 = .ok (.aload_n 0, 1) := dk_42 (dk_at dksX2_readText_0 4 rfl rfl)
theorem dX2_readText_5 : decode cX2_readText 5 = .ok (.getfield 7, 3) := dk_180 0 7 (dk_at dksX2_readText_0 5 rfl rfl)
theorem dX2_readText_8 : decode cX2_readText 8 = .ok (.iconst 1, 1) := dk_4 (dk_at dksX2_readText_0 8 rfl rfl)
theorem dX2_readText_9 : decode cX2_readText 9 = .ok (.iaload, 1) := dk_46 (dk_at dksX2_readText_0 9 rfl rfl)
theorem dX2_readText_10 : decode cX2_readText 10 = .ok (.imul, 1) := dk_104 (dk_at dksX2_readText_0 10 rfl rfl)
theorem dX2_readText_11 : decode cX2_readText 11 = .ok (.putfield 153, 3) := dk_181 0 153 (dk_at dksX2_readText_0 11 rfl rfl)
theorem dX2_readText_14 : decode cX2_readText 14 = .ok (.aload_n 0, 1) := dk_42 (dk_at dksX2_readText_0 14 rfl rfl)
theorem dX2_readText_15 : decode cX2_readText 15 = .ok (.getfield 16, 3) := dk_180 0 16 (dk_at dksX2_readText_0 15 rfl rfl)
theorem dX2_readText_18 : decode cX2_readText 18 = .ok (.aload_n 0, 1) := dk_42 (dk_at dksX2_readText_0 18 rfl rfl)
theorem dX2_readText_19 : decode cX2_readText 19 = .ok (.getfield 153, 3) := dk_180 0 153 (dk_at dksX2_readText_0 19 rfl rfl)
theorem dX2_readText_22 : decode cX2_readText 22 = .ok (.iconst 0, 1) := dk_3 (dk_at dksX2_readText_0 22 rfl rfl)
theorem dX2_readText_23 : decode cX2_readText 23 = .ok (.iastore, 1) := dk_79 (dk_at dksX2_readText_0 23 rfl rfl)
theorem dX2_readText_24 : decode cX2_readText 24 = .ok (.aload_n 0, 1) := dk_42 (dk_at dksX2_readText_1 0 rfl rfl)
theorem dX2_readText_25 : decode cX2_readText 25 = .ok (.iconst 0, 1) := dk_3 (dk_at dksX2_readText_1 1 rfl rfl)
theorem dX2_readText_26 : decode cX2_readText 26 = .ok (.putfield 156, 3) := dk_181 0 156 (dk_at dksX2_readText_1 2 rfl rfl)
theorem dX2_readText_29 : decode cX2_readText 29 = .ok (.aload_n 0, 1) := dk_42 (dk_at dksX2_readText_1 5 rfl rfl)
theorem dX2_readText_30 : decode cX2_readText 30 = .ok (.iconst 0, 1) := dk_3 (dk_at dksX2_readText_1 6 rfl rfl)
theorem dX2_readText_31 : decode cX2_readText 31 = .ok (.putfield 260, 3) := dk_181 1 4 (dk_at dksX2_readText_1 7 rfl rfl)
theorem dX2_readText_34 : decode cX2_readText 34 = .ok (.aload_n 0, 1) := dk_42 (dk_at dksX2_readText_1 10 rfl rfl)
theorem dX2_readText_35 : decode cX2_readText 35 = .ok (.iconst 0, 1) := dk_3 (dk_at dksX2_readText_1 11 rfl rfl)
theorem dX2_readText_36 : decode cX2_readText 36 = .ok (.putfield 263, 3) := dk_181 1 7 (dk_at dksX2_readText_1 12 rfl rfl)
theorem dX2_readText_39 : decode cX2_readText 39 = .ok (.aload_n 0, 1) := dk_42 (dk_at dksX2_readText_1 15 rfl rfl)
theorem dX2_readText_40 : decode cX2_readText 40 = .ok (.iconst 0, 1) := dk_3 (dk_at dksX2_readText_1 16 rfl rfl)
theorem dX2_readText_41 : decode cX2_readText 41 = .ok (.putfield 106, 3) := dk_181 0 106 (dk_at dksX2_readText_1 17 rfl rfl)
theorem dX2_readText_44 : decode cX2_readText 44 = .ok (.aload_n 0, 1) := dk_42 (dk_at dksX2_readText_1 20 rfl rfl)
theorem dX2_readText_45 : decode cX2_readText 45 = .ok (.invokevirtual 189, 3) := dk_182 0 189 (dk_at dksX2_readText_1 21 rfl rfl)
theorem dX2_readText_48 : decode cX2_readText 48 = .ok (.aload_n 0, 1) := dk_42 (dk_at dksX2_readText_2 0 rfl rfl)
theorem dX2_readText_49 : decode cX2_readText 49 = .ok (.getfield 115, 3) := dk_180 0 115 (dk_at dksX2_readText_2 1 rfl rfl)
theorem dX2_readText_52 : decode cX2_readText 52 = .ok (.ifCond .eq 17, 3) := dk_153 0 17 (dk_at dksX2_readText_2 4 rfl rfl)
theorem dX2_readText_55 : decode cX2_readText 55 = .ok (.aload_n 0, 1) := dk_42 (dk_at dksX2_readText_2 7 rfl rfl)
theorem dX2_readText_56 : decode cX2_readText 56 = .ok (.invokevirtual 270, 3) := dk_182 1 14 (dk_at dksX2_readText_2 8 rfl rfl)
theorem dX2_readText_59 : decode cX2_readText 59 = .ok (.istore_n 1, 1) := dk_60 (dk_at dksX2_readText_2 11 rfl rfl)
theorem dX2_readText_60 : decode cX2_readText 60 = .ok (.iload_n 1, 1) := dk_27 (dk_at dksX2_readText_2 12 rfl rfl)
theorem dX2_readText_61 : decode cX2_readText 61 = .ok (.ifCond .eq 5, 3) := dk_153 0 5 (dk_at dksX2_readText_2 13 rfl rfl)
theorem dX2_readText_64 : decode cX2_readText 64 = .ok (.iload_n 1, 1) := dk_27 (dk_at dksX2_readText_2 16 rfl rfl)
theorem dX2_readText_65 : decode cX2_readText 65 = .ok (.ireturn, 1) := dk_172 (dk_at dksX2_readText_2 17 rfl rfl)
theorem dX2_readText_66 : decode cX2_readText 66 = .ok (.goto (-18), 3) := dk_167 255 238 (dk_at dksX2_readText_2 18 rfl rfl)
theorem dX2_readText_69 : decode cX2_readText 69 = .ok (.iconst 0, 1) := dk_3 (dk_at dksX2_readText_2 21 rfl rfl)
theorem dX2_readText_70 : decode cX2_readText 70 = .ok (.ireturn, 1) := dk_172 (dk_at dksX2_readText_2 22 rfl rfl)
abbrev cX2_nextToken : ByteArray := prog_20_method_28_code
def yX2_nextToken : MethodName := ⟨RX2, "nextToken", "()V"⟩
def dkwX2_nextToken_13 : List UInt8 := [180, 0, 106, 4, 96, 181, 0, 106, 177]
abbrev dktX2_nextToken_13 : List UInt8 := dkwX2_nextToken_13 ++ []
def dkwX2_nextToken_12 : List UInt8 := [16, 61, 160, 0, 28, 42, 27, 16, 60, 160, 0, 7, 7, 167, 0, 4, 8, 181, 0, 115, 42, 89]
abbrev dktX2_nextToken_12 : List UInt8 := dkwX2_nextToken_12 ++ dktX2_nextToken_13
def dkwX2_nextToken_11 : List UInt8 := [181, 0, 106, 27, 16, 60, 159, 0, 9, 27, 16, 62, 160, 0, 41, 42, 42, 180, 0, 106, 182, 0, 109]
abbrev dktX2_nextToken_11 : List UInt8 := dkwX2_nextToken_11 ++ dktX2_nextToken_12
def dkwX2_nextToken_10 : List UInt8 := [42, 27, 184, 0, 134, 153, 0, 7, 27, 167, 0, 4, 6, 181, 0, 115, 42, 89, 180, 0, 106, 4, 96]
abbrev dktX2_nextToken_10 : List UInt8 := dkwX2_nextToken_10 ++ dktX2_nextToken_11
def dkwX2_nextToken_9 : List UInt8 := [180, 0, 106, 182, 0, 109, 133, 129, 181, 0, 128, 42, 89, 180, 0, 106, 4, 96, 181, 0, 106, 167, 255, 193]
abbrev dktX2_nextToken_9 : List UInt8 := dkwX2_nextToken_9 ++ dktX2_nextToken_10
def dkwX2_nextToken_8 : List UInt8 := [16, 48, 123, 9, 148, 153, 0, 9, 20, 0, 132, 167, 0, 20, 42, 180, 0, 128, 16, 8, 121, 42, 42]
abbrev dktX2_nextToken_8 : List UInt8 := dkwX2_nextToken_8 ++ dktX2_nextToken_9
def dkwX2_nextToken_7 : List UInt8 := [9, 181, 0, 128, 42, 42, 180, 0, 106, 182, 0, 109, 184, 0, 125, 153, 0, 131, 42, 42, 180, 0, 128]
abbrev dktX2_nextToken_7 : List UInt8 := dkwX2_nextToken_7 ++ dktX2_nextToken_8
def dkwX2_nextToken_6 : List UInt8 := [180, 0, 106, 4, 96, 181, 0, 106, 167, 255, 193, 27, 184, 0, 125, 153, 0, 79, 42, 5, 181, 0, 115, 42]
abbrev dktX2_nextToken_6 : List UInt8 := dkwX2_nextToken_6 ++ dktX2_nextToken_7
def dkwX2_nextToken_5 : List UInt8 := [16, 10, 42, 180, 0, 121, 104, 42, 42, 180, 0, 106, 182, 0, 109, 96, 16, 48, 100, 181, 0, 121, 42, 89]
abbrev dktX2_nextToken_5 : List UInt8 := dkwX2_nextToken_5 ++ dktX2_nextToken_6
def dkwX2_nextToken_4 : List UInt8 := [184, 0, 118, 153, 0, 214, 42, 42, 180, 0, 121, 18, 124, 164, 0, 10, 42, 180, 0, 121, 167, 0, 22]
abbrev dktX2_nextToken_4 : List UInt8 := dkwX2_nextToken_4 ++ dktX2_nextToken_5
def dkwX2_nextToken_3 : List UInt8 := [184, 0, 118, 153, 0, 79, 42, 4, 181, 0, 115, 42, 3, 181, 0, 121, 42, 42, 180, 0, 106, 182, 0, 109]
abbrev dktX2_nextToken_3 : List UInt8 := dkwX2_nextToken_3 ++ dktX2_nextToken_4
def dkwX2_nextToken_2 : List UInt8 := [42, 42, 180, 0, 106, 182, 0, 109, 60, 27, 156, 0, 11, 42, 3, 181, 0, 115, 167, 0, 245, 27]
abbrev dktX2_nextToken_2 : List UInt8 := dkwX2_nextToken_2 ++ dktX2_nextToken_3
def dkwX2_nextToken_1 : List UInt8 := [160, 0, 16, 42, 89, 180, 0, 106, 4, 96, 181, 0, 106, 167, 255, 220, 42, 42, 180, 0, 106, 181, 0, 112]
abbrev dktX2_nextToken_1 : List UInt8 := dkwX2_nextToken_1 ++ dktX2_nextToken_2
def dkwX2_nextToken_0 : List UInt8 := [42, 42, 180, 0, 106, 182, 0, 109, 16, 32, 159, 0, 16, 42, 42, 180, 0, 106, 182, 0, 109, 16, 10]
abbrev dktX2_nextToken_0 : List UInt8 := dkwX2_nextToken_0 ++ dktX2_nextToken_1
theorem dksX2_nextToken_0 : cX2_nextToken.data.toList.drop 0 = dktX2_nextToken_0 := by decide +kernel
theorem dksX2_nextToken_1 : cX2_nextToken.data.toList.drop 23 = dktX2_nextToken_1 := dk_seg dksX2_nextToken_0 23 rfl rfl
theorem dksX2_nextToken_2 : cX2_nextToken.data.toList.drop 47 = dktX2_nextToken_2 := dk_seg dksX2_nextToken_1 24 rfl rfl
theorem dksX2_nextToken_3 : cX2_nextToken.data.toList.drop 69 = dktX2_nextToken_3 := dk_seg dksX2_nextToken_2 22 rfl rfl
theorem dksX2_nextToken_4 : cX2_nextToken.data.toList.drop 93 = dktX2_nextToken_4 := dk_seg dksX2_nextToken_3 24 rfl rfl
theorem dksX2_nextToken_5 : cX2_nextToken.data.toList.drop 116 = dktX2_nextToken_5 := dk_seg dksX2_nextToken_4 23 rfl rfl
theorem dksX2_nextToken_6 : cX2_nextToken.data.toList.drop 140 = dktX2_nextToken_6 := dk_seg dksX2_nextToken_5 24 rfl rfl
theorem dksX2_nextToken_7 : cX2_nextToken.data.toList.drop 164 = dktX2_nextToken_7 := dk_seg dksX2_nextToken_6 24 rfl rfl
theorem dksX2_nextToken_8 : cX2_nextToken.data.toList.drop 187 = dktX2_nextToken_8 := dk_seg dksX2_nextToken_7 23 rfl rfl
theorem dksX2_nextToken_9 : cX2_nextToken.data.toList.drop 210 = dktX2_nextToken_9 := dk_seg dksX2_nextToken_8 23 rfl rfl
theorem dksX2_nextToken_10 : cX2_nextToken.data.toList.drop 234 = dktX2_nextToken_10 := dk_seg dksX2_nextToken_9 24 rfl rfl
theorem dksX2_nextToken_11 : cX2_nextToken.data.toList.drop 257 = dktX2_nextToken_11 := dk_seg dksX2_nextToken_10 23 rfl rfl
theorem dksX2_nextToken_12 : cX2_nextToken.data.toList.drop 280 = dktX2_nextToken_12 := dk_seg dksX2_nextToken_11 23 rfl rfl
theorem dksX2_nextToken_13 : cX2_nextToken.data.toList.drop 302 = dktX2_nextToken_13 := dk_seg dksX2_nextToken_12 22 rfl rfl
theorem dX2_nextToken_0 : decode cX2_nextToken 0 = .ok (.aload_n 0, 1) := dk_42 (dk_at dksX2_nextToken_0 0 rfl rfl)
theorem dX2_nextToken_1 : decode cX2_nextToken 1 = .ok (.aload_n 0, 1) := dk_42 (dk_at dksX2_nextToken_0 1 rfl rfl)
theorem dX2_nextToken_2 : decode cX2_nextToken 2 = .ok (.getfield 106, 3) := dk_180 0 106 (dk_at dksX2_nextToken_0 2 rfl rfl)
theorem dX2_nextToken_5 : decode cX2_nextToken 5 = .ok (.invokevirtual 109, 3) := dk_182 0 109 (dk_at dksX2_nextToken_0 5 rfl rfl)
theorem dX2_nextToken_8 : decode cX2_nextToken 8 = .ok (.bipush 32, 2) := dk_16 32 (dk_at dksX2_nextToken_0 8 rfl rfl)
theorem dX2_nextToken_10 : decode cX2_nextToken 10 = .ok (.if_icmp .eq 16, 3) := dk_159 0 16 (dk_at dksX2_nextToken_0 10 rfl rfl)
theorem dX2_nextToken_13 : decode cX2_nextToken 13 = .ok (.aload_n 0, 1) := dk_42 (dk_at dksX2_nextToken_0 13 rfl rfl)
theorem dX2_nextToken_14 : decode cX2_nextToken 14 = .ok (.aload_n 0, 1) := dk_42 (dk_at dksX2_nextToken_0 14 rfl rfl)
theorem dX2_nextToken_15 : decode cX2_nextToken 15 = .ok (.getfield 106, 3) := dk_180 0 106 (dk_at dksX2_nextToken_0 15 rfl rfl)
theorem dX2_nextToken_18 : decode cX2_nextToken 18 = .ok (.invokevirtual 109, 3) := dk_182 0 109 (dk_at dksX2_nextToken_0 18 rfl rfl)
theorem dX2_nextToken_21 : decode cX2_nextToken 21 = .ok (.bipush 10, 2) := dk_16 10 (dk_at dksX2_nextToken_0 21 rfl rfl)
theorem dX2_nextToken_23 : decode cX2_nextToken 23 = .ok (.if_icmp .ne 16, 3) := dk_160 0 16 (dk_at dksX2_nextToken_1 0 rfl rfl)
theorem dX2_nextToken_26 : decode cX2_nextToken 26 = .ok (.aload_n 0, 1) := dk_42 (dk_at dksX2_nextToken_1 3 rfl rfl)
theorem dX2_nextToken_27 : decode cX2_nextToken 27 = .ok (.dup, 1) := dk_89 (dk_at dksX2_nextToken_1 4 rfl rfl)
theorem dX2_nextToken_28 : decode cX2_nextToken 28 = .ok (.getfield 106, 3) := dk_180 0 106 (dk_at dksX2_nextToken_1 5 rfl rfl)
theorem dX2_nextToken_31 : decode cX2_nextToken 31 = .ok (.iconst 1, 1) := dk_4 (dk_at dksX2_nextToken_1 8 rfl rfl)
theorem dX2_nextToken_32 : decode cX2_nextToken 32 = .ok (.iadd, 1) := dk_96 (dk_at dksX2_nextToken_1 9 rfl rfl)
theorem dX2_nextToken_33 : decode cX2_nextToken 33 = .ok (.putfield 106, 3) := dk_181 0 106 (dk_at dksX2_nextToken_1 10 rfl rfl)
theorem dX2_nextToken_36 : decode cX2_nextToken 36 = .ok (.goto (-36), 3) := dk_167 255 220 (dk_at dksX2_nextToken_1 13 rfl rfl)
theorem dX2_nextToken_39 : decode cX2_nextToken 39 = .ok (.aload_n 0, 1) := dk_42 (dk_at dksX2_nextToken_1 16 rfl rfl)
theorem dX2_nextToken_40 : decode cX2_nextToken 40 = .ok (.aload_n 0, 1) := dk_42 (dk_at dksX2_nextToken_1 17 rfl rfl)
theorem dX2_nextToken_41 : decode cX2_nextToken 41 = .ok (.getfield 106, 3) := dk_180 0 106 (dk_at dksX2_nextToken_1 18 rfl rfl)
theorem dX2_nextToken_44 : decode cX2_nextToken 44 = .ok (.putfield 112, 3) := dk_181 0 112 (dk_at dksX2_nextToken_1 21 rfl rfl)
theorem dX2_nextToken_47 : decode cX2_nextToken 47 = .ok (.aload_n 0, 1) := dk_42 (dk_at dksX2_nextToken_2 0 rfl rfl)
theorem dX2_nextToken_48 : decode cX2_nextToken 48 = .ok (.aload_n 0, 1) := dk_42 (dk_at dksX2_nextToken_2 1 rfl rfl)
theorem dX2_nextToken_49 : decode cX2_nextToken 49 = .ok (.getfield 106, 3) := dk_180 0 106 (dk_at dksX2_nextToken_2 2 rfl rfl)
theorem dX2_nextToken_52 : decode cX2_nextToken 52 = .ok (.invokevirtual 109, 3) := dk_182 0 109 (dk_at dksX2_nextToken_2 5 rfl rfl)
theorem dX2_nextToken_55 : decode cX2_nextToken 55 = .ok (.istore_n 1, 1) := dk_60 (dk_at dksX2_nextToken_2 8 rfl rfl)
theorem dX2_nextToken_56 : decode cX2_nextToken 56 = .ok (.iload_n 1, 1) := dk_27 (dk_at dksX2_nextToken_2 9 rfl rfl)
theorem dX2_nextToken_57 : decode cX2_nextToken 57 = .ok (.ifCond .ge 11, 3) := dk_156 0 11 (dk_at dksX2_nextToken_2 10 rfl rfl)
theorem dX2_nextToken_60 : decode cX2_nextToken 60 = .ok (.aload_n 0, 1) := dk_42 (dk_at dksX2_nextToken_2 13 rfl rfl)
theorem dX2_nextToken_61 : decode cX2_nextToken 61 = .ok (.iconst 0, 1) := dk_3 (dk_at dksX2_nextToken_2 14 rfl rfl)
theorem dX2_nextToken_62 : decode cX2_nextToken 62 = .ok (.putfield 115, 3) := dk_181 0 115 (dk_at dksX2_nextToken_2 15 rfl rfl)
theorem dX2_nextToken_65 : decode cX2_nextToken 65 = .ok (.goto 245, 3) := dk_167 0 245 (dk_at dksX2_nextToken_2 18 rfl rfl)
theorem dX2_nextToken_68 : decode cX2_nextToken 68 = .ok (.iload_n 1, 1) := dk_27 (dk_at dksX2_nextToken_2 21 rfl rfl)
theorem dX2_nextToken_69 : decode cX2_nextToken 69 = .ok (.invokestatic 118, 3) := dk_184 0 118 (dk_at dksX2_nextToken_3 0 rfl rfl)
theorem dX2_nextToken_72 : decode cX2_nextToken 72 = .ok (.ifCond .eq 79, 3) := dk_153 0 79 (dk_at dksX2_nextToken_3 3 rfl rfl)
theorem dX2_nextToken_75 : decode cX2_nextToken 75 = .ok (.aload_n 0, 1) := dk_42 (dk_at dksX2_nextToken_3 6 rfl rfl)
theorem dX2_nextToken_76 : decode cX2_nextToken 76 = .ok (.iconst 1, 1) := dk_4 (dk_at dksX2_nextToken_3 7 rfl rfl)
theorem dX2_nextToken_77 : decode cX2_nextToken 77 = .ok (.putfield 115, 3) := dk_181 0 115 (dk_at dksX2_nextToken_3 8 rfl rfl)
theorem dX2_nextToken_80 : decode cX2_nextToken 80 = .ok (.aload_n 0, 1) := dk_42 (dk_at dksX2_nextToken_3 11 rfl rfl)
theorem dX2_nextToken_81 : decode cX2_nextToken 81 = .ok (.iconst 0, 1) := dk_3 (dk_at dksX2_nextToken_3 12 rfl rfl)
theorem dX2_nextToken_82 : decode cX2_nextToken 82 = .ok (.putfield 121, 3) := dk_181 0 121 (dk_at dksX2_nextToken_3 13 rfl rfl)
theorem dX2_nextToken_85 : decode cX2_nextToken 85 = .ok (.aload_n 0, 1) := dk_42 (dk_at dksX2_nextToken_3 16 rfl rfl)
theorem dX2_nextToken_86 : decode cX2_nextToken 86 = .ok (.aload_n 0, 1) := dk_42 (dk_at dksX2_nextToken_3 17 rfl rfl)
theorem dX2_nextToken_87 : decode cX2_nextToken 87 = .ok (.getfield 106, 3) := dk_180 0 106 (dk_at dksX2_nextToken_3 18 rfl rfl)
theorem dX2_nextToken_90 : decode cX2_nextToken 90 = .ok (.invokevirtual 109, 3) := dk_182 0 109 (dk_at dksX2_nextToken_3 21 rfl rfl)
theorem dX2_nextToken_93 : decode cX2_nextToken 93 = .ok (.invokestatic 118, 3) := dk_184 0 118 (dk_at dksX2_nextToken_4 0 rfl rfl)
theorem dX2_nextToken_96 : decode cX2_nextToken 96 = .ok (.ifCond .eq 214, 3) := dk_153 0 214 (dk_at dksX2_nextToken_4 3 rfl rfl)
theorem dX2_nextToken_99 : decode cX2_nextToken 99 = .ok (.aload_n 0, 1) := dk_42 (dk_at dksX2_nextToken_4 6 rfl rfl)
theorem dX2_nextToken_100 : decode cX2_nextToken 100 = .ok (.aload_n 0, 1) := dk_42 (dk_at dksX2_nextToken_4 7 rfl rfl)
theorem dX2_nextToken_101 : decode cX2_nextToken 101 = .ok (.getfield 121, 3) := dk_180 0 121 (dk_at dksX2_nextToken_4 8 rfl rfl)
theorem dX2_nextToken_104 : decode cX2_nextToken 104 = .ok (.ldc 124, 2) := dk_18 124 (dk_at dksX2_nextToken_4 11 rfl rfl)
theorem dX2_nextToken_106 : decode cX2_nextToken 106 = .ok (.if_icmp .le 10, 3) := dk_164 0 10 (dk_at dksX2_nextToken_4 13 rfl rfl)
theorem dX2_nextToken_109 : decode cX2_nextToken 109 = .ok (.aload_n 0, 1) := dk_42 (dk_at dksX2_nextToken_4 16 rfl rfl)
theorem dX2_nextToken_110 : decode cX2_nextToken 110 = .ok (.getfield 121, 3) := dk_180 0 121 (dk_at dksX2_nextToken_4 17 rfl rfl)
theorem dX2_nextToken_113 : decode cX2_nextToken 113 = .ok (.goto 22, 3) := dk_167 0 22 (dk_at dksX2_nextToken_4 20 rfl rfl)
theorem dX2_nextToken_116 : decode cX2_nextToken 116 = .ok (.bipush 10, 2) := dk_16 10 (dk_at dksX2_nextToken_5 0 rfl rfl)
theorem dX2_nextToken_118 : decode cX2_nextToken 118 = .ok (.aload_n 0, 1) := dk_42 (dk_at dksX2_nextToken_5 2 rfl rfl)
theorem dX2_nextToken_119 : decode cX2_nextToken 119 = .ok (.getfield 121, 3) := dk_180 0 121 (dk_at dksX2_nextToken_5 3 rfl rfl)
theorem dX2_nextToken_122 : decode cX2_nextToken 122 = .ok (.imul, 1) := dk_104 (dk_at dksX2_nextToken_5 6 rfl rfl)
theorem dX2_nextToken_123 : decode cX2_nextToken 123 = .ok (.aload_n 0, 1) := dk_42 (dk_at dksX2_nextToken_5 7 rfl rfl)
theorem dX2_nextToken_124 : decode cX2_nextToken 124 = .ok (.aload_n 0, 1) := dk_42 (dk_at dksX2_nextToken_5 8 rfl rfl)
theorem dX2_nextToken_125 : decode cX2_nextToken 125 = .ok (.getfield 106, 3) := dk_180 0 106 (dk_at dksX2_nextToken_5 9 rfl rfl)
theorem dX2_nextToken_128 : decode cX2_nextToken 128 = .ok (.invokevirtual 109, 3) := dk_182 0 109 (dk_at dksX2_nextToken_5 12 rfl rfl)
theorem dX2_nextToken_131 : decode cX2_nextToken 131 = .ok (.iadd, 1) := dk_96 (dk_at dksX2_nextToken_5 15 rfl rfl)
theorem dX2_nextToken_132 : decode cX2_nextToken 132 = .ok (.bipush 48, 2) := dk_16 48 (dk_at dksX2_nextToken_5 16 rfl rfl)
theorem dX2_nextToken_134 : decode cX2_nextToken 134 = .ok (.isub, 1) := dk_100 (dk_at dksX2_nextToken_5 18 rfl rfl)
theorem dX2_nextToken_135 : decode cX2_nextToken 135 = .ok (.putfield 121, 3) := dk_181 0 121 (dk_at dksX2_nextToken_5 19 rfl rfl)
theorem dX2_nextToken_138 : decode cX2_nextToken 138 = .ok (.aload_n 0, 1) := dk_42 (dk_at dksX2_nextToken_5 22 rfl rfl)
theorem dX2_nextToken_139 : decode cX2_nextToken 139 = .ok (.dup, 1) := dk_89 (dk_at dksX2_nextToken_5 23 rfl rfl)
theorem dX2_nextToken_140 : decode cX2_nextToken 140 = .ok (.getfield 106, 3) := dk_180 0 106 (dk_at dksX2_nextToken_6 0 rfl rfl)
theorem dX2_nextToken_143 : decode cX2_nextToken 143 = .ok (.iconst 1, 1) := dk_4 (dk_at dksX2_nextToken_6 3 rfl rfl)
theorem dX2_nextToken_144 : decode cX2_nextToken 144 = .ok (.iadd, 1) := dk_96 (dk_at dksX2_nextToken_6 4 rfl rfl)
theorem dX2_nextToken_145 : decode cX2_nextToken 145 = .ok (.putfield 106, 3) := dk_181 0 106 (dk_at dksX2_nextToken_6 5 rfl rfl)
theorem dX2_nextToken_148 : decode cX2_nextToken 148 = .ok (.goto (-63), 3) := dk_167 255 193 (dk_at dksX2_nextToken_6 8 rfl rfl)
theorem dX2_nextToken_151 : decode cX2_nextToken 151 = .ok (.iload_n 1, 1) := dk_27 (dk_at dksX2_nextToken_6 11 rfl rfl)
theorem dX2_nextToken_152 : decode cX2_nextToken 152 = .ok (.invokestatic 125, 3) := dk_184 0 125 (dk_at dksX2_nextToken_6 12 rfl rfl)
theorem dX2_nextToken_155 : decode cX2_nextToken 155 = .ok (.ifCond .eq 79, 3) := dk_153 0 79 (dk_at dksX2_nextToken_6 15 rfl rfl)
theorem dX2_nextToken_158 : decode cX2_nextToken 158 = .ok (.aload_n 0, 1) := dk_42 (dk_at dksX2_nextToken_6 18 rfl rfl)
theorem dX2_nextToken_159 : decode cX2_nextToken 159 = .ok (.iconst 2, 1) := dk_5 (dk_at dksX2_nextToken_6 19 rfl rfl)
theorem dX2_nextToken_160 : decode cX2_nextToken 160 = .ok (.putfield 115, 3) := dk_181 0 115 (dk_at dksX2_nextToken_6 20 rfl rfl)
theorem dX2_nextToken_163 : decode cX2_nextToken 163 = .ok (.aload_n 0, 1) := dk_42 (dk_at dksX2_nextToken_6 23 rfl rfl)
theorem dX2_nextToken_164 : decode cX2_nextToken 164 = .ok (.lconst 0, 1) := dk_9 (dk_at dksX2_nextToken_7 0 rfl rfl)
theorem dX2_nextToken_165 : decode cX2_nextToken 165 = .ok (.putfield 128, 3) := dk_181 0 128 (dk_at dksX2_nextToken_7 1 rfl rfl)
theorem dX2_nextToken_168 : decode cX2_nextToken 168 = .ok (.aload_n 0, 1) := dk_42 (dk_at dksX2_nextToken_7 4 rfl rfl)
theorem dX2_nextToken_169 : decode cX2_nextToken 169 = .ok (.aload_n 0, 1) := dk_42 (dk_at dksX2_nextToken_7 5 rfl rfl)
theorem dX2_nextToken_170 : decode cX2_nextToken 170 = .ok (.getfield 106, 3) := dk_180 0 106 (dk_at dksX2_nextToken_7 6 rfl rfl)
theorem dX2_nextToken_173 : decode cX2_nextToken 173 = .ok (.invokevirtual 109, 3) := dk_182 0 109 (dk_at dksX2_nextToken_7 9 rfl rfl)
theorem dX2_nextToken_176 : decode cX2_nextToken 176 = .ok (.invokestatic 125, 3) := dk_184 0 125 (dk_at dksX2_nextToken_7 12 rfl rfl)
theorem dX2_nextToken_179 : decode cX2_nextToken 179 = .ok (.ifCond .eq 131, 3) := dk_153 0 131 (dk_at dksX2_nextToken_7 15 rfl rfl)
theorem dX2_nextToken_182 : decode cX2_nextToken 182 = .ok (.aload_n 0, 1) := dk_42 (dk_at dksX2_nextToken_7 18 rfl rfl)
theorem dX2_nextToken_183 : decode cX2_nextToken 183 = .ok (.aload_n 0, 1) := dk_42 (dk_at dksX2_nextToken_7 19 rfl rfl)
theorem dX2_nextToken_184 : decode cX2_nextToken 184 = .ok (.getfield 128, 3) := dk_180 0 128 (dk_at dksX2_nextToken_7 20 rfl rfl)
theorem dX2_nextToken_187 : decode cX2_nextToken 187 = .ok (.bipush 48, 2) := dk_16 48 (dk_at dksX2_nextToken_8 0 rfl rfl)
theorem dX2_nextToken_189 : decode cX2_nextToken 189 = .ok (.lshr, 1) := dk_123 (dk_at dksX2_nextToken_8 2 rfl rfl)
theorem dX2_nextToken_190 : decode cX2_nextToken 190 = .ok (.lconst 0, 1) := dk_9 (dk_at dksX2_nextToken_8 3 rfl rfl)
theorem dX2_nextToken_191 : decode cX2_nextToken 191 = .ok (.lcmp, 1) := dk_148 (dk_at dksX2_nextToken_8 4 rfl rfl)
theorem dX2_nextToken_192 : decode cX2_nextToken 192 = .ok (.ifCond .eq 9, 3) := dk_153 0 9 (dk_at dksX2_nextToken_8 5 rfl rfl)
theorem dX2_nextToken_195 : decode cX2_nextToken 195 = .ok (.ldc2_w 132, 3) := dk_20 0 132 (dk_at dksX2_nextToken_8 8 rfl rfl)
theorem dX2_nextToken_198 : decode cX2_nextToken 198 = .ok (.goto 20, 3) := dk_167 0 20 (dk_at dksX2_nextToken_8 11 rfl rfl)
theorem dX2_nextToken_201 : decode cX2_nextToken 201 = .ok (.aload_n 0, 1) := dk_42 (dk_at dksX2_nextToken_8 14 rfl rfl)
theorem dX2_nextToken_202 : decode cX2_nextToken 202 = .ok (.getfield 128, 3) := dk_180 0 128 (dk_at dksX2_nextToken_8 15 rfl rfl)
theorem dX2_nextToken_205 : decode cX2_nextToken 205 = .ok (.bipush 8, 2) := dk_16 8 (dk_at dksX2_nextToken_8 18 rfl rfl)
theorem dX2_nextToken_207 : decode cX2_nextToken 207 = .ok (.lshl, 1) := dk_121 (dk_at dksX2_nextToken_8 20 rfl rfl)
theorem dX2_nextToken_208 : decode cX2_nextToken 208 = .ok (.aload_n 0, 1) := dk_42 (dk_at dksX2_nextToken_8 21 rfl rfl)
theorem dX2_nextToken_209 : decode cX2_nextToken 209 = .ok (.aload_n 0, 1) := dk_42 (dk_at dksX2_nextToken_8 22 rfl rfl)
theorem dX2_nextToken_210 : decode cX2_nextToken 210 = .ok (.getfield 106, 3) := dk_180 0 106 (dk_at dksX2_nextToken_9 0 rfl rfl)
theorem dX2_nextToken_213 : decode cX2_nextToken 213 = .ok (.invokevirtual 109, 3) := dk_182 0 109 (dk_at dksX2_nextToken_9 3 rfl rfl)
theorem dX2_nextToken_216 : decode cX2_nextToken 216 = .ok (.i2l, 1) := dk_133 (dk_at dksX2_nextToken_9 6 rfl rfl)
theorem dX2_nextToken_217 : decode cX2_nextToken 217 = .ok (.lor, 1) := dk_129 (dk_at dksX2_nextToken_9 7 rfl rfl)
theorem dX2_nextToken_218 : decode cX2_nextToken 218 = .ok (.putfield 128, 3) := dk_181 0 128 (dk_at dksX2_nextToken_9 8 rfl rfl)
theorem dX2_nextToken_221 : decode cX2_nextToken 221 = .ok (.aload_n 0, 1) := dk_42 (dk_at dksX2_nextToken_9 11 rfl rfl)
theorem dX2_nextToken_222 : decode cX2_nextToken 222 = .ok (.dup, 1) := dk_89 (dk_at dksX2_nextToken_9 12 rfl rfl)
theorem dX2_nextToken_223 : decode cX2_nextToken 223 = .ok (.getfield 106, 3) := dk_180 0 106 (dk_at dksX2_nextToken_9 13 rfl rfl)
theorem dX2_nextToken_226 : decode cX2_nextToken 226 = .ok (.iconst 1, 1) := dk_4 (dk_at dksX2_nextToken_9 16 rfl rfl)
theorem dX2_nextToken_227 : decode cX2_nextToken 227 = .ok (.iadd, 1) := dk_96 (dk_at dksX2_nextToken_9 17 rfl rfl)
theorem dX2_nextToken_228 : decode cX2_nextToken 228 = .ok (.putfield 106, 3) := dk_181 0 106 (dk_at dksX2_nextToken_9 18 rfl rfl)
theorem dX2_nextToken_231 : decode cX2_nextToken 231 = .ok (.goto (-63), 3) := dk_167 255 193 (dk_at dksX2_nextToken_9 21 rfl rfl)
theorem dX2_nextToken_234 : decode cX2_nextToken 234 = .ok (.aload_n 0, 1) := dk_42 (dk_at dksX2_nextToken_10 0 rfl rfl)
theorem dX2_nextToken_235 : decode cX2_nextToken 235 = .ok (.iload_n 1, 1) := dk_27 (dk_at dksX2_nextToken_10 1 rfl rfl)
theorem dX2_nextToken_236 : decode cX2_nextToken 236 = .ok (.invokestatic 134, 3) := dk_184 0 134 (dk_at dksX2_nextToken_10 2 rfl rfl)
theorem dX2_nextToken_239 : decode cX2_nextToken 239 = .ok (.ifCond .eq 7, 3) := dk_153 0 7 (dk_at dksX2_nextToken_10 5 rfl rfl)
theorem dX2_nextToken_242 : decode cX2_nextToken 242 = .ok (.iload_n 1, 1) := dk_27 (dk_at dksX2_nextToken_10 8 rfl rfl)
theorem dX2_nextToken_243 : decode cX2_nextToken 243 = .ok (.goto 4, 3) := dk_167 0 4 (dk_at dksX2_nextToken_10 9 rfl rfl)
theorem dX2_nextToken_246 : decode cX2_nextToken 246 = .ok (.iconst 3, 1) := dk_6 (dk_at dksX2_nextToken_10 12 rfl rfl)
theorem dX2_nextToken_247 : decode cX2_nextToken 247 = .ok (.putfield 115, 3) := dk_181 0 115 (dk_at dksX2_nextToken_10 13 rfl rfl)
theorem dX2_nextToken_250 : decode cX2_nextToken 250 = .ok (.aload_n 0, 1) := dk_42 (dk_at dksX2_nextToken_10 16 rfl rfl)
theorem dX2_nextToken_251 : decode cX2_nextToken 251 = .ok (.dup, 1) := dk_89 (dk_at dksX2_nextToken_10 17 rfl rfl)
theorem dX2_nextToken_252 : decode cX2_nextToken 252 = .ok (.getfield 106, 3) := dk_180 0 106 (dk_at dksX2_nextToken_10 18 rfl rfl)
theorem dX2_nextToken_255 : decode cX2_nextToken 255 = .ok (.iconst 1, 1) := dk_4 (dk_at dksX2_nextToken_10 21 rfl rfl)
theorem dX2_nextToken_256 : decode cX2_nextToken 256 = .ok (.iadd, 1) := dk_96 (dk_at dksX2_nextToken_10 22 rfl rfl)
theorem dX2_nextToken_257 : decode cX2_nextToken 257 = .ok (.putfield 106, 3) := dk_181 0 106 (dk_at dksX2_nextToken_11 0 rfl rfl)
theorem dX2_nextToken_260 : decode cX2_nextToken 260 = .ok (.iload_n 1, 1) := dk_27 (dk_at dksX2_nextToken_11 3 rfl rfl)
theorem dX2_nextToken_261 : decode cX2_nextToken 261 = .ok (.bipush 60, 2) := dk_16 60 (dk_at dksX2_nextToken_11 4 rfl rfl)
theorem dX2_nextToken_263 : decode cX2_nextToken 263 = .ok (.if_icmp .eq 9, 3) := dk_159 0 9 (dk_at dksX2_nextToken_11 6 rfl rfl)
theorem dX2_nextToken_266 : decode cX2_nextToken 266 = .ok (.iload_n 1, 1) := dk_27 (dk_at dksX2_nextToken_11 9 rfl rfl)
theorem dX2_nextToken_267 : decode cX2_nextToken 267 = .ok (.bipush 62, 2) := dk_16 62 (dk_at dksX2_nextToken_11 10 rfl rfl)
theorem dX2_nextToken_269 : decode cX2_nextToken 269 = .ok (.if_icmp .ne 41, 3) := dk_160 0 41 (dk_at dksX2_nextToken_11 12 rfl rfl)
theorem dX2_nextToken_272 : decode cX2_nextToken 272 = .ok (.aload_n 0, 1) := dk_42 (dk_at dksX2_nextToken_11 15 rfl rfl)
theorem dX2_nextToken_273 : decode cX2_nextToken 273 = .ok (.aload_n 0, 1) := dk_42 (dk_at dksX2_nextToken_11 16 rfl rfl)
theorem dX2_nextToken_274 : decode cX2_nextToken 274 = .ok (.getfield 106, 3) := dk_180 0 106 (dk_at dksX2_nextToken_11 17 rfl rfl)
theorem dX2_nextToken_277 : decode cX2_nextToken 277 = .ok (.invokevirtual 109, 3) := dk_182 0 109 (dk_at dksX2_nextToken_11 20 rfl rfl)
theorem dX2_nextToken_280 : decode cX2_nextToken 280 = .ok (.bipush 61, 2) := dk_16 61 (dk_at dksX2_nextToken_12 0 rfl rfl)
theorem dX2_nextToken_282 : decode cX2_nextToken 282 = .ok (.if_icmp .ne 28, 3) := dk_160 0 28 (dk_at dksX2_nextToken_12 2 rfl rfl)
theorem dX2_nextToken_285 : decode cX2_nextToken 285 = .ok (.aload_n 0, 1) := dk_42 (dk_at dksX2_nextToken_12 5 rfl rfl)
theorem dX2_nextToken_286 : decode cX2_nextToken 286 = .ok (.iload_n 1, 1) := dk_27 (dk_at dksX2_nextToken_12 6 rfl rfl)
theorem dX2_nextToken_287 : decode cX2_nextToken 287 = .ok (.bipush 60, 2) := dk_16 60 (dk_at dksX2_nextToken_12 7 rfl rfl)
theorem dX2_nextToken_289 : decode cX2_nextToken 289 = .ok (.if_icmp .ne 7, 3) := dk_160 0 7 (dk_at dksX2_nextToken_12 9 rfl rfl)
theorem dX2_nextToken_292 : decode cX2_nextToken 292 = .ok (.iconst 4, 1) := dk_7 (dk_at dksX2_nextToken_12 12 rfl rfl)
theorem dX2_nextToken_293 : decode cX2_nextToken 293 = .ok (.goto 4, 3) := dk_167 0 4 (dk_at dksX2_nextToken_12 13 rfl rfl)
theorem dX2_nextToken_296 : decode cX2_nextToken 296 = .ok (.iconst 5, 1) := dk_8 (dk_at dksX2_nextToken_12 16 rfl rfl)
theorem dX2_nextToken_297 : decode cX2_nextToken 297 = .ok (.putfield 115, 3) := dk_181 0 115 (dk_at dksX2_nextToken_12 17 rfl rfl)
theorem dX2_nextToken_300 : decode cX2_nextToken 300 = .ok (.aload_n 0, 1) := dk_42 (dk_at dksX2_nextToken_12 20 rfl rfl)
theorem dX2_nextToken_301 : decode cX2_nextToken 301 = .ok (.dup, 1) := dk_89 (dk_at dksX2_nextToken_12 21 rfl rfl)
theorem dX2_nextToken_302 : decode cX2_nextToken 302 = .ok (.getfield 106, 3) := dk_180 0 106 (dk_at dksX2_nextToken_13 0 rfl rfl)
theorem dX2_nextToken_305 : decode cX2_nextToken 305 = .ok (.iconst 1, 1) := dk_4 (dk_at dksX2_nextToken_13 3 rfl rfl)
theorem dX2_nextToken_306 : decode cX2_nextToken 306 = .ok (.iadd, 1) := dk_96 (dk_at dksX2_nextToken_13 4 rfl rfl)
theorem dX2_nextToken_307 : decode cX2_nextToken 307 = .ok (.putfield 106, 3) := dk_181 0 106 (dk_at dksX2_nextToken_13 5 rfl rfl)
theorem dX2_nextToken_310 : decode cX2_nextToken 310 = .ok (.return_, 1) := dk_177 (dk_at dksX2_nextToken_13 8 rfl rfl)
abbrev cX2_byteAt : ByteArray := prog_20_method_24_code
def yX2_byteAt : MethodName := ⟨RX2, "byteAt", "(I)I"⟩
def dkwX2_byteAt_0 : List UInt8 := [27, 42, 180, 0, 99, 162, 0, 12, 42, 180, 0, 19, 27, 46, 167, 0, 4, 2, 172]
abbrev dktX2_byteAt_0 : List UInt8 := dkwX2_byteAt_0 ++ []
theorem dksX2_byteAt_0 : cX2_byteAt.data.toList.drop 0 = dktX2_byteAt_0 := by decide +kernel
theorem dX2_byteAt_0 : decode cX2_byteAt 0 = .ok (.iload_n 1, 1) := dk_27 (dk_at dksX2_byteAt_0 0 rfl rfl)
theorem dX2_byteAt_1 : decode cX2_byteAt 1 = .ok (.aload_n 0, 1) := dk_42 (dk_at dksX2_byteAt_0 1 rfl rfl)
theorem dX2_byteAt_2 : decode cX2_byteAt 2 = .ok (.getfield 99, 3) := dk_180 0 99 (dk_at dksX2_byteAt_0 2 rfl rfl)
theorem dX2_byteAt_5 : decode cX2_byteAt 5 = .ok (.if_icmp .ge 12, 3) := dk_162 0 12 (dk_at dksX2_byteAt_0 5 rfl rfl)
theorem dX2_byteAt_8 : decode cX2_byteAt 8 = .ok (.aload_n 0, 1) := dk_42 (dk_at dksX2_byteAt_0 8 rfl rfl)
theorem dX2_byteAt_9 : decode cX2_byteAt 9 = .ok (.getfield 19, 3) := dk_180 0 19 (dk_at dksX2_byteAt_0 9 rfl rfl)
theorem dX2_byteAt_12 : decode cX2_byteAt 12 = .ok (.iload_n 1, 1) := dk_27 (dk_at dksX2_byteAt_0 12 rfl rfl)
theorem dX2_byteAt_13 : decode cX2_byteAt 13 = .ok (.iaload, 1) := dk_46 (dk_at dksX2_byteAt_0 13 rfl rfl)
theorem dX2_byteAt_14 : decode cX2_byteAt 14 = .ok (.goto 4, 3) := dk_167 0 4 (dk_at dksX2_byteAt_0 14 rfl rfl)
theorem dX2_byteAt_17 : decode cX2_byteAt 17 = .ok (.iconst (-1), 1) := dk_2 (dk_at dksX2_byteAt_0 17 rfl rfl)
theorem dX2_byteAt_18 : decode cX2_byteAt 18 = .ok (.ireturn, 1) := dk_172 (dk_at dksX2_byteAt_0 18 rfl rfl)
abbrev cX2_isFigure : ByteArray := prog_20_method_26_code
def yX2_isFigure : MethodName := ⟨RX2, "isFigure", "(I)Z"⟩
def dkwX2_isFigure_0 : List UInt8 := [26, 16, 48, 161, 0, 13, 26, 16, 57, 163, 0, 7, 4, 167, 0, 4, 3, 172]
abbrev dktX2_isFigure_0 : List UInt8 := dkwX2_isFigure_0 ++ []
theorem dksX2_isFigure_0 : cX2_isFigure.data.toList.drop 0 = dktX2_isFigure_0 := by decide +kernel
theorem dX2_isFigure_0 : decode cX2_isFigure 0 = .ok (.iload_n 0, 1) := dk_26 (dk_at dksX2_isFigure_0 0 rfl rfl)
theorem dX2_isFigure_1 : decode cX2_isFigure 1 = .ok (.bipush 48, 2) := dk_16 48 (dk_at dksX2_isFigure_0 1 rfl rfl)
theorem dX2_isFigure_3 : decode cX2_isFigure 3 = .ok (.if_icmp .lt 13, 3) := dk_161 0 13 (dk_at dksX2_isFigure_0 3 rfl rfl)
theorem dX2_isFigure_6 : decode cX2_isFigure 6 = .ok (.iload_n 0, 1) := dk_26 (dk_at dksX2_isFigure_0 6 rfl rfl)
theorem dX2_isFigure_7 : decode cX2_isFigure 7 = .ok (.bipush 57, 2) := dk_16 57 (dk_at dksX2_isFigure_0 7 rfl rfl)
theorem dX2_isFigure_9 : decode cX2_isFigure 9 = .ok (.if_icmp .gt 7, 3) := dk_163 0 7 (dk_at dksX2_isFigure_0 9 rfl rfl)
theorem dX2_isFigure_12 : decode cX2_isFigure 12 = .ok (.iconst 1, 1) := dk_4 (dk_at dksX2_isFigure_0 12 rfl rfl)
theorem dX2_isFigure_13 : decode cX2_isFigure 13 = .ok (.goto 4, 3) := dk_167 0 4 (dk_at dksX2_isFigure_0 13 rfl rfl)
theorem dX2_isFigure_16 : decode cX2_isFigure 16 = .ok (.iconst 0, 1) := dk_3 (dk_at dksX2_isFigure_0 16 rfl rfl)
theorem dX2_isFigure_17 : decode cX2_isFigure 17 = .ok (.ireturn, 1) := dk_172 (dk_at dksX2_isFigure_0 17 rfl rfl)
abbrev cX2_isLetterByte : ByteArray := prog_20_method_25_code
def yX2_isLetterByte : MethodName := ⟨RX2, "isLetterByte", "(I)Z"⟩
def dkwX2_isLetterByte_1 : List UInt8 := [4, 167, 0, 4, 3, 172]
abbrev dktX2_isLetterByte_1 : List UInt8 := dkwX2_isLetterByte_1 ++ []
def dkwX2_isLetterByte_0 : List UInt8 := [26, 16, 97, 161, 0, 9, 26, 16, 122, 164, 0, 15, 26, 16, 65, 161, 0, 13, 26, 16, 90, 163, 0, 7]
abbrev dktX2_isLetterByte_0 : List UInt8 := dkwX2_isLetterByte_0 ++ dktX2_isLetterByte_1
theorem dksX2_isLetterByte_0 : cX2_isLetterByte.data.toList.drop 0 = dktX2_isLetterByte_0 := by decide +kernel
theorem dksX2_isLetterByte_1 : cX2_isLetterByte.data.toList.drop 24 = dktX2_isLetterByte_1 := dk_seg dksX2_isLetterByte_0 24 rfl rfl
theorem dX2_isLetterByte_0 : decode cX2_isLetterByte 0 = .ok (.iload_n 0, 1) := dk_26 (dk_at dksX2_isLetterByte_0 0 rfl rfl)
theorem dX2_isLetterByte_1 : decode cX2_isLetterByte 1 = .ok (.bipush 97, 2) := dk_16 97 (dk_at dksX2_isLetterByte_0 1 rfl rfl)
theorem dX2_isLetterByte_3 : decode cX2_isLetterByte 3 = .ok (.if_icmp .lt 9, 3) := dk_161 0 9 (dk_at dksX2_isLetterByte_0 3 rfl rfl)
theorem dX2_isLetterByte_6 : decode cX2_isLetterByte 6 = .ok (.iload_n 0, 1) := dk_26 (dk_at dksX2_isLetterByte_0 6 rfl rfl)
theorem dX2_isLetterByte_7 : decode cX2_isLetterByte 7 = .ok (.bipush 122, 2) := dk_16 122 (dk_at dksX2_isLetterByte_0 7 rfl rfl)
theorem dX2_isLetterByte_9 : decode cX2_isLetterByte 9 = .ok (.if_icmp .le 15, 3) := dk_164 0 15 (dk_at dksX2_isLetterByte_0 9 rfl rfl)
theorem dX2_isLetterByte_12 : decode cX2_isLetterByte 12 = .ok (.iload_n 0, 1) := dk_26 (dk_at dksX2_isLetterByte_0 12 rfl rfl)
theorem dX2_isLetterByte_13 : decode cX2_isLetterByte 13 = .ok (.bipush 65, 2) := dk_16 65 (dk_at dksX2_isLetterByte_0 13 rfl rfl)
theorem dX2_isLetterByte_15 : decode cX2_isLetterByte 15 = .ok (.if_icmp .lt 13, 3) := dk_161 0 13 (dk_at dksX2_isLetterByte_0 15 rfl rfl)
theorem dX2_isLetterByte_18 : decode cX2_isLetterByte 18 = .ok (.iload_n 0, 1) := dk_26 (dk_at dksX2_isLetterByte_0 18 rfl rfl)
theorem dX2_isLetterByte_19 : decode cX2_isLetterByte 19 = .ok (.bipush 90, 2) := dk_16 90 (dk_at dksX2_isLetterByte_0 19 rfl rfl)
theorem dX2_isLetterByte_21 : decode cX2_isLetterByte 21 = .ok (.if_icmp .gt 7, 3) := dk_163 0 7 (dk_at dksX2_isLetterByte_0 21 rfl rfl)
theorem dX2_isLetterByte_24 : decode cX2_isLetterByte 24 = .ok (.iconst 1, 1) := dk_4 (dk_at dksX2_isLetterByte_1 0 rfl rfl)
theorem dX2_isLetterByte_25 : decode cX2_isLetterByte 25 = .ok (.goto 4, 3) := dk_167 0 4 (dk_at dksX2_isLetterByte_1 1 rfl rfl)
theorem dX2_isLetterByte_28 : decode cX2_isLetterByte 28 = .ok (.iconst 0, 1) := dk_3 (dk_at dksX2_isLetterByte_1 4 rfl rfl)
theorem dX2_isLetterByte_29 : decode cX2_isLetterByte 29 = .ok (.ireturn, 1) := dk_172 (dk_at dksX2_isLetterByte_1 5 rfl rfl)
abbrev cX2_isSign : ByteArray := prog_20_method_27_code
def yX2_isSign : MethodName := ⟨RX2, "isSign", "(I)Z"⟩
def dkwX2_isSign_2 : List UInt8 := [4, 172, 3, 172]
abbrev dktX2_isSign_2 : List UInt8 := dkwX2_isSign_2 ++ []
def dkwX2_isSign_1 : List UInt8 := [170, 0, 0, 0, 0, 0, 129, 0, 0, 0, 35, 0, 0, 0, 62, 0, 0, 0, 127, 0, 0, 0, 129, 0, 0, 0, 129, 0, 0, 0, 129, 0, 0, 0, 129, 0, 0, 0, 127, 0, 0, 0, 127, 0, 0, 0, 127, 0, 0, 0, 127, 0, 0, 0, 129, 0, 0, 0, 127, 0, 0, 0, 129, 0, 0, 0, 127, 0, 0, 0, 129, 0, 0, 0, 129, 0, 0, 0, 129, 0, 0, 0, 129, 0, 0, 0, 129, 0, 0, 0, 129, 0, 0, 0, 129, 0, 0, 0, 129, 0, 0, 0, 129, 0, 0, 0, 129, 0, 0, 0, 127, 0, 0, 0, 127, 0, 0, 0, 127, 0, 0, 0, 127, 0, 0, 0, 127]
abbrev dktX2_isSign_1 : List UInt8 := dkwX2_isSign_1 ++ dktX2_isSign_2
def dkwX2_isSign_0 : List UInt8 := [26]
abbrev dktX2_isSign_0 : List UInt8 := dkwX2_isSign_0 ++ dktX2_isSign_1
theorem dksX2_isSign_0 : cX2_isSign.data.toList.drop 0 = dktX2_isSign_0 := by decide +kernel
theorem dksX2_isSign_1 : cX2_isSign.data.toList.drop 1 = dktX2_isSign_1 := dk_seg dksX2_isSign_0 1 rfl rfl
theorem dksX2_isSign_2 : cX2_isSign.data.toList.drop 128 = dktX2_isSign_2 := dk_seg dksX2_isSign_1 127 rfl rfl
theorem dX2_isSign_0 : decode cX2_isSign 0 = .ok (.iload_n 0, 1) := dk_26 (dk_at dksX2_isSign_0 0 rfl rfl)
theorem dX2_isSign_1 : decode cX2_isSign 1 = .ok (.tableswitch 129 35 62 #[127, 129, 129, 129, 129, 127, 127, 127, 127, 129, 127, 129, 127, 129, 129, 129, 129, 129, 129, 129, 129, 129, 129, 127, 127, 127, 127, 127], 127) := by decide +kernel
theorem dX2_isSign_128 : decode cX2_isSign 128 = .ok (.iconst 1, 1) := dk_4 (dk_at dksX2_isSign_2 0 rfl rfl)
theorem dX2_isSign_129 : decode cX2_isSign 129 = .ok (.ireturn, 1) := dk_172 (dk_at dksX2_isSign_2 1 rfl rfl)
theorem dX2_isSign_130 : decode cX2_isSign 130 = .ok (.iconst 0, 1) := dk_3 (dk_at dksX2_isSign_2 2 rfl rfl)
theorem dX2_isSign_131 : decode cX2_isSign 131 = .ok (.ireturn, 1) := dk_172 (dk_at dksX2_isSign_2 3 rfl rfl)
abbrev cX2_clause : ByteArray := prog_20_method_60_code
def yX2_clause : MethodName := ⟨RX2, "clause", "()I"⟩
def dkwX2_clause_7 : List UInt8 := [182, 0, 189, 3, 172]
abbrev dktX2_clause_7 : List UInt8 := dkwX2_clause_7 ++ []
def dkwX2_clause_6 : List UInt8 := [180, 0, 16, 42, 180, 0, 153, 92, 46, 4, 96, 79, 42, 180, 0, 115, 16, 59, 159, 0, 5, 4, 172, 42]
abbrev dktX2_clause_6 : List UInt8 := dkwX2_clause_6 ++ dktX2_clause_7
def dkwX2_clause_5 : List UInt8 := [180, 0, 16, 29, 27, 79, 42, 27, 29, 182, 1, 10, 54, 4, 21, 4, 153, 0, 6, 21, 4, 172, 42]
abbrev dktX2_clause_5 : List UInt8 := dkwX2_clause_5 ++ dktX2_clause_6
def dkwX2_clause_4 : List UInt8 := [181, 1, 7, 42, 27, 181, 0, 163, 42, 182, 0, 189, 42, 180, 0, 153, 4, 96, 7, 28, 104, 96, 62, 42]
abbrev dktX2_clause_4 : List UInt8 := dkwX2_clause_4 ++ dktX2_clause_5
def dkwX2_clause_3 : List UInt8 := [167, 0, 4, 3, 128, 181, 1, 4, 42, 89, 180, 1, 7, 27, 4, 160, 0, 7, 4, 167, 0, 4, 3, 96]
abbrev dktX2_clause_3 : List UInt8 := dkwX2_clause_3 ++ dktX2_clause_4
def dkwX2_clause_2 : List UInt8 := [42, 180, 1, 7, 16, 8, 160, 0, 6, 16, 7, 172, 42, 89, 180, 1, 4, 27, 154, 0, 7, 4]
abbrev dktX2_clause_2 : List UInt8 := dkwX2_clause_2 ++ dktX2_clause_3
def dkwX2_clause_1 : List UInt8 := [42, 180, 0, 16, 42, 180, 0, 153, 46, 61, 28, 16, 24, 160, 0, 6, 16, 6, 172, 27, 4, 160, 0, 15]
abbrev dktX2_clause_1 : List UInt8 := dkwX2_clause_1 ++ dktX2_clause_2
def dkwX2_clause_0 : List UInt8 := [42, 182, 1, 1, 60, 27, 156, 0, 5, 4, 172, 27, 154, 0, 12, 42, 180, 1, 4, 153, 0, 5, 7, 172]
abbrev dktX2_clause_0 : List UInt8 := dkwX2_clause_0 ++ dktX2_clause_1
theorem dksX2_clause_0 : cX2_clause.data.toList.drop 0 = dktX2_clause_0 := by decide +kernel
theorem dksX2_clause_1 : cX2_clause.data.toList.drop 24 = dktX2_clause_1 := dk_seg dksX2_clause_0 24 rfl rfl
theorem dksX2_clause_2 : cX2_clause.data.toList.drop 48 = dktX2_clause_2 := dk_seg dksX2_clause_1 24 rfl rfl
theorem dksX2_clause_3 : cX2_clause.data.toList.drop 70 = dktX2_clause_3 := dk_seg dksX2_clause_2 22 rfl rfl
theorem dksX2_clause_4 : cX2_clause.data.toList.drop 94 = dktX2_clause_4 := dk_seg dksX2_clause_3 24 rfl rfl
theorem dksX2_clause_5 : cX2_clause.data.toList.drop 118 = dktX2_clause_5 := dk_seg dksX2_clause_4 24 rfl rfl
theorem dksX2_clause_6 : cX2_clause.data.toList.drop 141 = dktX2_clause_6 := dk_seg dksX2_clause_5 23 rfl rfl
theorem dksX2_clause_7 : cX2_clause.data.toList.drop 165 = dktX2_clause_7 := dk_seg dksX2_clause_6 24 rfl rfl
theorem dX2_clause_0 : decode cX2_clause 0 = .ok (.aload_n 0, 1) := dk_42 (dk_at dksX2_clause_0 0 rfl rfl)
theorem dX2_clause_1 : decode cX2_clause 1 = .ok (.invokevirtual 257, 3) := dk_182 1 1 (dk_at dksX2_clause_0 1 rfl rfl)
theorem dX2_clause_4 : decode cX2_clause 4 = .ok (.istore_n 1, 1) := dk_60 (dk_at dksX2_clause_0 4 rfl rfl)
theorem dX2_clause_5 : decode cX2_clause 5 = .ok (.iload_n 1, 1) := dk_27 (dk_at dksX2_clause_0 5 rfl rfl)
theorem dX2_clause_6 : decode cX2_clause 6 = .ok (.ifCond .ge 5, 3) := dk_156 0 5 (dk_at dksX2_clause_0 6 rfl rfl)
theorem dX2_clause_9 : decode cX2_clause 9 = .ok (.iconst 1, 1) := dk_4 (dk_at dksX2_clause_0 9 rfl rfl)
theorem dX2_clause_10 : decode cX2_clause 10 = .ok (.ireturn, 1) := dk_172 (dk_at dksX2_clause_0 10 rfl rfl)
theorem dX2_clause_11 : decode cX2_clause 11 = .ok (.iload_n 1, 1) := dk_27 (dk_at dksX2_clause_0 11 rfl rfl)
theorem dX2_clause_12 : decode cX2_clause 12 = .ok (.ifCond .ne 12, 3) := dk_154 0 12 (dk_at dksX2_clause_0 12 rfl rfl)
theorem dX2_clause_15 : decode cX2_clause 15 = .ok (.aload_n 0, 1) := dk_42 (dk_at dksX2_clause_0 15 rfl rfl)
theorem dX2_clause_16 : decode cX2_clause 16 = .ok (.getfield 260, 3) := dk_180 1 4 (dk_at dksX2_clause_0 16 rfl rfl)
theorem dX2_clause_19 : decode cX2_clause 19 = .ok (.ifCond .eq 5, 3) := dk_153 0 5 (dk_at dksX2_clause_0 19 rfl rfl)
theorem dX2_clause_22 : decode cX2_clause 22 = .ok (.iconst 4, 1) := dk_7 (dk_at dksX2_clause_0 22 rfl rfl)
theorem dX2_clause_23 : decode cX2_clause 23 = .ok (.ireturn, 1) := dk_172 (dk_at dksX2_clause_0 23 rfl rfl)
theorem dX2_clause_24 : decode cX2_clause 24 = .ok (.aload_n 0, 1) := dk_42 (dk_at dksX2_clause_1 0 rfl rfl)
theorem dX2_clause_25 : decode cX2_clause 25 = .ok (.getfield 16, 3) := dk_180 0 16 (dk_at dksX2_clause_1 1 rfl rfl)
theorem dX2_clause_28 : decode cX2_clause 28 = .ok (.aload_n 0, 1) := dk_42 (dk_at dksX2_clause_1 4 rfl rfl)
theorem dX2_clause_29 : decode cX2_clause 29 = .ok (.getfield 153, 3) := dk_180 0 153 (dk_at dksX2_clause_1 5 rfl rfl)
theorem dX2_clause_32 : decode cX2_clause 32 = .ok (.iaload, 1) := dk_46 (dk_at dksX2_clause_1 8 rfl rfl)
theorem dX2_clause_33 : decode cX2_clause 33 = .ok (.istore_n 2, 1) := dk_61 (dk_at dksX2_clause_1 9 rfl rfl)
theorem dX2_clause_34 : decode cX2_clause 34 = .ok (.iload_n 2, 1) := dk_28 (dk_at dksX2_clause_1 10 rfl rfl)
theorem dX2_clause_35 : decode cX2_clause 35 = .ok (.bipush 24, 2) := dk_16 24 (dk_at dksX2_clause_1 11 rfl rfl)
theorem dX2_clause_37 : decode cX2_clause 37 = .ok (.if_icmp .ne 6, 3) := dk_160 0 6 (dk_at dksX2_clause_1 13 rfl rfl)
theorem dX2_clause_40 : decode cX2_clause 40 = .ok (.bipush 6, 2) := dk_16 6 (dk_at dksX2_clause_1 16 rfl rfl)
theorem dX2_clause_42 : decode cX2_clause 42 = .ok (.ireturn, 1) := dk_172 (dk_at dksX2_clause_1 18 rfl rfl)
theorem dX2_clause_43 : decode cX2_clause 43 = .ok (.iload_n 1, 1) := dk_27 (dk_at dksX2_clause_1 19 rfl rfl)
theorem dX2_clause_44 : decode cX2_clause 44 = .ok (.iconst 1, 1) := dk_4 (dk_at dksX2_clause_1 20 rfl rfl)
theorem dX2_clause_45 : decode cX2_clause 45 = .ok (.if_icmp .ne 15, 3) := dk_160 0 15 (dk_at dksX2_clause_1 21 rfl rfl)
theorem dX2_clause_48 : decode cX2_clause 48 = .ok (.aload_n 0, 1) := dk_42 (dk_at dksX2_clause_2 0 rfl rfl)
theorem dX2_clause_49 : decode cX2_clause 49 = .ok (.getfield 263, 3) := dk_180 1 7 (dk_at dksX2_clause_2 1 rfl rfl)
theorem dX2_clause_52 : decode cX2_clause 52 = .ok (.bipush 8, 2) := dk_16 8 (dk_at dksX2_clause_2 4 rfl rfl)
theorem dX2_clause_54 : decode cX2_clause 54 = .ok (.if_icmp .ne 6, 3) := dk_160 0 6 (dk_at dksX2_clause_2 6 rfl rfl)
theorem dX2_clause_57 : decode cX2_clause 57 = .ok (.bipush 7, 2) := dk_16 7 (dk_at dksX2_clause_2 9 rfl rfl)
theorem dX2_clause_59 : decode cX2_clause 59 = .ok (.ireturn, 1) := dk_172 (dk_at dksX2_clause_2 11 rfl rfl)
theorem dX2_clause_60 : decode cX2_clause 60 = .ok (.aload_n 0, 1) := dk_42 (dk_at dksX2_clause_2 12 rfl rfl)
theorem dX2_clause_61 : decode cX2_clause 61 = .ok (.dup, 1) := dk_89 (dk_at dksX2_clause_2 13 rfl rfl)
theorem dX2_clause_62 : decode cX2_clause 62 = .ok (.getfield 260, 3) := dk_180 1 4 (dk_at dksX2_clause_2 14 rfl rfl)
theorem dX2_clause_65 : decode cX2_clause 65 = .ok (.iload_n 1, 1) := dk_27 (dk_at dksX2_clause_2 17 rfl rfl)
theorem dX2_clause_66 : decode cX2_clause 66 = .ok (.ifCond .ne 7, 3) := dk_154 0 7 (dk_at dksX2_clause_2 18 rfl rfl)
theorem dX2_clause_69 : decode cX2_clause 69 = .ok (.iconst 1, 1) := dk_4 (dk_at dksX2_clause_2 21 rfl rfl)
theorem dX2_clause_70 : decode cX2_clause 70 = .ok (.goto 4, 3) := dk_167 0 4 (dk_at dksX2_clause_3 0 rfl rfl)
theorem dX2_clause_73 : decode cX2_clause 73 = .ok (.iconst 0, 1) := dk_3 (dk_at dksX2_clause_3 3 rfl rfl)
theorem dX2_clause_74 : decode cX2_clause 74 = .ok (.ior, 1) := dk_128 (dk_at dksX2_clause_3 4 rfl rfl)
theorem dX2_clause_75 : decode cX2_clause 75 = .ok (.putfield 260, 3) := dk_181 1 4 (dk_at dksX2_clause_3 5 rfl rfl)
theorem dX2_clause_78 : decode cX2_clause 78 = .ok (.aload_n 0, 1) := dk_42 (dk_at dksX2_clause_3 8 rfl rfl)
theorem dX2_clause_79 : decode cX2_clause 79 = .ok (.dup, 1) := dk_89 (dk_at dksX2_clause_3 9 rfl rfl)
theorem dX2_clause_80 : decode cX2_clause 80 = .ok (.getfield 263, 3) := dk_180 1 7 (dk_at dksX2_clause_3 10 rfl rfl)
theorem dX2_clause_83 : decode cX2_clause 83 = .ok (.iload_n 1, 1) := dk_27 (dk_at dksX2_clause_3 13 rfl rfl)
theorem dX2_clause_84 : decode cX2_clause 84 = .ok (.iconst 1, 1) := dk_4 (dk_at dksX2_clause_3 14 rfl rfl)
theorem dX2_clause_85 : decode cX2_clause 85 = .ok (.if_icmp .ne 7, 3) := dk_160 0 7 (dk_at dksX2_clause_3 15 rfl rfl)
theorem dX2_clause_88 : decode cX2_clause 88 = .ok (.iconst 1, 1) := dk_4 (dk_at dksX2_clause_3 18 rfl rfl)
theorem dX2_clause_89 : decode cX2_clause 89 = .ok (.goto 4, 3) := dk_167 0 4 (dk_at dksX2_clause_3 19 rfl rfl)
theorem dX2_clause_92 : decode cX2_clause 92 = .ok (.iconst 0, 1) := dk_3 (dk_at dksX2_clause_3 22 rfl rfl)
theorem dX2_clause_93 : decode cX2_clause 93 = .ok (.iadd, 1) := dk_96 (dk_at dksX2_clause_3 23 rfl rfl)
theorem dX2_clause_94 : decode cX2_clause 94 = .ok (.putfield 263, 3) := dk_181 1 7 (dk_at dksX2_clause_4 0 rfl rfl)
theorem dX2_clause_97 : decode cX2_clause 97 = .ok (.aload_n 0, 1) := dk_42 (dk_at dksX2_clause_4 3 rfl rfl)
theorem dX2_clause_98 : decode cX2_clause 98 = .ok (.iload_n 1, 1) := dk_27 (dk_at dksX2_clause_4 4 rfl rfl)
theorem dX2_clause_99 : decode cX2_clause 99 = .ok (.putfield 163, 3) := dk_181 0 163 (dk_at dksX2_clause_4 5 rfl rfl)
theorem dX2_clause_102 : decode cX2_clause 102 = .ok (.aload_n 0, 1) := dk_42 (dk_at dksX2_clause_4 8 rfl rfl)
theorem dX2_clause_103 : decode cX2_clause 103 = .ok (.invokevirtual 189, 3) := dk_182 0 189 (dk_at dksX2_clause_4 9 rfl rfl)
theorem dX2_clause_106 : decode cX2_clause 106 = .ok (.aload_n 0, 1) := dk_42 (dk_at dksX2_clause_4 12 rfl rfl)
theorem dX2_clause_107 : decode cX2_clause 107 = .ok (.getfield 153, 3) := dk_180 0 153 (dk_at dksX2_clause_4 13 rfl rfl)
theorem dX2_clause_110 : decode cX2_clause 110 = .ok (.iconst 1, 1) := dk_4 (dk_at dksX2_clause_4 16 rfl rfl)
theorem dX2_clause_111 : decode cX2_clause 111 = .ok (.iadd, 1) := dk_96 (dk_at dksX2_clause_4 17 rfl rfl)
theorem dX2_clause_112 : decode cX2_clause 112 = .ok (.iconst 4, 1) := dk_7 (dk_at dksX2_clause_4 18 rfl rfl)
theorem dX2_clause_113 : decode cX2_clause 113 = .ok (.iload_n 2, 1) := dk_28 (dk_at dksX2_clause_4 19 rfl rfl)
theorem dX2_clause_114 : decode cX2_clause 114 = .ok (.imul, 1) := dk_104 (dk_at dksX2_clause_4 20 rfl rfl)
theorem dX2_clause_115 : decode cX2_clause 115 = .ok (.iadd, 1) := dk_96 (dk_at dksX2_clause_4 21 rfl rfl)
theorem dX2_clause_116 : decode cX2_clause 116 = .ok (.istore_n 3, 1) := dk_62 (dk_at dksX2_clause_4 22 rfl rfl)
theorem dX2_clause_117 : decode cX2_clause 117 = .ok (.aload_n 0, 1) := dk_42 (dk_at dksX2_clause_4 23 rfl rfl)
theorem dX2_clause_118 : decode cX2_clause 118 = .ok (.getfield 16, 3) := dk_180 0 16 (dk_at dksX2_clause_5 0 rfl rfl)
theorem dX2_clause_121 : decode cX2_clause 121 = .ok (.iload_n 3, 1) := dk_29 (dk_at dksX2_clause_5 3 rfl rfl)
theorem dX2_clause_122 : decode cX2_clause 122 = .ok (.iload_n 1, 1) := dk_27 (dk_at dksX2_clause_5 4 rfl rfl)
theorem dX2_clause_123 : decode cX2_clause 123 = .ok (.iastore, 1) := dk_79 (dk_at dksX2_clause_5 5 rfl rfl)
theorem dX2_clause_124 : decode cX2_clause 124 = .ok (.aload_n 0, 1) := dk_42 (dk_at dksX2_clause_5 6 rfl rfl)
theorem dX2_clause_125 : decode cX2_clause 125 = .ok (.iload_n 1, 1) := dk_27 (dk_at dksX2_clause_5 7 rfl rfl)
theorem dX2_clause_126 : decode cX2_clause 126 = .ok (.iload_n 3, 1) := dk_29 (dk_at dksX2_clause_5 8 rfl rfl)
theorem dX2_clause_127 : decode cX2_clause 127 = .ok (.invokevirtual 266, 3) := dk_182 1 10 (dk_at dksX2_clause_5 9 rfl rfl)
theorem dX2_clause_130 : decode cX2_clause 130 = .ok (.istore 4, 2) := dk_54 4 (dk_at dksX2_clause_5 12 rfl rfl)
theorem dX2_clause_132 : decode cX2_clause 132 = .ok (.iload 4, 2) := dk_21 4 (dk_at dksX2_clause_5 14 rfl rfl)
theorem dX2_clause_134 : decode cX2_clause 134 = .ok (.ifCond .eq 6, 3) := dk_153 0 6 (dk_at dksX2_clause_5 16 rfl rfl)
theorem dX2_clause_137 : decode cX2_clause 137 = .ok (.iload 4, 2) := dk_21 4 (dk_at dksX2_clause_5 19 rfl rfl)
theorem dX2_clause_139 : decode cX2_clause 139 = .ok (.ireturn, 1) := dk_172 (dk_at dksX2_clause_5 21 rfl rfl)
theorem dX2_clause_140 : decode cX2_clause 140 = .ok (.aload_n 0, 1) := dk_42 (dk_at dksX2_clause_5 22 rfl rfl)
theorem dX2_clause_141 : decode cX2_clause 141 = .ok (.getfield 16, 3) := dk_180 0 16 (dk_at dksX2_clause_6 0 rfl rfl)
theorem dX2_clause_144 : decode cX2_clause 144 = .ok (.aload_n 0, 1) := dk_42 (dk_at dksX2_clause_6 3 rfl rfl)
theorem dX2_clause_145 : decode cX2_clause 145 = .ok (.getfield 153, 3) := dk_180 0 153 (dk_at dksX2_clause_6 4 rfl rfl)
theorem dX2_clause_148 : decode cX2_clause 148 = .ok (.dup2, 1) := dk_92 (dk_at dksX2_clause_6 7 rfl rfl)
theorem dX2_clause_149 : decode cX2_clause 149 = .ok (.iaload, 1) := dk_46 (dk_at dksX2_clause_6 8 rfl rfl)
theorem dX2_clause_150 : decode cX2_clause 150 = .ok (.iconst 1, 1) := dk_4 (dk_at dksX2_clause_6 9 rfl rfl)
theorem dX2_clause_151 : decode cX2_clause 151 = .ok (.iadd, 1) := dk_96 (dk_at dksX2_clause_6 10 rfl rfl)
theorem dX2_clause_152 : decode cX2_clause 152 = .ok (.iastore, 1) := dk_79 (dk_at dksX2_clause_6 11 rfl rfl)
theorem dX2_clause_153 : decode cX2_clause 153 = .ok (.aload_n 0, 1) := dk_42 (dk_at dksX2_clause_6 12 rfl rfl)
theorem dX2_clause_154 : decode cX2_clause 154 = .ok (.getfield 115, 3) := dk_180 0 115 (dk_at dksX2_clause_6 13 rfl rfl)
theorem dX2_clause_157 : decode cX2_clause 157 = .ok (.bipush 59, 2) := dk_16 59 (dk_at dksX2_clause_6 16 rfl rfl)
theorem dX2_clause_159 : decode cX2_clause 159 = .ok (.if_icmp .eq 5, 3) := dk_159 0 5 (dk_at dksX2_clause_6 18 rfl rfl)
theorem dX2_clause_162 : decode cX2_clause 162 = .ok (.iconst 1, 1) := dk_4 (dk_at dksX2_clause_6 21 rfl rfl)
theorem dX2_clause_163 : decode cX2_clause 163 = .ok (.ireturn, 1) := dk_172 (dk_at dksX2_clause_6 22 rfl rfl)
theorem dX2_clause_164 : decode cX2_clause 164 = .ok (.aload_n 0, 1) := dk_42 (dk_at dksX2_clause_6 23 rfl rfl)
theorem dX2_clause_165 : decode cX2_clause 165 = .ok (.invokevirtual 189, 3) := dk_182 0 189 (dk_at dksX2_clause_7 0 rfl rfl)
theorem dX2_clause_168 : decode cX2_clause 168 = .ok (.iconst 0, 1) := dk_3 (dk_at dksX2_clause_7 3 rfl rfl)
theorem dX2_clause_169 : decode cX2_clause 169 = .ok (.ireturn, 1) := dk_172 (dk_at dksX2_clause_7 4 rfl rfl)
abbrev cX2_sortOf : ByteArray := prog_20_method_59_code
def yX2_sortOf : MethodName := ⟨RX2, "sortOf", "()I"⟩
def dkwX2_sortOf_8 : List UInt8 := [167, 0, 4, 2, 172]
abbrev dktX2_sortOf_8 : List UInt8 := dkwX2_sortOf_8 ++ []
def dkwX2_sortOf_7 : List UInt8 := [16, 115, 16, 112, 16, 114, 16, 105, 16, 110, 16, 103, 184, 0, 159, 182, 0, 204, 153, 0, 8, 16, 8]
abbrev dktX2_sortOf_7 : List UInt8 := dkwX2_sortOf_7 ++ dktX2_sortOf_8
def dkwX2_sortOf_6 : List UInt8 := [16, 114, 16, 100, 16, 111, 16, 110, 184, 0, 159, 182, 0, 204, 153, 0, 8, 16, 7, 167, 0, 31, 42]
abbrev dktX2_sortOf_6 : List UInt8 := dkwX2_sortOf_6 ++ dktX2_sortOf_7
def dkwX2_sortOf_5 : List UInt8 := [182, 0, 204, 153, 0, 5, 8, 172, 42, 182, 0, 254, 153, 0, 6, 16, 6, 172, 42, 16, 112, 16, 97]
abbrev dktX2_sortOf_5 : List UInt8 := dkwX2_sortOf_5 ++ dktX2_sortOf_6
def dkwX2_sortOf_4 : List UInt8 := [16, 116, 184, 0, 145, 182, 0, 204, 153, 0, 5, 7, 172, 42, 16, 115, 16, 97, 16, 121, 184, 0, 141]
abbrev dktX2_sortOf_4 : List UInt8 := dkwX2_sortOf_4 ++ dktX2_sortOf_5
def dkwX2_sortOf_3 : List UInt8 := [16, 111, 16, 105, 16, 108, 184, 0, 145, 182, 0, 204, 153, 0, 5, 6, 172, 42, 16, 119, 16, 97, 16, 110]
abbrev dktX2_sortOf_3 : List UInt8 := dkwX2_sortOf_3 ++ dktX2_sortOf_4
def dkwX2_sortOf_2 : List UInt8 := [16, 97, 16, 114, 16, 109, 16, 101, 16, 114, 184, 0, 159, 182, 0, 204, 153, 0, 5, 5, 172, 42, 16, 115]
abbrev dktX2_sortOf_2 : List UInt8 := dkwX2_sortOf_2 ++ dktX2_sortOf_3
def dkwX2_sortOf_1 : List UInt8 := [16, 99, 16, 108, 16, 97, 16, 105, 16, 109, 184, 0, 149, 182, 0, 204, 153, 0, 5, 4, 172, 42, 16, 102]
abbrev dktX2_sortOf_1 : List UInt8 := dkwX2_sortOf_1 ++ dktX2_sortOf_2
def dkwX2_sortOf_0 : List UInt8 := [42, 16, 119, 16, 111, 16, 114, 16, 116, 16, 104, 184, 0, 149, 182, 0, 204, 153, 0, 5, 3, 172, 42]
abbrev dktX2_sortOf_0 : List UInt8 := dkwX2_sortOf_0 ++ dktX2_sortOf_1
theorem dksX2_sortOf_0 : cX2_sortOf.data.toList.drop 0 = dktX2_sortOf_0 := by decide +kernel
theorem dksX2_sortOf_1 : cX2_sortOf.data.toList.drop 23 = dktX2_sortOf_1 := dk_seg dksX2_sortOf_0 23 rfl rfl
theorem dksX2_sortOf_2 : cX2_sortOf.data.toList.drop 47 = dktX2_sortOf_2 := dk_seg dksX2_sortOf_1 24 rfl rfl
theorem dksX2_sortOf_3 : cX2_sortOf.data.toList.drop 71 = dktX2_sortOf_3 := dk_seg dksX2_sortOf_2 24 rfl rfl
theorem dksX2_sortOf_4 : cX2_sortOf.data.toList.drop 95 = dktX2_sortOf_4 := dk_seg dksX2_sortOf_3 24 rfl rfl
theorem dksX2_sortOf_5 : cX2_sortOf.data.toList.drop 118 = dktX2_sortOf_5 := dk_seg dksX2_sortOf_4 23 rfl rfl
theorem dksX2_sortOf_6 : cX2_sortOf.data.toList.drop 141 = dktX2_sortOf_6 := dk_seg dksX2_sortOf_5 23 rfl rfl
theorem dksX2_sortOf_7 : cX2_sortOf.data.toList.drop 164 = dktX2_sortOf_7 := dk_seg dksX2_sortOf_6 23 rfl rfl
theorem dksX2_sortOf_8 : cX2_sortOf.data.toList.drop 187 = dktX2_sortOf_8 := dk_seg dksX2_sortOf_7 23 rfl rfl
theorem dX2_sortOf_0 : decode cX2_sortOf 0 = .ok (.aload_n 0, 1) := dk_42 (dk_at dksX2_sortOf_0 0 rfl rfl)
theorem dX2_sortOf_1 : decode cX2_sortOf 1 = .ok (.bipush 119, 2) := dk_16 119 (dk_at dksX2_sortOf_0 1 rfl rfl)
theorem dX2_sortOf_3 : decode cX2_sortOf 3 = .ok (.bipush 111, 2) := dk_16 111 (dk_at dksX2_sortOf_0 3 rfl rfl)
theorem dX2_sortOf_5 : decode cX2_sortOf 5 = .ok (.bipush 114, 2) := dk_16 114 (dk_at dksX2_sortOf_0 5 rfl rfl)
theorem dX2_sortOf_7 : decode cX2_sortOf 7 = .ok (.bipush 116, 2) := dk_16 116 (dk_at dksX2_sortOf_0 7 rfl rfl)
theorem dX2_sortOf_9 : decode cX2_sortOf 9 = .ok (.bipush 104, 2) := dk_16 104 (dk_at dksX2_sortOf_0 9 rfl rfl)
theorem dX2_sortOf_11 : decode cX2_sortOf 11 = .ok (.invokestatic 149, 3) := dk_184 0 149 (dk_at dksX2_sortOf_0 11 rfl rfl)
theorem dX2_sortOf_14 : decode cX2_sortOf 14 = .ok (.invokevirtual 204, 3) := dk_182 0 204 (dk_at dksX2_sortOf_0 14 rfl rfl)
theorem dX2_sortOf_17 : decode cX2_sortOf 17 = .ok (.ifCond .eq 5, 3) := dk_153 0 5 (dk_at dksX2_sortOf_0 17 rfl rfl)
theorem dX2_sortOf_20 : decode cX2_sortOf 20 = .ok (.iconst 0, 1) := dk_3 (dk_at dksX2_sortOf_0 20 rfl rfl)
theorem dX2_sortOf_21 : decode cX2_sortOf 21 = .ok (.ireturn, 1) := dk_172 (dk_at dksX2_sortOf_0 21 rfl rfl)
theorem dX2_sortOf_22 : decode cX2_sortOf 22 = .ok (.aload_n 0, 1) := dk_42 (dk_at dksX2_sortOf_0 22 rfl rfl)
theorem dX2_sortOf_23 : decode cX2_sortOf 23 = .ok (.bipush 99, 2) := dk_16 99 (dk_at dksX2_sortOf_1 0 rfl rfl)
theorem dX2_sortOf_25 : decode cX2_sortOf 25 = .ok (.bipush 108, 2) := dk_16 108 (dk_at dksX2_sortOf_1 2 rfl rfl)
theorem dX2_sortOf_27 : decode cX2_sortOf 27 = .ok (.bipush 97, 2) := dk_16 97 (dk_at dksX2_sortOf_1 4 rfl rfl)
theorem dX2_sortOf_29 : decode cX2_sortOf 29 = .ok (.bipush 105, 2) := dk_16 105 (dk_at dksX2_sortOf_1 6 rfl rfl)
theorem dX2_sortOf_31 : decode cX2_sortOf 31 = .ok (.bipush 109, 2) := dk_16 109 (dk_at dksX2_sortOf_1 8 rfl rfl)
theorem dX2_sortOf_33 : decode cX2_sortOf 33 = .ok (.invokestatic 149, 3) := dk_184 0 149 (dk_at dksX2_sortOf_1 10 rfl rfl)
theorem dX2_sortOf_36 : decode cX2_sortOf 36 = .ok (.invokevirtual 204, 3) := dk_182 0 204 (dk_at dksX2_sortOf_1 13 rfl rfl)
theorem dX2_sortOf_39 : decode cX2_sortOf 39 = .ok (.ifCond .eq 5, 3) := dk_153 0 5 (dk_at dksX2_sortOf_1 16 rfl rfl)
theorem dX2_sortOf_42 : decode cX2_sortOf 42 = .ok (.iconst 1, 1) := dk_4 (dk_at dksX2_sortOf_1 19 rfl rfl)
theorem dX2_sortOf_43 : decode cX2_sortOf 43 = .ok (.ireturn, 1) := dk_172 (dk_at dksX2_sortOf_1 20 rfl rfl)
theorem dX2_sortOf_44 : decode cX2_sortOf 44 = .ok (.aload_n 0, 1) := dk_42 (dk_at dksX2_sortOf_1 21 rfl rfl)
theorem dX2_sortOf_45 : decode cX2_sortOf 45 = .ok (.bipush 102, 2) := dk_16 102 (dk_at dksX2_sortOf_1 22 rfl rfl)
theorem dX2_sortOf_47 : decode cX2_sortOf 47 = .ok (.bipush 97, 2) := dk_16 97 (dk_at dksX2_sortOf_2 0 rfl rfl)
theorem dX2_sortOf_49 : decode cX2_sortOf 49 = .ok (.bipush 114, 2) := dk_16 114 (dk_at dksX2_sortOf_2 2 rfl rfl)
theorem dX2_sortOf_51 : decode cX2_sortOf 51 = .ok (.bipush 109, 2) := dk_16 109 (dk_at dksX2_sortOf_2 4 rfl rfl)
theorem dX2_sortOf_53 : decode cX2_sortOf 53 = .ok (.bipush 101, 2) := dk_16 101 (dk_at dksX2_sortOf_2 6 rfl rfl)
theorem dX2_sortOf_55 : decode cX2_sortOf 55 = .ok (.bipush 114, 2) := dk_16 114 (dk_at dksX2_sortOf_2 8 rfl rfl)
theorem dX2_sortOf_57 : decode cX2_sortOf 57 = .ok (.invokestatic 159, 3) := dk_184 0 159 (dk_at dksX2_sortOf_2 10 rfl rfl)
theorem dX2_sortOf_60 : decode cX2_sortOf 60 = .ok (.invokevirtual 204, 3) := dk_182 0 204 (dk_at dksX2_sortOf_2 13 rfl rfl)
theorem dX2_sortOf_63 : decode cX2_sortOf 63 = .ok (.ifCond .eq 5, 3) := dk_153 0 5 (dk_at dksX2_sortOf_2 16 rfl rfl)
theorem dX2_sortOf_66 : decode cX2_sortOf 66 = .ok (.iconst 2, 1) := dk_5 (dk_at dksX2_sortOf_2 19 rfl rfl)
theorem dX2_sortOf_67 : decode cX2_sortOf 67 = .ok (.ireturn, 1) := dk_172 (dk_at dksX2_sortOf_2 20 rfl rfl)
theorem dX2_sortOf_68 : decode cX2_sortOf 68 = .ok (.aload_n 0, 1) := dk_42 (dk_at dksX2_sortOf_2 21 rfl rfl)
theorem dX2_sortOf_69 : decode cX2_sortOf 69 = .ok (.bipush 115, 2) := dk_16 115 (dk_at dksX2_sortOf_2 22 rfl rfl)
theorem dX2_sortOf_71 : decode cX2_sortOf 71 = .ok (.bipush 111, 2) := dk_16 111 (dk_at dksX2_sortOf_3 0 rfl rfl)
theorem dX2_sortOf_73 : decode cX2_sortOf 73 = .ok (.bipush 105, 2) := dk_16 105 (dk_at dksX2_sortOf_3 2 rfl rfl)
theorem dX2_sortOf_75 : decode cX2_sortOf 75 = .ok (.bipush 108, 2) := dk_16 108 (dk_at dksX2_sortOf_3 4 rfl rfl)
theorem dX2_sortOf_77 : decode cX2_sortOf 77 = .ok (.invokestatic 145, 3) := dk_184 0 145 (dk_at dksX2_sortOf_3 6 rfl rfl)
theorem dX2_sortOf_80 : decode cX2_sortOf 80 = .ok (.invokevirtual 204, 3) := dk_182 0 204 (dk_at dksX2_sortOf_3 9 rfl rfl)
theorem dX2_sortOf_83 : decode cX2_sortOf 83 = .ok (.ifCond .eq 5, 3) := dk_153 0 5 (dk_at dksX2_sortOf_3 12 rfl rfl)
theorem dX2_sortOf_86 : decode cX2_sortOf 86 = .ok (.iconst 3, 1) := dk_6 (dk_at dksX2_sortOf_3 15 rfl rfl)
theorem dX2_sortOf_87 : decode cX2_sortOf 87 = .ok (.ireturn, 1) := dk_172 (dk_at dksX2_sortOf_3 16 rfl rfl)
theorem dX2_sortOf_88 : decode cX2_sortOf 88 = .ok (.aload_n 0, 1) := dk_42 (dk_at dksX2_sortOf_3 17 rfl rfl)
theorem dX2_sortOf_89 : decode cX2_sortOf 89 = .ok (.bipush 119, 2) := dk_16 119 (dk_at dksX2_sortOf_3 18 rfl rfl)
theorem dX2_sortOf_91 : decode cX2_sortOf 91 = .ok (.bipush 97, 2) := dk_16 97 (dk_at dksX2_sortOf_3 20 rfl rfl)
theorem dX2_sortOf_93 : decode cX2_sortOf 93 = .ok (.bipush 110, 2) := dk_16 110 (dk_at dksX2_sortOf_3 22 rfl rfl)
theorem dX2_sortOf_95 : decode cX2_sortOf 95 = .ok (.bipush 116, 2) := dk_16 116 (dk_at dksX2_sortOf_4 0 rfl rfl)
theorem dX2_sortOf_97 : decode cX2_sortOf 97 = .ok (.invokestatic 145, 3) := dk_184 0 145 (dk_at dksX2_sortOf_4 2 rfl rfl)
theorem dX2_sortOf_100 : decode cX2_sortOf 100 = .ok (.invokevirtual 204, 3) := dk_182 0 204 (dk_at dksX2_sortOf_4 5 rfl rfl)
theorem dX2_sortOf_103 : decode cX2_sortOf 103 = .ok (.ifCond .eq 5, 3) := dk_153 0 5 (dk_at dksX2_sortOf_4 8 rfl rfl)
theorem dX2_sortOf_106 : decode cX2_sortOf 106 = .ok (.iconst 4, 1) := dk_7 (dk_at dksX2_sortOf_4 11 rfl rfl)
theorem dX2_sortOf_107 : decode cX2_sortOf 107 = .ok (.ireturn, 1) := dk_172 (dk_at dksX2_sortOf_4 12 rfl rfl)
theorem dX2_sortOf_108 : decode cX2_sortOf 108 = .ok (.aload_n 0, 1) := dk_42 (dk_at dksX2_sortOf_4 13 rfl rfl)
theorem dX2_sortOf_109 : decode cX2_sortOf 109 = .ok (.bipush 115, 2) := dk_16 115 (dk_at dksX2_sortOf_4 14 rfl rfl)
theorem dX2_sortOf_111 : decode cX2_sortOf 111 = .ok (.bipush 97, 2) := dk_16 97 (dk_at dksX2_sortOf_4 16 rfl rfl)
theorem dX2_sortOf_113 : decode cX2_sortOf 113 = .ok (.bipush 121, 2) := dk_16 121 (dk_at dksX2_sortOf_4 18 rfl rfl)
theorem dX2_sortOf_115 : decode cX2_sortOf 115 = .ok (.invokestatic 141, 3) := dk_184 0 141 (dk_at dksX2_sortOf_4 20 rfl rfl)
theorem dX2_sortOf_118 : decode cX2_sortOf 118 = .ok (.invokevirtual 204, 3) := dk_182 0 204 (dk_at dksX2_sortOf_5 0 rfl rfl)
theorem dX2_sortOf_121 : decode cX2_sortOf 121 = .ok (.ifCond .eq 5, 3) := dk_153 0 5 (dk_at dksX2_sortOf_5 3 rfl rfl)
theorem dX2_sortOf_124 : decode cX2_sortOf 124 = .ok (.iconst 5, 1) := dk_8 (dk_at dksX2_sortOf_5 6 rfl rfl)
theorem dX2_sortOf_125 : decode cX2_sortOf 125 = .ok (.ireturn, 1) := dk_172 (dk_at dksX2_sortOf_5 7 rfl rfl)
theorem dX2_sortOf_126 : decode cX2_sortOf 126 = .ok (.aload_n 0, 1) := dk_42 (dk_at dksX2_sortOf_5 8 rfl rfl)
theorem dX2_sortOf_127 : decode cX2_sortOf 127 = .ok (.invokevirtual 254, 3) := dk_182 0 254 (dk_at dksX2_sortOf_5 9 rfl rfl)
theorem dX2_sortOf_130 : decode cX2_sortOf 130 = .ok (.ifCond .eq 6, 3) := dk_153 0 6 (dk_at dksX2_sortOf_5 12 rfl rfl)
theorem dX2_sortOf_133 : decode cX2_sortOf 133 = .ok (.bipush 6, 2) := dk_16 6 (dk_at dksX2_sortOf_5 15 rfl rfl)
theorem dX2_sortOf_135 : decode cX2_sortOf 135 = .ok (.ireturn, 1) := dk_172 (dk_at dksX2_sortOf_5 17 rfl rfl)
theorem dX2_sortOf_136 : decode cX2_sortOf 136 = .ok (.aload_n 0, 1) := dk_42 (dk_at dksX2_sortOf_5 18 rfl rfl)
theorem dX2_sortOf_137 : decode cX2_sortOf 137 = .ok (.bipush 112, 2) := dk_16 112 (dk_at dksX2_sortOf_5 19 rfl rfl)
theorem dX2_sortOf_139 : decode cX2_sortOf 139 = .ok (.bipush 97, 2) := dk_16 97 (dk_at dksX2_sortOf_5 21 rfl rfl)
theorem dX2_sortOf_141 : decode cX2_sortOf 141 = .ok (.bipush 114, 2) := dk_16 114 (dk_at dksX2_sortOf_6 0 rfl rfl)
theorem dX2_sortOf_143 : decode cX2_sortOf 143 = .ok (.bipush 100, 2) := dk_16 100 (dk_at dksX2_sortOf_6 2 rfl rfl)
theorem dX2_sortOf_145 : decode cX2_sortOf 145 = .ok (.bipush 111, 2) := dk_16 111 (dk_at dksX2_sortOf_6 4 rfl rfl)
theorem dX2_sortOf_147 : decode cX2_sortOf 147 = .ok (.bipush 110, 2) := dk_16 110 (dk_at dksX2_sortOf_6 6 rfl rfl)
theorem dX2_sortOf_149 : decode cX2_sortOf 149 = .ok (.invokestatic 159, 3) := dk_184 0 159 (dk_at dksX2_sortOf_6 8 rfl rfl)
theorem dX2_sortOf_152 : decode cX2_sortOf 152 = .ok (.invokevirtual 204, 3) := dk_182 0 204 (dk_at dksX2_sortOf_6 11 rfl rfl)
theorem dX2_sortOf_155 : decode cX2_sortOf 155 = .ok (.ifCond .eq 8, 3) := dk_153 0 8 (dk_at dksX2_sortOf_6 14 rfl rfl)
theorem dX2_sortOf_158 : decode cX2_sortOf 158 = .ok (.bipush 7, 2) := dk_16 7 (dk_at dksX2_sortOf_6 17 rfl rfl)
theorem dX2_sortOf_160 : decode cX2_sortOf 160 = .ok (.goto 31, 3) := dk_167 0 31 (dk_at dksX2_sortOf_6 19 rfl rfl)
theorem dX2_sortOf_163 : decode cX2_sortOf 163 = .ok (.aload_n 0, 1) := dk_42 (dk_at dksX2_sortOf_6 22 rfl rfl)
theorem dX2_sortOf_164 : decode cX2_sortOf 164 = .ok (.bipush 115, 2) := dk_16 115 (dk_at dksX2_sortOf_7 0 rfl rfl)
theorem dX2_sortOf_166 : decode cX2_sortOf 166 = .ok (.bipush 112, 2) := dk_16 112 (dk_at dksX2_sortOf_7 2 rfl rfl)
theorem dX2_sortOf_168 : decode cX2_sortOf 168 = .ok (.bipush 114, 2) := dk_16 114 (dk_at dksX2_sortOf_7 4 rfl rfl)
theorem dX2_sortOf_170 : decode cX2_sortOf 170 = .ok (.bipush 105, 2) := dk_16 105 (dk_at dksX2_sortOf_7 6 rfl rfl)
theorem dX2_sortOf_172 : decode cX2_sortOf 172 = .ok (.bipush 110, 2) := dk_16 110 (dk_at dksX2_sortOf_7 8 rfl rfl)
theorem dX2_sortOf_174 : decode cX2_sortOf 174 = .ok (.bipush 103, 2) := dk_16 103 (dk_at dksX2_sortOf_7 10 rfl rfl)
theorem dX2_sortOf_176 : decode cX2_sortOf 176 = .ok (.invokestatic 159, 3) := dk_184 0 159 (dk_at dksX2_sortOf_7 12 rfl rfl)
theorem dX2_sortOf_179 : decode cX2_sortOf 179 = .ok (.invokevirtual 204, 3) := dk_182 0 204 (dk_at dksX2_sortOf_7 15 rfl rfl)
theorem dX2_sortOf_182 : decode cX2_sortOf 182 = .ok (.ifCond .eq 8, 3) := dk_153 0 8 (dk_at dksX2_sortOf_7 18 rfl rfl)
theorem dX2_sortOf_185 : decode cX2_sortOf 185 = .ok (.bipush 8, 2) := dk_16 8 (dk_at dksX2_sortOf_7 21 rfl rfl)
theorem dX2_sortOf_187 : decode cX2_sortOf 187 = .ok (.goto 4, 3) := dk_167 0 4 (dk_at dksX2_sortOf_8 0 rfl rfl)
theorem dX2_sortOf_190 : decode cX2_sortOf 190 = .ok (.iconst (-1), 1) := dk_2 (dk_at dksX2_sortOf_8 3 rfl rfl)
theorem dX2_sortOf_191 : decode cX2_sortOf 191 = .ok (.ireturn, 1) := dk_172 (dk_at dksX2_sortOf_8 4 rfl rfl)
abbrev cX2_w5 : ByteArray := prog_20_method_32_code
def yX2_w5 : MethodName := ⟨RX2, "w5", "(IIIII)J"⟩
def dkwX2_w5_0 : List UInt8 := [26, 27, 28, 29, 184, 0, 145, 16, 8, 121, 21, 4, 133, 129, 173]
abbrev dktX2_w5_0 : List UInt8 := dkwX2_w5_0 ++ []
theorem dksX2_w5_0 : cX2_w5.data.toList.drop 0 = dktX2_w5_0 := by decide +kernel
theorem dX2_w5_0 : decode cX2_w5 0 = .ok (.iload_n 0, 1) := dk_26 (dk_at dksX2_w5_0 0 rfl rfl)
theorem dX2_w5_1 : decode cX2_w5 1 = .ok (.iload_n 1, 1) := dk_27 (dk_at dksX2_w5_0 1 rfl rfl)
theorem dX2_w5_2 : decode cX2_w5 2 = .ok (.iload_n 2, 1) := dk_28 (dk_at dksX2_w5_0 2 rfl rfl)
theorem dX2_w5_3 : decode cX2_w5 3 = .ok (.iload_n 3, 1) := dk_29 (dk_at dksX2_w5_0 3 rfl rfl)
theorem dX2_w5_4 : decode cX2_w5 4 = .ok (.invokestatic 145, 3) := dk_184 0 145 (dk_at dksX2_w5_0 4 rfl rfl)
theorem dX2_w5_7 : decode cX2_w5 7 = .ok (.bipush 8, 2) := dk_16 8 (dk_at dksX2_w5_0 7 rfl rfl)
theorem dX2_w5_9 : decode cX2_w5 9 = .ok (.lshl, 1) := dk_121 (dk_at dksX2_w5_0 9 rfl rfl)
theorem dX2_w5_10 : decode cX2_w5 10 = .ok (.iload 4, 2) := dk_21 4 (dk_at dksX2_w5_0 10 rfl rfl)
theorem dX2_w5_12 : decode cX2_w5 12 = .ok (.i2l, 1) := dk_133 (dk_at dksX2_w5_0 12 rfl rfl)
theorem dX2_w5_13 : decode cX2_w5 13 = .ok (.lor, 1) := dk_129 (dk_at dksX2_w5_0 13 rfl rfl)
theorem dX2_w5_14 : decode cX2_w5 14 = .ok (.lreturn, 1) := dk_173 (dk_at dksX2_w5_0 14 rfl rfl)
abbrev cX2_w4 : ByteArray := prog_20_method_31_code
def yX2_w4 : MethodName := ⟨RX2, "w4", "(IIII)J"⟩
def dkwX2_w4_0 : List UInt8 := [26, 27, 28, 184, 0, 141, 16, 8, 121, 29, 133, 129, 173]
abbrev dktX2_w4_0 : List UInt8 := dkwX2_w4_0 ++ []
theorem dksX2_w4_0 : cX2_w4.data.toList.drop 0 = dktX2_w4_0 := by decide +kernel
theorem dX2_w4_0 : decode cX2_w4 0 = .ok (.iload_n 0, 1) := dk_26 (dk_at dksX2_w4_0 0 rfl rfl)
theorem dX2_w4_1 : decode cX2_w4 1 = .ok (.iload_n 1, 1) := dk_27 (dk_at dksX2_w4_0 1 rfl rfl)
theorem dX2_w4_2 : decode cX2_w4 2 = .ok (.iload_n 2, 1) := dk_28 (dk_at dksX2_w4_0 2 rfl rfl)
theorem dX2_w4_3 : decode cX2_w4 3 = .ok (.invokestatic 141, 3) := dk_184 0 141 (dk_at dksX2_w4_0 3 rfl rfl)
theorem dX2_w4_6 : decode cX2_w4 6 = .ok (.bipush 8, 2) := dk_16 8 (dk_at dksX2_w4_0 6 rfl rfl)
theorem dX2_w4_8 : decode cX2_w4 8 = .ok (.lshl, 1) := dk_121 (dk_at dksX2_w4_0 8 rfl rfl)
theorem dX2_w4_9 : decode cX2_w4 9 = .ok (.iload_n 3, 1) := dk_29 (dk_at dksX2_w4_0 9 rfl rfl)
theorem dX2_w4_10 : decode cX2_w4 10 = .ok (.i2l, 1) := dk_133 (dk_at dksX2_w4_0 10 rfl rfl)
theorem dX2_w4_11 : decode cX2_w4 11 = .ok (.lor, 1) := dk_129 (dk_at dksX2_w4_0 11 rfl rfl)
theorem dX2_w4_12 : decode cX2_w4 12 = .ok (.lreturn, 1) := dk_173 (dk_at dksX2_w4_0 12 rfl rfl)
abbrev cX2_w3 : ByteArray := prog_20_method_30_code
def yX2_w3 : MethodName := ⟨RX2, "w3", "(III)J"⟩
def dkwX2_w3_0 : List UInt8 := [26, 27, 184, 0, 137, 16, 8, 121, 28, 133, 129, 173]
abbrev dktX2_w3_0 : List UInt8 := dkwX2_w3_0 ++ []
theorem dksX2_w3_0 : cX2_w3.data.toList.drop 0 = dktX2_w3_0 := by decide +kernel
theorem dX2_w3_0 : decode cX2_w3 0 = .ok (.iload_n 0, 1) := dk_26 (dk_at dksX2_w3_0 0 rfl rfl)
theorem dX2_w3_1 : decode cX2_w3 1 = .ok (.iload_n 1, 1) := dk_27 (dk_at dksX2_w3_0 1 rfl rfl)
theorem dX2_w3_2 : decode cX2_w3 2 = .ok (.invokestatic 137, 3) := dk_184 0 137 (dk_at dksX2_w3_0 2 rfl rfl)
theorem dX2_w3_5 : decode cX2_w3 5 = .ok (.bipush 8, 2) := dk_16 8 (dk_at dksX2_w3_0 5 rfl rfl)
theorem dX2_w3_7 : decode cX2_w3 7 = .ok (.lshl, 1) := dk_121 (dk_at dksX2_w3_0 7 rfl rfl)
theorem dX2_w3_8 : decode cX2_w3 8 = .ok (.iload_n 2, 1) := dk_28 (dk_at dksX2_w3_0 8 rfl rfl)
theorem dX2_w3_9 : decode cX2_w3 9 = .ok (.i2l, 1) := dk_133 (dk_at dksX2_w3_0 9 rfl rfl)
theorem dX2_w3_10 : decode cX2_w3 10 = .ok (.lor, 1) := dk_129 (dk_at dksX2_w3_0 10 rfl rfl)
theorem dX2_w3_11 : decode cX2_w3 11 = .ok (.lreturn, 1) := dk_173 (dk_at dksX2_w3_0 11 rfl rfl)
abbrev cX2_w2 : ByteArray := prog_20_method_29_code
def yX2_w2 : MethodName := ⟨RX2, "w2", "(II)J"⟩
def dkwX2_w2_0 : List UInt8 := [26, 133, 16, 8, 121, 27, 133, 129, 173]
abbrev dktX2_w2_0 : List UInt8 := dkwX2_w2_0 ++ []
theorem dksX2_w2_0 : cX2_w2.data.toList.drop 0 = dktX2_w2_0 := by decide +kernel
theorem dX2_w2_0 : decode cX2_w2 0 = .ok (.iload_n 0, 1) := dk_26 (dk_at dksX2_w2_0 0 rfl rfl)
theorem dX2_w2_1 : decode cX2_w2 1 = .ok (.i2l, 1) := dk_133 (dk_at dksX2_w2_0 1 rfl rfl)
theorem dX2_w2_2 : decode cX2_w2 2 = .ok (.bipush 8, 2) := dk_16 8 (dk_at dksX2_w2_0 2 rfl rfl)
theorem dX2_w2_4 : decode cX2_w2 4 = .ok (.lshl, 1) := dk_121 (dk_at dksX2_w2_0 4 rfl rfl)
theorem dX2_w2_5 : decode cX2_w2 5 = .ok (.iload_n 1, 1) := dk_27 (dk_at dksX2_w2_0 5 rfl rfl)
theorem dX2_w2_6 : decode cX2_w2 6 = .ok (.i2l, 1) := dk_133 (dk_at dksX2_w2_0 6 rfl rfl)
theorem dX2_w2_7 : decode cX2_w2 7 = .ok (.lor, 1) := dk_129 (dk_at dksX2_w2_0 7 rfl rfl)
theorem dX2_w2_8 : decode cX2_w2 8 = .ok (.lreturn, 1) := dk_173 (dk_at dksX2_w2_0 8 rfl rfl)
abbrev cX2_isWord : ByteArray := prog_20_method_34_code
def yX2_isWord : MethodName := ⟨RX2, "isWord", "(J)Z"⟩
def dkwX2_isWord_0 : List UInt8 := [42, 180, 0, 115, 5, 160, 0, 16, 42, 180, 0, 128, 31, 148, 154, 0, 7, 4, 167, 0, 4, 3, 172]
abbrev dktX2_isWord_0 : List UInt8 := dkwX2_isWord_0 ++ []
theorem dksX2_isWord_0 : cX2_isWord.data.toList.drop 0 = dktX2_isWord_0 := by decide +kernel
theorem dX2_isWord_0 : decode cX2_isWord 0 = .ok (.aload_n 0, 1) := dk_42 (dk_at dksX2_isWord_0 0 rfl rfl)
theorem dX2_isWord_1 : decode cX2_isWord 1 = .ok (.getfield 115, 3) := dk_180 0 115 (dk_at dksX2_isWord_0 1 rfl rfl)
theorem dX2_isWord_4 : decode cX2_isWord 4 = .ok (.iconst 2, 1) := dk_5 (dk_at dksX2_isWord_0 4 rfl rfl)
theorem dX2_isWord_5 : decode cX2_isWord 5 = .ok (.if_icmp .ne 16, 3) := dk_160 0 16 (dk_at dksX2_isWord_0 5 rfl rfl)
theorem dX2_isWord_8 : decode cX2_isWord 8 = .ok (.aload_n 0, 1) := dk_42 (dk_at dksX2_isWord_0 8 rfl rfl)
theorem dX2_isWord_9 : decode cX2_isWord 9 = .ok (.getfield 128, 3) := dk_180 0 128 (dk_at dksX2_isWord_0 9 rfl rfl)
theorem dX2_isWord_12 : decode cX2_isWord 12 = .ok (.lload_n 1, 1) := dk_31 (dk_at dksX2_isWord_0 12 rfl rfl)
theorem dX2_isWord_13 : decode cX2_isWord 13 = .ok (.lcmp, 1) := dk_148 (dk_at dksX2_isWord_0 13 rfl rfl)
theorem dX2_isWord_14 : decode cX2_isWord 14 = .ok (.ifCond .ne 7, 3) := dk_154 0 7 (dk_at dksX2_isWord_0 14 rfl rfl)
theorem dX2_isWord_17 : decode cX2_isWord 17 = .ok (.iconst 1, 1) := dk_4 (dk_at dksX2_isWord_0 17 rfl rfl)
theorem dX2_isWord_18 : decode cX2_isWord 18 = .ok (.goto 4, 3) := dk_167 0 4 (dk_at dksX2_isWord_0 18 rfl rfl)
theorem dX2_isWord_21 : decode cX2_isWord 21 = .ok (.iconst 0, 1) := dk_3 (dk_at dksX2_isWord_0 21 rfl rfl)
theorem dX2_isWord_22 : decode cX2_isWord 22 = .ok (.ireturn, 1) := dk_172 (dk_at dksX2_isWord_0 22 rfl rfl)
abbrev cX2_w6 : ByteArray := prog_20_method_33_code
def yX2_w6 : MethodName := ⟨RX2, "w6", "(IIIIII)J"⟩
def dkwX2_w6_0 : List UInt8 := [26, 27, 28, 29, 21, 4, 184, 0, 149, 16, 8, 121, 21, 5, 133, 129, 173]
abbrev dktX2_w6_0 : List UInt8 := dkwX2_w6_0 ++ []
theorem dksX2_w6_0 : cX2_w6.data.toList.drop 0 = dktX2_w6_0 := by decide +kernel
theorem dX2_w6_0 : decode cX2_w6 0 = .ok (.iload_n 0, 1) := dk_26 (dk_at dksX2_w6_0 0 rfl rfl)
theorem dX2_w6_1 : decode cX2_w6 1 = .ok (.iload_n 1, 1) := dk_27 (dk_at dksX2_w6_0 1 rfl rfl)
theorem dX2_w6_2 : decode cX2_w6 2 = .ok (.iload_n 2, 1) := dk_28 (dk_at dksX2_w6_0 2 rfl rfl)
theorem dX2_w6_3 : decode cX2_w6 3 = .ok (.iload_n 3, 1) := dk_29 (dk_at dksX2_w6_0 3 rfl rfl)
theorem dX2_w6_4 : decode cX2_w6 4 = .ok (.iload 4, 2) := dk_21 4 (dk_at dksX2_w6_0 4 rfl rfl)
theorem dX2_w6_6 : decode cX2_w6 6 = .ok (.invokestatic 149, 3) := dk_184 0 149 (dk_at dksX2_w6_0 6 rfl rfl)
theorem dX2_w6_9 : decode cX2_w6 9 = .ok (.bipush 8, 2) := dk_16 8 (dk_at dksX2_w6_0 9 rfl rfl)
theorem dX2_w6_11 : decode cX2_w6 11 = .ok (.lshl, 1) := dk_121 (dk_at dksX2_w6_0 11 rfl rfl)
theorem dX2_w6_12 : decode cX2_w6 12 = .ok (.iload 5, 2) := dk_21 5 (dk_at dksX2_w6_0 12 rfl rfl)
theorem dX2_w6_14 : decode cX2_w6 14 = .ok (.i2l, 1) := dk_133 (dk_at dksX2_w6_0 14 rfl rfl)
theorem dX2_w6_15 : decode cX2_w6 15 = .ok (.lor, 1) := dk_129 (dk_at dksX2_w6_0 15 rfl rfl)
theorem dX2_w6_16 : decode cX2_w6 16 = .ok (.lreturn, 1) := dk_173 (dk_at dksX2_w6_0 16 rfl rfl)
abbrev cX2_isRetract : ByteArray := prog_20_method_36_code
def yX2_isRetract : MethodName := ⟨RX2, "isRetract", "()Z"⟩
def dkwX2_isRetract_5 : List UInt8 := [184, 0, 141, 148, 154, 0, 7, 4, 167, 0, 4, 3, 172]
abbrev dktX2_isRetract_5 : List UInt8 := dkwX2_isRetract_5 ++ []
def dkwX2_isRetract_4 : List UInt8 := [182, 0, 109, 42, 42, 180, 0, 112, 16, 6, 96, 182, 0, 109, 184, 0, 141, 16, 97, 16, 99, 16, 116]
abbrev dktX2_isRetract_4 : List UInt8 := dkwX2_isRetract_4 ++ dktX2_isRetract_5
def dkwX2_isRetract_3 : List UInt8 := [184, 0, 145, 148, 154, 0, 54, 42, 42, 180, 0, 112, 7, 96, 182, 0, 109, 42, 42, 180, 0, 112, 8, 96]
abbrev dktX2_isRetract_3 : List UInt8 := dkwX2_isRetract_3 ++ dktX2_isRetract_4
def dkwX2_isRetract_2 : List UInt8 := [182, 0, 109, 42, 42, 180, 0, 112, 6, 96, 182, 0, 109, 184, 0, 145, 16, 114, 16, 101, 16, 116, 16, 114]
abbrev dktX2_isRetract_2 : List UInt8 := dkwX2_isRetract_2 ++ dktX2_isRetract_3
def dkwX2_isRetract_1 : List UInt8 := [180, 0, 112, 182, 0, 109, 42, 42, 180, 0, 112, 4, 96, 182, 0, 109, 42, 42, 180, 0, 112, 5, 96]
abbrev dktX2_isRetract_1 : List UInt8 := dkwX2_isRetract_1 ++ dktX2_isRetract_2
def dkwX2_isRetract_0 : List UInt8 := [42, 180, 0, 115, 5, 160, 0, 124, 42, 180, 0, 106, 42, 180, 0, 112, 100, 16, 7, 160, 0, 110, 42, 42]
abbrev dktX2_isRetract_0 : List UInt8 := dkwX2_isRetract_0 ++ dktX2_isRetract_1
theorem dksX2_isRetract_0 : cX2_isRetract.data.toList.drop 0 = dktX2_isRetract_0 := by decide +kernel
theorem dksX2_isRetract_1 : cX2_isRetract.data.toList.drop 24 = dktX2_isRetract_1 := dk_seg dksX2_isRetract_0 24 rfl rfl
theorem dksX2_isRetract_2 : cX2_isRetract.data.toList.drop 47 = dktX2_isRetract_2 := dk_seg dksX2_isRetract_1 23 rfl rfl
theorem dksX2_isRetract_3 : cX2_isRetract.data.toList.drop 71 = dktX2_isRetract_3 := dk_seg dksX2_isRetract_2 24 rfl rfl
theorem dksX2_isRetract_4 : cX2_isRetract.data.toList.drop 95 = dktX2_isRetract_4 := dk_seg dksX2_isRetract_3 24 rfl rfl
theorem dksX2_isRetract_5 : cX2_isRetract.data.toList.drop 118 = dktX2_isRetract_5 := dk_seg dksX2_isRetract_4 23 rfl rfl
theorem dX2_isRetract_0 : decode cX2_isRetract 0 = .ok (.aload_n 0, 1) := dk_42 (dk_at dksX2_isRetract_0 0 rfl rfl)
theorem dX2_isRetract_1 : decode cX2_isRetract 1 = .ok (.getfield 115, 3) := dk_180 0 115 (dk_at dksX2_isRetract_0 1 rfl rfl)
theorem dX2_isRetract_4 : decode cX2_isRetract 4 = .ok (.iconst 2, 1) := dk_5 (dk_at dksX2_isRetract_0 4 rfl rfl)
theorem dX2_isRetract_5 : decode cX2_isRetract 5 = .ok (.if_icmp .ne 124, 3) := dk_160 0 124 (dk_at dksX2_isRetract_0 5 rfl rfl)
theorem dX2_isRetract_8 : decode cX2_isRetract 8 = .ok (.aload_n 0, 1) := dk_42 (dk_at dksX2_isRetract_0 8 rfl rfl)
theorem dX2_isRetract_9 : decode cX2_isRetract 9 = .ok (.getfield 106, 3) := dk_180 0 106 (dk_at dksX2_isRetract_0 9 rfl rfl)
theorem dX2_isRetract_12 : decode cX2_isRetract 12 = .ok (.aload_n 0, 1) := dk_42 (dk_at dksX2_isRetract_0 12 rfl rfl)
theorem dX2_isRetract_13 : decode cX2_isRetract 13 = .ok (.getfield 112, 3) := dk_180 0 112 (dk_at dksX2_isRetract_0 13 rfl rfl)
theorem dX2_isRetract_16 : decode cX2_isRetract 16 = .ok (.isub, 1) := dk_100 (dk_at dksX2_isRetract_0 16 rfl rfl)
theorem dX2_isRetract_17 : decode cX2_isRetract 17 = .ok (.bipush 7, 2) := dk_16 7 (dk_at dksX2_isRetract_0 17 rfl rfl)
theorem dX2_isRetract_19 : decode cX2_isRetract 19 = .ok (.if_icmp .ne 110, 3) := dk_160 0 110 (dk_at dksX2_isRetract_0 19 rfl rfl)
theorem dX2_isRetract_22 : decode cX2_isRetract 22 = .ok (.aload_n 0, 1) := dk_42 (dk_at dksX2_isRetract_0 22 rfl rfl)
theorem dX2_isRetract_23 : decode cX2_isRetract 23 = .ok (.aload_n 0, 1) := dk_42 (dk_at dksX2_isRetract_0 23 rfl rfl)
theorem dX2_isRetract_24 : decode cX2_isRetract 24 = .ok (.getfield 112, 3) := dk_180 0 112 (dk_at dksX2_isRetract_1 0 rfl rfl)
theorem dX2_isRetract_27 : decode cX2_isRetract 27 = .ok (.invokevirtual 109, 3) := dk_182 0 109 (dk_at dksX2_isRetract_1 3 rfl rfl)
theorem dX2_isRetract_30 : decode cX2_isRetract 30 = .ok (.aload_n 0, 1) := dk_42 (dk_at dksX2_isRetract_1 6 rfl rfl)
theorem dX2_isRetract_31 : decode cX2_isRetract 31 = .ok (.aload_n 0, 1) := dk_42 (dk_at dksX2_isRetract_1 7 rfl rfl)
theorem dX2_isRetract_32 : decode cX2_isRetract 32 = .ok (.getfield 112, 3) := dk_180 0 112 (dk_at dksX2_isRetract_1 8 rfl rfl)
theorem dX2_isRetract_35 : decode cX2_isRetract 35 = .ok (.iconst 1, 1) := dk_4 (dk_at dksX2_isRetract_1 11 rfl rfl)
theorem dX2_isRetract_36 : decode cX2_isRetract 36 = .ok (.iadd, 1) := dk_96 (dk_at dksX2_isRetract_1 12 rfl rfl)
theorem dX2_isRetract_37 : decode cX2_isRetract 37 = .ok (.invokevirtual 109, 3) := dk_182 0 109 (dk_at dksX2_isRetract_1 13 rfl rfl)
theorem dX2_isRetract_40 : decode cX2_isRetract 40 = .ok (.aload_n 0, 1) := dk_42 (dk_at dksX2_isRetract_1 16 rfl rfl)
theorem dX2_isRetract_41 : decode cX2_isRetract 41 = .ok (.aload_n 0, 1) := dk_42 (dk_at dksX2_isRetract_1 17 rfl rfl)
theorem dX2_isRetract_42 : decode cX2_isRetract 42 = .ok (.getfield 112, 3) := dk_180 0 112 (dk_at dksX2_isRetract_1 18 rfl rfl)
theorem dX2_isRetract_45 : decode cX2_isRetract 45 = .ok (.iconst 2, 1) := dk_5 (dk_at dksX2_isRetract_1 21 rfl rfl)
theorem dX2_isRetract_46 : decode cX2_isRetract 46 = .ok (.iadd, 1) := dk_96 (dk_at dksX2_isRetract_1 22 rfl rfl)
theorem dX2_isRetract_47 : decode cX2_isRetract 47 = .ok (.invokevirtual 109, 3) := dk_182 0 109 (dk_at dksX2_isRetract_2 0 rfl rfl)
theorem dX2_isRetract_50 : decode cX2_isRetract 50 = .ok (.aload_n 0, 1) := dk_42 (dk_at dksX2_isRetract_2 3 rfl rfl)
theorem dX2_isRetract_51 : decode cX2_isRetract 51 = .ok (.aload_n 0, 1) := dk_42 (dk_at dksX2_isRetract_2 4 rfl rfl)
theorem dX2_isRetract_52 : decode cX2_isRetract 52 = .ok (.getfield 112, 3) := dk_180 0 112 (dk_at dksX2_isRetract_2 5 rfl rfl)
theorem dX2_isRetract_55 : decode cX2_isRetract 55 = .ok (.iconst 3, 1) := dk_6 (dk_at dksX2_isRetract_2 8 rfl rfl)
theorem dX2_isRetract_56 : decode cX2_isRetract 56 = .ok (.iadd, 1) := dk_96 (dk_at dksX2_isRetract_2 9 rfl rfl)
theorem dX2_isRetract_57 : decode cX2_isRetract 57 = .ok (.invokevirtual 109, 3) := dk_182 0 109 (dk_at dksX2_isRetract_2 10 rfl rfl)
theorem dX2_isRetract_60 : decode cX2_isRetract 60 = .ok (.invokestatic 145, 3) := dk_184 0 145 (dk_at dksX2_isRetract_2 13 rfl rfl)
theorem dX2_isRetract_63 : decode cX2_isRetract 63 = .ok (.bipush 114, 2) := dk_16 114 (dk_at dksX2_isRetract_2 16 rfl rfl)
theorem dX2_isRetract_65 : decode cX2_isRetract 65 = .ok (.bipush 101, 2) := dk_16 101 (dk_at dksX2_isRetract_2 18 rfl rfl)
theorem dX2_isRetract_67 : decode cX2_isRetract 67 = .ok (.bipush 116, 2) := dk_16 116 (dk_at dksX2_isRetract_2 20 rfl rfl)
theorem dX2_isRetract_69 : decode cX2_isRetract 69 = .ok (.bipush 114, 2) := dk_16 114 (dk_at dksX2_isRetract_2 22 rfl rfl)
theorem dX2_isRetract_71 : decode cX2_isRetract 71 = .ok (.invokestatic 145, 3) := dk_184 0 145 (dk_at dksX2_isRetract_3 0 rfl rfl)
theorem dX2_isRetract_74 : decode cX2_isRetract 74 = .ok (.lcmp, 1) := dk_148 (dk_at dksX2_isRetract_3 3 rfl rfl)
theorem dX2_isRetract_75 : decode cX2_isRetract 75 = .ok (.ifCond .ne 54, 3) := dk_154 0 54 (dk_at dksX2_isRetract_3 4 rfl rfl)
theorem dX2_isRetract_78 : decode cX2_isRetract 78 = .ok (.aload_n 0, 1) := dk_42 (dk_at dksX2_isRetract_3 7 rfl rfl)
theorem dX2_isRetract_79 : decode cX2_isRetract 79 = .ok (.aload_n 0, 1) := dk_42 (dk_at dksX2_isRetract_3 8 rfl rfl)
theorem dX2_isRetract_80 : decode cX2_isRetract 80 = .ok (.getfield 112, 3) := dk_180 0 112 (dk_at dksX2_isRetract_3 9 rfl rfl)
theorem dX2_isRetract_83 : decode cX2_isRetract 83 = .ok (.iconst 4, 1) := dk_7 (dk_at dksX2_isRetract_3 12 rfl rfl)
theorem dX2_isRetract_84 : decode cX2_isRetract 84 = .ok (.iadd, 1) := dk_96 (dk_at dksX2_isRetract_3 13 rfl rfl)
theorem dX2_isRetract_85 : decode cX2_isRetract 85 = .ok (.invokevirtual 109, 3) := dk_182 0 109 (dk_at dksX2_isRetract_3 14 rfl rfl)
theorem dX2_isRetract_88 : decode cX2_isRetract 88 = .ok (.aload_n 0, 1) := dk_42 (dk_at dksX2_isRetract_3 17 rfl rfl)
theorem dX2_isRetract_89 : decode cX2_isRetract 89 = .ok (.aload_n 0, 1) := dk_42 (dk_at dksX2_isRetract_3 18 rfl rfl)
theorem dX2_isRetract_90 : decode cX2_isRetract 90 = .ok (.getfield 112, 3) := dk_180 0 112 (dk_at dksX2_isRetract_3 19 rfl rfl)
theorem dX2_isRetract_93 : decode cX2_isRetract 93 = .ok (.iconst 5, 1) := dk_8 (dk_at dksX2_isRetract_3 22 rfl rfl)
theorem dX2_isRetract_94 : decode cX2_isRetract 94 = .ok (.iadd, 1) := dk_96 (dk_at dksX2_isRetract_3 23 rfl rfl)
theorem dX2_isRetract_95 : decode cX2_isRetract 95 = .ok (.invokevirtual 109, 3) := dk_182 0 109 (dk_at dksX2_isRetract_4 0 rfl rfl)
theorem dX2_isRetract_98 : decode cX2_isRetract 98 = .ok (.aload_n 0, 1) := dk_42 (dk_at dksX2_isRetract_4 3 rfl rfl)
theorem dX2_isRetract_99 : decode cX2_isRetract 99 = .ok (.aload_n 0, 1) := dk_42 (dk_at dksX2_isRetract_4 4 rfl rfl)
theorem dX2_isRetract_100 : decode cX2_isRetract 100 = .ok (.getfield 112, 3) := dk_180 0 112 (dk_at dksX2_isRetract_4 5 rfl rfl)
theorem dX2_isRetract_103 : decode cX2_isRetract 103 = .ok (.bipush 6, 2) := dk_16 6 (dk_at dksX2_isRetract_4 8 rfl rfl)
theorem dX2_isRetract_105 : decode cX2_isRetract 105 = .ok (.iadd, 1) := dk_96 (dk_at dksX2_isRetract_4 10 rfl rfl)
theorem dX2_isRetract_106 : decode cX2_isRetract 106 = .ok (.invokevirtual 109, 3) := dk_182 0 109 (dk_at dksX2_isRetract_4 11 rfl rfl)
theorem dX2_isRetract_109 : decode cX2_isRetract 109 = .ok (.invokestatic 141, 3) := dk_184 0 141 (dk_at dksX2_isRetract_4 14 rfl rfl)
theorem dX2_isRetract_112 : decode cX2_isRetract 112 = .ok (.bipush 97, 2) := dk_16 97 (dk_at dksX2_isRetract_4 17 rfl rfl)
theorem dX2_isRetract_114 : decode cX2_isRetract 114 = .ok (.bipush 99, 2) := dk_16 99 (dk_at dksX2_isRetract_4 19 rfl rfl)
theorem dX2_isRetract_116 : decode cX2_isRetract 116 = .ok (.bipush 116, 2) := dk_16 116 (dk_at dksX2_isRetract_4 21 rfl rfl)
theorem dX2_isRetract_118 : decode cX2_isRetract 118 = .ok (.invokestatic 141, 3) := dk_184 0 141 (dk_at dksX2_isRetract_5 0 rfl rfl)
theorem dX2_isRetract_121 : decode cX2_isRetract 121 = .ok (.lcmp, 1) := dk_148 (dk_at dksX2_isRetract_5 3 rfl rfl)
theorem dX2_isRetract_122 : decode cX2_isRetract 122 = .ok (.ifCond .ne 7, 3) := dk_154 0 7 (dk_at dksX2_isRetract_5 4 rfl rfl)
theorem dX2_isRetract_125 : decode cX2_isRetract 125 = .ok (.iconst 1, 1) := dk_4 (dk_at dksX2_isRetract_5 7 rfl rfl)
theorem dX2_isRetract_126 : decode cX2_isRetract 126 = .ok (.goto 4, 3) := dk_167 0 4 (dk_at dksX2_isRetract_5 8 rfl rfl)
theorem dX2_isRetract_129 : decode cX2_isRetract 129 = .ok (.iconst 0, 1) := dk_3 (dk_at dksX2_isRetract_5 11 rfl rfl)
theorem dX2_isRetract_130 : decode cX2_isRetract 130 = .ok (.ireturn, 1) := dk_172 (dk_at dksX2_isRetract_5 12 rfl rfl)
abbrev cX2_body : ByteArray := prog_20_method_58_code
def yX2_body : MethodName := ⟨RX2, "body", "(II)I"⟩
def dkwX2_body_5 : List UInt8 := [182, 0, 239, 172, 42, 28, 3, 182, 0, 247, 172]
abbrev dktX2_body_5 : List UInt8 := dkwX2_body_5 ++ []
def dkwX2_body_4 : List UInt8 := [16, 7, 182, 0, 239, 172, 42, 28, 4, 96, 3, 16, 7, 182, 0, 239, 172, 42, 28, 4, 96, 4, 16, 60]
abbrev dktX2_body_4 : List UInt8 := dkwX2_body_4 ++ dktX2_body_5
def dkwX2_body_3 : List UInt8 := [172, 42, 28, 4, 182, 0, 251, 172, 42, 28, 4, 96, 3, 16, 7, 182, 0, 239, 172, 42, 28, 4, 96, 3]
abbrev dktX2_body_3 : List UInt8 := dkwX2_body_3 ++ dktX2_body_4
def dkwX2_body_2 : List UInt8 := [42, 28, 4, 182, 0, 247, 172, 42, 28, 4, 96, 4, 16, 9, 182, 0, 239, 172, 42, 28, 3, 182, 0, 251]
abbrev dktX2_body_2 : List UInt8 := dkwX2_body_2 ++ dktX2_body_3
def dkwX2_body_1 : List UInt8 := [170, 0, 0, 0, 0, 0, 123, 0, 0, 0, 1, 0, 0, 0, 8, 0, 0, 0, 47, 0, 0, 0, 54, 0, 0, 0, 65, 0, 0, 0, 72, 0, 0, 0, 79, 0, 0, 0, 90, 0, 0, 0, 101, 0, 0, 0, 112]
abbrev dktX2_body_1 : List UInt8 := dkwX2_body_1 ++ dktX2_body_2
def dkwX2_body_0 : List UInt8 := [27]
abbrev dktX2_body_0 : List UInt8 := dkwX2_body_0 ++ dktX2_body_1
theorem dksX2_body_0 : cX2_body.data.toList.drop 0 = dktX2_body_0 := by decide +kernel
theorem dksX2_body_1 : cX2_body.data.toList.drop 1 = dktX2_body_1 := dk_seg dksX2_body_0 1 rfl rfl
theorem dksX2_body_2 : cX2_body.data.toList.drop 48 = dktX2_body_2 := dk_seg dksX2_body_1 47 rfl rfl
theorem dksX2_body_3 : cX2_body.data.toList.drop 72 = dktX2_body_3 := dk_seg dksX2_body_2 24 rfl rfl
theorem dksX2_body_4 : cX2_body.data.toList.drop 96 = dktX2_body_4 := dk_seg dksX2_body_3 24 rfl rfl
theorem dksX2_body_5 : cX2_body.data.toList.drop 120 = dktX2_body_5 := dk_seg dksX2_body_4 24 rfl rfl
theorem dX2_body_0 : decode cX2_body 0 = .ok (.iload_n 1, 1) := dk_27 (dk_at dksX2_body_0 0 rfl rfl)
theorem dX2_body_1 : decode cX2_body 1 = .ok (.tableswitch 123 1 8 #[47, 54, 65, 72, 79, 90, 101, 112], 47) := by decide +kernel
theorem dX2_body_48 : decode cX2_body 48 = .ok (.aload_n 0, 1) := dk_42 (dk_at dksX2_body_2 0 rfl rfl)
theorem dX2_body_49 : decode cX2_body 49 = .ok (.iload_n 2, 1) := dk_28 (dk_at dksX2_body_2 1 rfl rfl)
theorem dX2_body_50 : decode cX2_body 50 = .ok (.iconst 1, 1) := dk_4 (dk_at dksX2_body_2 2 rfl rfl)
theorem dX2_body_51 : decode cX2_body 51 = .ok (.invokevirtual 247, 3) := dk_182 0 247 (dk_at dksX2_body_2 3 rfl rfl)
theorem dX2_body_54 : decode cX2_body 54 = .ok (.ireturn, 1) := dk_172 (dk_at dksX2_body_2 6 rfl rfl)
theorem dX2_body_55 : decode cX2_body 55 = .ok (.aload_n 0, 1) := dk_42 (dk_at dksX2_body_2 7 rfl rfl)
theorem dX2_body_56 : decode cX2_body 56 = .ok (.iload_n 2, 1) := dk_28 (dk_at dksX2_body_2 8 rfl rfl)
theorem dX2_body_57 : decode cX2_body 57 = .ok (.iconst 1, 1) := dk_4 (dk_at dksX2_body_2 9 rfl rfl)
theorem dX2_body_58 : decode cX2_body 58 = .ok (.iadd, 1) := dk_96 (dk_at dksX2_body_2 10 rfl rfl)
theorem dX2_body_59 : decode cX2_body 59 = .ok (.iconst 1, 1) := dk_4 (dk_at dksX2_body_2 11 rfl rfl)
theorem dX2_body_60 : decode cX2_body 60 = .ok (.bipush 9, 2) := dk_16 9 (dk_at dksX2_body_2 12 rfl rfl)
theorem dX2_body_62 : decode cX2_body 62 = .ok (.invokevirtual 239, 3) := dk_182 0 239 (dk_at dksX2_body_2 14 rfl rfl)
theorem dX2_body_65 : decode cX2_body 65 = .ok (.ireturn, 1) := dk_172 (dk_at dksX2_body_2 17 rfl rfl)
theorem dX2_body_66 : decode cX2_body 66 = .ok (.aload_n 0, 1) := dk_42 (dk_at dksX2_body_2 18 rfl rfl)
theorem dX2_body_67 : decode cX2_body 67 = .ok (.iload_n 2, 1) := dk_28 (dk_at dksX2_body_2 19 rfl rfl)
theorem dX2_body_68 : decode cX2_body 68 = .ok (.iconst 0, 1) := dk_3 (dk_at dksX2_body_2 20 rfl rfl)
theorem dX2_body_69 : decode cX2_body 69 = .ok (.invokevirtual 251, 3) := dk_182 0 251 (dk_at dksX2_body_2 21 rfl rfl)
theorem dX2_body_72 : decode cX2_body 72 = .ok (.ireturn, 1) := dk_172 (dk_at dksX2_body_3 0 rfl rfl)
theorem dX2_body_73 : decode cX2_body 73 = .ok (.aload_n 0, 1) := dk_42 (dk_at dksX2_body_3 1 rfl rfl)
theorem dX2_body_74 : decode cX2_body 74 = .ok (.iload_n 2, 1) := dk_28 (dk_at dksX2_body_3 2 rfl rfl)
theorem dX2_body_75 : decode cX2_body 75 = .ok (.iconst 1, 1) := dk_4 (dk_at dksX2_body_3 3 rfl rfl)
theorem dX2_body_76 : decode cX2_body 76 = .ok (.invokevirtual 251, 3) := dk_182 0 251 (dk_at dksX2_body_3 4 rfl rfl)
theorem dX2_body_79 : decode cX2_body 79 = .ok (.ireturn, 1) := dk_172 (dk_at dksX2_body_3 7 rfl rfl)
theorem dX2_body_80 : decode cX2_body 80 = .ok (.aload_n 0, 1) := dk_42 (dk_at dksX2_body_3 8 rfl rfl)
theorem dX2_body_81 : decode cX2_body 81 = .ok (.iload_n 2, 1) := dk_28 (dk_at dksX2_body_3 9 rfl rfl)
theorem dX2_body_82 : decode cX2_body 82 = .ok (.iconst 1, 1) := dk_4 (dk_at dksX2_body_3 10 rfl rfl)
theorem dX2_body_83 : decode cX2_body 83 = .ok (.iadd, 1) := dk_96 (dk_at dksX2_body_3 11 rfl rfl)
theorem dX2_body_84 : decode cX2_body 84 = .ok (.iconst 0, 1) := dk_3 (dk_at dksX2_body_3 12 rfl rfl)
theorem dX2_body_85 : decode cX2_body 85 = .ok (.bipush 7, 2) := dk_16 7 (dk_at dksX2_body_3 13 rfl rfl)
theorem dX2_body_87 : decode cX2_body 87 = .ok (.invokevirtual 239, 3) := dk_182 0 239 (dk_at dksX2_body_3 15 rfl rfl)
theorem dX2_body_90 : decode cX2_body 90 = .ok (.ireturn, 1) := dk_172 (dk_at dksX2_body_3 18 rfl rfl)
theorem dX2_body_91 : decode cX2_body 91 = .ok (.aload_n 0, 1) := dk_42 (dk_at dksX2_body_3 19 rfl rfl)
theorem dX2_body_92 : decode cX2_body 92 = .ok (.iload_n 2, 1) := dk_28 (dk_at dksX2_body_3 20 rfl rfl)
theorem dX2_body_93 : decode cX2_body 93 = .ok (.iconst 1, 1) := dk_4 (dk_at dksX2_body_3 21 rfl rfl)
theorem dX2_body_94 : decode cX2_body 94 = .ok (.iadd, 1) := dk_96 (dk_at dksX2_body_3 22 rfl rfl)
theorem dX2_body_95 : decode cX2_body 95 = .ok (.iconst 0, 1) := dk_3 (dk_at dksX2_body_3 23 rfl rfl)
theorem dX2_body_96 : decode cX2_body 96 = .ok (.bipush 7, 2) := dk_16 7 (dk_at dksX2_body_4 0 rfl rfl)
theorem dX2_body_98 : decode cX2_body 98 = .ok (.invokevirtual 239, 3) := dk_182 0 239 (dk_at dksX2_body_4 2 rfl rfl)
theorem dX2_body_101 : decode cX2_body 101 = .ok (.ireturn, 1) := dk_172 (dk_at dksX2_body_4 5 rfl rfl)
theorem dX2_body_102 : decode cX2_body 102 = .ok (.aload_n 0, 1) := dk_42 (dk_at dksX2_body_4 6 rfl rfl)
theorem dX2_body_103 : decode cX2_body 103 = .ok (.iload_n 2, 1) := dk_28 (dk_at dksX2_body_4 7 rfl rfl)
theorem dX2_body_104 : decode cX2_body 104 = .ok (.iconst 1, 1) := dk_4 (dk_at dksX2_body_4 8 rfl rfl)
theorem dX2_body_105 : decode cX2_body 105 = .ok (.iadd, 1) := dk_96 (dk_at dksX2_body_4 9 rfl rfl)
theorem dX2_body_106 : decode cX2_body 106 = .ok (.iconst 0, 1) := dk_3 (dk_at dksX2_body_4 10 rfl rfl)
theorem dX2_body_107 : decode cX2_body 107 = .ok (.bipush 7, 2) := dk_16 7 (dk_at dksX2_body_4 11 rfl rfl)
theorem dX2_body_109 : decode cX2_body 109 = .ok (.invokevirtual 239, 3) := dk_182 0 239 (dk_at dksX2_body_4 13 rfl rfl)
theorem dX2_body_112 : decode cX2_body 112 = .ok (.ireturn, 1) := dk_172 (dk_at dksX2_body_4 16 rfl rfl)
theorem dX2_body_113 : decode cX2_body 113 = .ok (.aload_n 0, 1) := dk_42 (dk_at dksX2_body_4 17 rfl rfl)
theorem dX2_body_114 : decode cX2_body 114 = .ok (.iload_n 2, 1) := dk_28 (dk_at dksX2_body_4 18 rfl rfl)
theorem dX2_body_115 : decode cX2_body 115 = .ok (.iconst 1, 1) := dk_4 (dk_at dksX2_body_4 19 rfl rfl)
theorem dX2_body_116 : decode cX2_body 116 = .ok (.iadd, 1) := dk_96 (dk_at dksX2_body_4 20 rfl rfl)
theorem dX2_body_117 : decode cX2_body 117 = .ok (.iconst 1, 1) := dk_4 (dk_at dksX2_body_4 21 rfl rfl)
theorem dX2_body_118 : decode cX2_body 118 = .ok (.bipush 60, 2) := dk_16 60 (dk_at dksX2_body_4 22 rfl rfl)
theorem dX2_body_120 : decode cX2_body 120 = .ok (.invokevirtual 239, 3) := dk_182 0 239 (dk_at dksX2_body_5 0 rfl rfl)
theorem dX2_body_123 : decode cX2_body 123 = .ok (.ireturn, 1) := dk_172 (dk_at dksX2_body_5 3 rfl rfl)
theorem dX2_body_124 : decode cX2_body 124 = .ok (.aload_n 0, 1) := dk_42 (dk_at dksX2_body_5 4 rfl rfl)
theorem dX2_body_125 : decode cX2_body 125 = .ok (.iload_n 2, 1) := dk_28 (dk_at dksX2_body_5 5 rfl rfl)
theorem dX2_body_126 : decode cX2_body 126 = .ok (.iconst 0, 1) := dk_3 (dk_at dksX2_body_5 6 rfl rfl)
theorem dX2_body_127 : decode cX2_body 127 = .ok (.invokevirtual 247, 3) := dk_182 0 247 (dk_at dksX2_body_5 7 rfl rfl)
theorem dX2_body_130 : decode cX2_body 130 = .ok (.ireturn, 1) := dk_172 (dk_at dksX2_body_5 10 rfl rfl)
abbrev cX2_lawClause : ByteArray := prog_20_method_55_code
def yX2_lawClause : MethodName := ⟨RX2, "lawClause", "(IZ)I"⟩
def dkwX2_lawClause_1 : List UInt8 := [96, 42, 180, 0, 156, 79, 29, 172]
abbrev dktX2_lawClause_1 : List UInt8 := dkwX2_lawClause_1 ++ []
def dkwX2_lawClause_0 : List UInt8 := [42, 180, 0, 16, 27, 4, 96, 42, 180, 0, 156, 79, 42, 28, 182, 0, 235, 62, 42, 180, 0, 16, 27, 5]
abbrev dktX2_lawClause_0 : List UInt8 := dkwX2_lawClause_0 ++ dktX2_lawClause_1
theorem dksX2_lawClause_0 : cX2_lawClause.data.toList.drop 0 = dktX2_lawClause_0 := by decide +kernel
theorem dksX2_lawClause_1 : cX2_lawClause.data.toList.drop 24 = dktX2_lawClause_1 := dk_seg dksX2_lawClause_0 24 rfl rfl
theorem dX2_lawClause_0 : decode cX2_lawClause 0 = .ok (.aload_n 0, 1) := dk_42 (dk_at dksX2_lawClause_0 0 rfl rfl)
theorem dX2_lawClause_1 : decode cX2_lawClause 1 = .ok (.getfield 16, 3) := dk_180 0 16 (dk_at dksX2_lawClause_0 1 rfl rfl)
theorem dX2_lawClause_4 : decode cX2_lawClause 4 = .ok (.iload_n 1, 1) := dk_27 (dk_at dksX2_lawClause_0 4 rfl rfl)
theorem dX2_lawClause_5 : decode cX2_lawClause 5 = .ok (.iconst 1, 1) := dk_4 (dk_at dksX2_lawClause_0 5 rfl rfl)
theorem dX2_lawClause_6 : decode cX2_lawClause 6 = .ok (.iadd, 1) := dk_96 (dk_at dksX2_lawClause_0 6 rfl rfl)
theorem dX2_lawClause_7 : decode cX2_lawClause 7 = .ok (.aload_n 0, 1) := dk_42 (dk_at dksX2_lawClause_0 7 rfl rfl)
theorem dX2_lawClause_8 : decode cX2_lawClause 8 = .ok (.getfield 156, 3) := dk_180 0 156 (dk_at dksX2_lawClause_0 8 rfl rfl)
theorem dX2_lawClause_11 : decode cX2_lawClause 11 = .ok (.iastore, 1) := dk_79 (dk_at dksX2_lawClause_0 11 rfl rfl)
theorem dX2_lawClause_12 : decode cX2_lawClause 12 = .ok (.aload_n 0, 1) := dk_42 (dk_at dksX2_lawClause_0 12 rfl rfl)
theorem dX2_lawClause_13 : decode cX2_lawClause 13 = .ok (.iload_n 2, 1) := dk_28 (dk_at dksX2_lawClause_0 13 rfl rfl)
theorem dX2_lawClause_14 : decode cX2_lawClause 14 = .ok (.invokevirtual 235, 3) := dk_182 0 235 (dk_at dksX2_lawClause_0 14 rfl rfl)
theorem dX2_lawClause_17 : decode cX2_lawClause 17 = .ok (.istore_n 3, 1) := dk_62 (dk_at dksX2_lawClause_0 17 rfl rfl)
theorem dX2_lawClause_18 : decode cX2_lawClause 18 = .ok (.aload_n 0, 1) := dk_42 (dk_at dksX2_lawClause_0 18 rfl rfl)
theorem dX2_lawClause_19 : decode cX2_lawClause 19 = .ok (.getfield 16, 3) := dk_180 0 16 (dk_at dksX2_lawClause_0 19 rfl rfl)
theorem dX2_lawClause_22 : decode cX2_lawClause 22 = .ok (.iload_n 1, 1) := dk_27 (dk_at dksX2_lawClause_0 22 rfl rfl)
theorem dX2_lawClause_23 : decode cX2_lawClause 23 = .ok (.iconst 2, 1) := dk_5 (dk_at dksX2_lawClause_0 23 rfl rfl)
theorem dX2_lawClause_24 : decode cX2_lawClause 24 = .ok (.iadd, 1) := dk_96 (dk_at dksX2_lawClause_1 0 rfl rfl)
theorem dX2_lawClause_25 : decode cX2_lawClause 25 = .ok (.aload_n 0, 1) := dk_42 (dk_at dksX2_lawClause_1 1 rfl rfl)
theorem dX2_lawClause_26 : decode cX2_lawClause 26 = .ok (.getfield 156, 3) := dk_180 0 156 (dk_at dksX2_lawClause_1 2 rfl rfl)
theorem dX2_lawClause_29 : decode cX2_lawClause 29 = .ok (.iastore, 1) := dk_79 (dk_at dksX2_lawClause_1 5 rfl rfl)
theorem dX2_lawClause_30 : decode cX2_lawClause 30 = .ok (.iload_n 3, 1) := dk_29 (dk_at dksX2_lawClause_1 6 rfl rfl)
theorem dX2_lawClause_31 : decode cX2_lawClause 31 = .ok (.ireturn, 1) := dk_172 (dk_at dksX2_lawClause_1 7 rfl rfl)
abbrev cX2_summed : ByteArray := prog_20_method_53_code
def yX2_summed : MethodName := ⟨RX2, "summed", "(Z)I"⟩
def dkwX2_summed_4 : List UInt8 := [155, 0, 5, 4, 172, 42, 4, 182, 0, 211, 3, 172]
abbrev dktX2_summed_4 : List UInt8 := dkwX2_summed_4 ++ []
def dkwX2_summed_3 : List UInt8 := [153, 0, 20, 42, 182, 0, 179, 157, 0, 20, 42, 182, 0, 217, 154, 0, 15, 167, 0, 10, 42, 182, 0, 182]
abbrev dktX2_summed_3 : List UInt8 := dkwX2_summed_3 ++ dktX2_summed_4
def dkwX2_summed_2 : List UInt8 := [167, 0, 7, 42, 182, 0, 232, 61, 28, 158, 0, 5, 28, 172, 28, 154, 0, 6, 167, 255, 227, 27]
abbrev dktX2_summed_2 : List UInt8 := dkwX2_summed_2 ++ dktX2_summed_3
def dkwX2_summed_1 : List UInt8 := [79, 42, 3, 181, 0, 176, 42, 3, 181, 0, 214, 42, 180, 0, 214, 153, 0, 10, 42, 182, 0, 229]
abbrev dktX2_summed_1 : List UInt8 := dkwX2_summed_1 ++ dktX2_summed_2
def dkwX2_summed_0 : List UInt8 := [42, 27, 153, 0, 7, 4, 167, 0, 4, 3, 181, 0, 166, 27, 153, 0, 11, 42, 180, 0, 29, 3, 16, 45]
abbrev dktX2_summed_0 : List UInt8 := dkwX2_summed_0 ++ dktX2_summed_1
theorem dksX2_summed_0 : cX2_summed.data.toList.drop 0 = dktX2_summed_0 := by decide +kernel
theorem dksX2_summed_1 : cX2_summed.data.toList.drop 24 = dktX2_summed_1 := dk_seg dksX2_summed_0 24 rfl rfl
theorem dksX2_summed_2 : cX2_summed.data.toList.drop 46 = dktX2_summed_2 := dk_seg dksX2_summed_1 22 rfl rfl
theorem dksX2_summed_3 : cX2_summed.data.toList.drop 68 = dktX2_summed_3 := dk_seg dksX2_summed_2 22 rfl rfl
theorem dksX2_summed_4 : cX2_summed.data.toList.drop 92 = dktX2_summed_4 := dk_seg dksX2_summed_3 24 rfl rfl
theorem dX2_summed_0 : decode cX2_summed 0 = .ok (.aload_n 0, 1) := dk_42 (dk_at dksX2_summed_0 0 rfl rfl)
theorem dX2_summed_1 : decode cX2_summed 1 = .ok (.iload_n 1, 1) := dk_27 (dk_at dksX2_summed_0 1 rfl rfl)
theorem dX2_summed_2 : decode cX2_summed 2 = .ok (.ifCond .eq 7, 3) := dk_153 0 7 (dk_at dksX2_summed_0 2 rfl rfl)
theorem dX2_summed_5 : decode cX2_summed 5 = .ok (.iconst 1, 1) := dk_4 (dk_at dksX2_summed_0 5 rfl rfl)
theorem dX2_summed_6 : decode cX2_summed 6 = .ok (.goto 4, 3) := dk_167 0 4 (dk_at dksX2_summed_0 6 rfl rfl)
theorem dX2_summed_9 : decode cX2_summed 9 = .ok (.iconst 0, 1) := dk_3 (dk_at dksX2_summed_0 9 rfl rfl)
theorem dX2_summed_10 : decode cX2_summed 10 = .ok (.putfield 166, 3) := dk_181 0 166 (dk_at dksX2_summed_0 10 rfl rfl)
theorem dX2_summed_13 : decode cX2_summed 13 = .ok (.iload_n 1, 1) := dk_27 (dk_at dksX2_summed_0 13 rfl rfl)
theorem dX2_summed_14 : decode cX2_summed 14 = .ok (.ifCond .eq 11, 3) := dk_153 0 11 (dk_at dksX2_summed_0 14 rfl rfl)
theorem dX2_summed_17 : decode cX2_summed 17 = .ok (.aload_n 0, 1) := dk_42 (dk_at dksX2_summed_0 17 rfl rfl)
theorem dX2_summed_18 : decode cX2_summed 18 = .ok (.getfield 29, 3) := dk_180 0 29 (dk_at dksX2_summed_0 18 rfl rfl)
theorem dX2_summed_21 : decode cX2_summed 21 = .ok (.iconst 0, 1) := dk_3 (dk_at dksX2_summed_0 21 rfl rfl)
theorem dX2_summed_22 : decode cX2_summed 22 = .ok (.bipush 45, 2) := dk_16 45 (dk_at dksX2_summed_0 22 rfl rfl)
theorem dX2_summed_24 : decode cX2_summed 24 = .ok (.iastore, 1) := dk_79 (dk_at dksX2_summed_1 0 rfl rfl)
theorem dX2_summed_25 : decode cX2_summed 25 = .ok (.aload_n 0, 1) := dk_42 (dk_at dksX2_summed_1 1 rfl rfl)
theorem dX2_summed_26 : decode cX2_summed 26 = .ok (.iconst 0, 1) := dk_3 (dk_at dksX2_summed_1 2 rfl rfl)
theorem dX2_summed_27 : decode cX2_summed 27 = .ok (.putfield 176, 3) := dk_181 0 176 (dk_at dksX2_summed_1 3 rfl rfl)
theorem dX2_summed_30 : decode cX2_summed 30 = .ok (.aload_n 0, 1) := dk_42 (dk_at dksX2_summed_1 6 rfl rfl)
theorem dX2_summed_31 : decode cX2_summed 31 = .ok (.iconst 0, 1) := dk_3 (dk_at dksX2_summed_1 7 rfl rfl)
theorem dX2_summed_32 : decode cX2_summed 32 = .ok (.putfield 214, 3) := dk_181 0 214 (dk_at dksX2_summed_1 8 rfl rfl)
theorem dX2_summed_35 : decode cX2_summed 35 = .ok (.aload_n 0, 1) := dk_42 (dk_at dksX2_summed_1 11 rfl rfl)
theorem dX2_summed_36 : decode cX2_summed 36 = .ok (.getfield 214, 3) := dk_180 0 214 (dk_at dksX2_summed_1 12 rfl rfl)
theorem dX2_summed_39 : decode cX2_summed 39 = .ok (.ifCond .eq 10, 3) := dk_153 0 10 (dk_at dksX2_summed_1 15 rfl rfl)
theorem dX2_summed_42 : decode cX2_summed 42 = .ok (.aload_n 0, 1) := dk_42 (dk_at dksX2_summed_1 18 rfl rfl)
theorem dX2_summed_43 : decode cX2_summed 43 = .ok (.invokevirtual 229, 3) := dk_182 0 229 (dk_at dksX2_summed_1 19 rfl rfl)
theorem dX2_summed_46 : decode cX2_summed 46 = .ok (.goto 7, 3) := dk_167 0 7 (dk_at dksX2_summed_2 0 rfl rfl)
theorem dX2_summed_49 : decode cX2_summed 49 = .ok (.aload_n 0, 1) := dk_42 (dk_at dksX2_summed_2 3 rfl rfl)
theorem dX2_summed_50 : decode cX2_summed 50 = .ok (.invokevirtual 232, 3) := dk_182 0 232 (dk_at dksX2_summed_2 4 rfl rfl)
theorem dX2_summed_53 : decode cX2_summed 53 = .ok (.istore_n 2, 1) := dk_61 (dk_at dksX2_summed_2 7 rfl rfl)
theorem dX2_summed_54 : decode cX2_summed 54 = .ok (.iload_n 2, 1) := dk_28 (dk_at dksX2_summed_2 8 rfl rfl)
theorem dX2_summed_55 : decode cX2_summed 55 = .ok (.ifCond .le 5, 3) := dk_158 0 5 (dk_at dksX2_summed_2 9 rfl rfl)
theorem dX2_summed_58 : decode cX2_summed 58 = .ok (.iload_n 2, 1) := dk_28 (dk_at dksX2_summed_2 12 rfl rfl)
theorem dX2_summed_59 : decode cX2_summed 59 = .ok (.ireturn, 1) := dk_172 (dk_at dksX2_summed_2 13 rfl rfl)
theorem dX2_summed_60 : decode cX2_summed 60 = .ok (.iload_n 2, 1) := dk_28 (dk_at dksX2_summed_2 14 rfl rfl)
theorem dX2_summed_61 : decode cX2_summed 61 = .ok (.ifCond .ne 6, 3) := dk_154 0 6 (dk_at dksX2_summed_2 15 rfl rfl)
theorem dX2_summed_64 : decode cX2_summed 64 = .ok (.goto (-29), 3) := dk_167 255 227 (dk_at dksX2_summed_2 18 rfl rfl)
theorem dX2_summed_67 : decode cX2_summed 67 = .ok (.iload_n 1, 1) := dk_27 (dk_at dksX2_summed_2 21 rfl rfl)
theorem dX2_summed_68 : decode cX2_summed 68 = .ok (.ifCond .eq 20, 3) := dk_153 0 20 (dk_at dksX2_summed_3 0 rfl rfl)
theorem dX2_summed_71 : decode cX2_summed 71 = .ok (.aload_n 0, 1) := dk_42 (dk_at dksX2_summed_3 3 rfl rfl)
theorem dX2_summed_72 : decode cX2_summed 72 = .ok (.invokevirtual 179, 3) := dk_182 0 179 (dk_at dksX2_summed_3 4 rfl rfl)
theorem dX2_summed_75 : decode cX2_summed 75 = .ok (.ifCond .gt 20, 3) := dk_157 0 20 (dk_at dksX2_summed_3 7 rfl rfl)
theorem dX2_summed_78 : decode cX2_summed 78 = .ok (.aload_n 0, 1) := dk_42 (dk_at dksX2_summed_3 10 rfl rfl)
theorem dX2_summed_79 : decode cX2_summed 79 = .ok (.invokevirtual 217, 3) := dk_182 0 217 (dk_at dksX2_summed_3 11 rfl rfl)
theorem dX2_summed_82 : decode cX2_summed 82 = .ok (.ifCond .ne 15, 3) := dk_154 0 15 (dk_at dksX2_summed_3 14 rfl rfl)
theorem dX2_summed_85 : decode cX2_summed 85 = .ok (.goto 10, 3) := dk_167 0 10 (dk_at dksX2_summed_3 17 rfl rfl)
theorem dX2_summed_88 : decode cX2_summed 88 = .ok (.aload_n 0, 1) := dk_42 (dk_at dksX2_summed_3 20 rfl rfl)
theorem dX2_summed_89 : decode cX2_summed 89 = .ok (.invokevirtual 182, 3) := dk_182 0 182 (dk_at dksX2_summed_3 21 rfl rfl)
theorem dX2_summed_92 : decode cX2_summed 92 = .ok (.ifCond .lt 5, 3) := dk_155 0 5 (dk_at dksX2_summed_4 0 rfl rfl)
theorem dX2_summed_95 : decode cX2_summed 95 = .ok (.iconst 1, 1) := dk_4 (dk_at dksX2_summed_4 3 rfl rfl)
theorem dX2_summed_96 : decode cX2_summed 96 = .ok (.ireturn, 1) := dk_172 (dk_at dksX2_summed_4 4 rfl rfl)
theorem dX2_summed_97 : decode cX2_summed 97 = .ok (.aload_n 0, 1) := dk_42 (dk_at dksX2_summed_4 5 rfl rfl)
theorem dX2_summed_98 : decode cX2_summed 98 = .ok (.iconst 1, 1) := dk_4 (dk_at dksX2_summed_4 6 rfl rfl)
theorem dX2_summed_99 : decode cX2_summed 99 = .ok (.invokevirtual 211, 3) := dk_182 0 211 (dk_at dksX2_summed_4 7 rfl rfl)
theorem dX2_summed_102 : decode cX2_summed 102 = .ok (.iconst 0, 1) := dk_3 (dk_at dksX2_summed_4 10 rfl rfl)
theorem dX2_summed_103 : decode cX2_summed 103 = .ok (.ireturn, 1) := dk_172 (dk_at dksX2_summed_4 11 rfl rfl)
abbrev cX2_behindOne : ByteArray := prog_20_method_52_code
def yX2_behindOne : MethodName := ⟨RX2, "behindOne", "()I"⟩
def dkwX2_behindOne_6 : List UInt8 := [181, 0, 214, 3, 172]
abbrev dktX2_behindOne_6 : List UInt8 := dkwX2_behindOne_6 ++ []
def dkwX2_behindOne_5 : List UInt8 := [42, 6, 3, 182, 0, 172, 42, 182, 0, 198, 172, 42, 180, 0, 29, 42, 182, 0, 179, 29, 79, 42, 3]
abbrev dktX2_behindOne_5 : List UInt8 := dkwX2_behindOne_5 ++ dktX2_behindOne_6
def dkwX2_behindOne_4 : List UInt8 := [180, 0, 176, 4, 100, 181, 0, 176, 42, 89, 180, 0, 166, 4, 100, 181, 0, 166, 28, 16, 44, 160, 0, 9]
abbrev dktX2_behindOne_4 : List UInt8 := dkwX2_behindOne_4 ++ dktX2_behindOne_5
def dkwX2_behindOne_3 : List UInt8 := [62, 29, 156, 0, 5, 2, 172, 42, 4, 182, 0, 211, 42, 182, 0, 189, 29, 154, 0, 40, 42, 89]
abbrev dktX2_behindOne_3 : List UInt8 := dkwX2_behindOne_3 ++ dktX2_behindOne_4
def dkwX2_behindOne_2 : List UInt8 := [181, 0, 166, 42, 3, 181, 0, 214, 42, 182, 0, 189, 3, 172, 42, 182, 0, 182, 61, 42, 28, 182, 0, 226]
abbrev dktX2_behindOne_2 : List UInt8 := dkwX2_behindOne_2 ++ dktX2_behindOne_3
def dkwX2_behindOne_1 : List UInt8 := [184, 0, 169, 182, 0, 211, 42, 180, 0, 29, 42, 180, 0, 166, 27, 79, 42, 89, 180, 0, 166, 4, 96]
abbrev dktX2_behindOne_1 : List UInt8 := dkwX2_behindOne_1 ++ dktX2_behindOne_2
def dkwX2_behindOne_0 : List UInt8 := [42, 182, 0, 223, 60, 27, 155, 0, 54, 42, 27, 184, 0, 169, 7, 160, 0, 7, 8, 167, 0, 7, 27]
abbrev dktX2_behindOne_0 : List UInt8 := dkwX2_behindOne_0 ++ dktX2_behindOne_1
theorem dksX2_behindOne_0 : cX2_behindOne.data.toList.drop 0 = dktX2_behindOne_0 := by decide +kernel
theorem dksX2_behindOne_1 : cX2_behindOne.data.toList.drop 23 = dktX2_behindOne_1 := dk_seg dksX2_behindOne_0 23 rfl rfl
theorem dksX2_behindOne_2 : cX2_behindOne.data.toList.drop 46 = dktX2_behindOne_2 := dk_seg dksX2_behindOne_1 23 rfl rfl
theorem dksX2_behindOne_3 : cX2_behindOne.data.toList.drop 70 = dktX2_behindOne_3 := dk_seg dksX2_behindOne_2 24 rfl rfl
theorem dksX2_behindOne_4 : cX2_behindOne.data.toList.drop 92 = dktX2_behindOne_4 := dk_seg dksX2_behindOne_3 22 rfl rfl
theorem dksX2_behindOne_5 : cX2_behindOne.data.toList.drop 116 = dktX2_behindOne_5 := dk_seg dksX2_behindOne_4 24 rfl rfl
theorem dksX2_behindOne_6 : cX2_behindOne.data.toList.drop 139 = dktX2_behindOne_6 := dk_seg dksX2_behindOne_5 23 rfl rfl
theorem dX2_behindOne_0 : decode cX2_behindOne 0 = .ok (.aload_n 0, 1) := dk_42 (dk_at dksX2_behindOne_0 0 rfl rfl)
theorem dX2_behindOne_1 : decode cX2_behindOne 1 = .ok (.invokevirtual 223, 3) := dk_182 0 223 (dk_at dksX2_behindOne_0 1 rfl rfl)
theorem dX2_behindOne_4 : decode cX2_behindOne 4 = .ok (.istore_n 1, 1) := dk_60 (dk_at dksX2_behindOne_0 4 rfl rfl)
theorem dX2_behindOne_5 : decode cX2_behindOne 5 = .ok (.iload_n 1, 1) := dk_27 (dk_at dksX2_behindOne_0 5 rfl rfl)
theorem dX2_behindOne_6 : decode cX2_behindOne 6 = .ok (.ifCond .lt 54, 3) := dk_155 0 54 (dk_at dksX2_behindOne_0 6 rfl rfl)
theorem dX2_behindOne_9 : decode cX2_behindOne 9 = .ok (.aload_n 0, 1) := dk_42 (dk_at dksX2_behindOne_0 9 rfl rfl)
theorem dX2_behindOne_10 : decode cX2_behindOne 10 = .ok (.iload_n 1, 1) := dk_27 (dk_at dksX2_behindOne_0 10 rfl rfl)
theorem dX2_behindOne_11 : decode cX2_behindOne 11 = .ok (.invokestatic 169, 3) := dk_184 0 169 (dk_at dksX2_behindOne_0 11 rfl rfl)
theorem dX2_behindOne_14 : decode cX2_behindOne 14 = .ok (.iconst 4, 1) := dk_7 (dk_at dksX2_behindOne_0 14 rfl rfl)
theorem dX2_behindOne_15 : decode cX2_behindOne 15 = .ok (.if_icmp .ne 7, 3) := dk_160 0 7 (dk_at dksX2_behindOne_0 15 rfl rfl)
theorem dX2_behindOne_18 : decode cX2_behindOne 18 = .ok (.iconst 5, 1) := dk_8 (dk_at dksX2_behindOne_0 18 rfl rfl)
theorem dX2_behindOne_19 : decode cX2_behindOne 19 = .ok (.goto 7, 3) := dk_167 0 7 (dk_at dksX2_behindOne_0 19 rfl rfl)
theorem dX2_behindOne_22 : decode cX2_behindOne 22 = .ok (.iload_n 1, 1) := dk_27 (dk_at dksX2_behindOne_0 22 rfl rfl)
theorem dX2_behindOne_23 : decode cX2_behindOne 23 = .ok (.invokestatic 169, 3) := dk_184 0 169 (dk_at dksX2_behindOne_1 0 rfl rfl)
theorem dX2_behindOne_26 : decode cX2_behindOne 26 = .ok (.invokevirtual 211, 3) := dk_182 0 211 (dk_at dksX2_behindOne_1 3 rfl rfl)
theorem dX2_behindOne_29 : decode cX2_behindOne 29 = .ok (.aload_n 0, 1) := dk_42 (dk_at dksX2_behindOne_1 6 rfl rfl)
theorem dX2_behindOne_30 : decode cX2_behindOne 30 = .ok (.getfield 29, 3) := dk_180 0 29 (dk_at dksX2_behindOne_1 7 rfl rfl)
theorem dX2_behindOne_33 : decode cX2_behindOne 33 = .ok (.aload_n 0, 1) := dk_42 (dk_at dksX2_behindOne_1 10 rfl rfl)
theorem dX2_behindOne_34 : decode cX2_behindOne 34 = .ok (.getfield 166, 3) := dk_180 0 166 (dk_at dksX2_behindOne_1 11 rfl rfl)
theorem dX2_behindOne_37 : decode cX2_behindOne 37 = .ok (.iload_n 1, 1) := dk_27 (dk_at dksX2_behindOne_1 14 rfl rfl)
theorem dX2_behindOne_38 : decode cX2_behindOne 38 = .ok (.iastore, 1) := dk_79 (dk_at dksX2_behindOne_1 15 rfl rfl)
theorem dX2_behindOne_39 : decode cX2_behindOne 39 = .ok (.aload_n 0, 1) := dk_42 (dk_at dksX2_behindOne_1 16 rfl rfl)
theorem dX2_behindOne_40 : decode cX2_behindOne 40 = .ok (.dup, 1) := dk_89 (dk_at dksX2_behindOne_1 17 rfl rfl)
theorem dX2_behindOne_41 : decode cX2_behindOne 41 = .ok (.getfield 166, 3) := dk_180 0 166 (dk_at dksX2_behindOne_1 18 rfl rfl)
theorem dX2_behindOne_44 : decode cX2_behindOne 44 = .ok (.iconst 1, 1) := dk_4 (dk_at dksX2_behindOne_1 21 rfl rfl)
theorem dX2_behindOne_45 : decode cX2_behindOne 45 = .ok (.iadd, 1) := dk_96 (dk_at dksX2_behindOne_1 22 rfl rfl)
theorem dX2_behindOne_46 : decode cX2_behindOne 46 = .ok (.putfield 166, 3) := dk_181 0 166 (dk_at dksX2_behindOne_2 0 rfl rfl)
theorem dX2_behindOne_49 : decode cX2_behindOne 49 = .ok (.aload_n 0, 1) := dk_42 (dk_at dksX2_behindOne_2 3 rfl rfl)
theorem dX2_behindOne_50 : decode cX2_behindOne 50 = .ok (.iconst 0, 1) := dk_3 (dk_at dksX2_behindOne_2 4 rfl rfl)
theorem dX2_behindOne_51 : decode cX2_behindOne 51 = .ok (.putfield 214, 3) := dk_181 0 214 (dk_at dksX2_behindOne_2 5 rfl rfl)
theorem dX2_behindOne_54 : decode cX2_behindOne 54 = .ok (.aload_n 0, 1) := dk_42 (dk_at dksX2_behindOne_2 8 rfl rfl)
theorem dX2_behindOne_55 : decode cX2_behindOne 55 = .ok (.invokevirtual 189, 3) := dk_182 0 189 (dk_at dksX2_behindOne_2 9 rfl rfl)
theorem dX2_behindOne_58 : decode cX2_behindOne 58 = .ok (.iconst 0, 1) := dk_3 (dk_at dksX2_behindOne_2 12 rfl rfl)
theorem dX2_behindOne_59 : decode cX2_behindOne 59 = .ok (.ireturn, 1) := dk_172 (dk_at dksX2_behindOne_2 13 rfl rfl)
theorem dX2_behindOne_60 : decode cX2_behindOne 60 = .ok (.aload_n 0, 1) := dk_42 (dk_at dksX2_behindOne_2 14 rfl rfl)
theorem dX2_behindOne_61 : decode cX2_behindOne 61 = .ok (.invokevirtual 182, 3) := dk_182 0 182 (dk_at dksX2_behindOne_2 15 rfl rfl)
theorem dX2_behindOne_64 : decode cX2_behindOne 64 = .ok (.istore_n 2, 1) := dk_61 (dk_at dksX2_behindOne_2 18 rfl rfl)
theorem dX2_behindOne_65 : decode cX2_behindOne 65 = .ok (.aload_n 0, 1) := dk_42 (dk_at dksX2_behindOne_2 19 rfl rfl)
theorem dX2_behindOne_66 : decode cX2_behindOne 66 = .ok (.iload_n 2, 1) := dk_28 (dk_at dksX2_behindOne_2 20 rfl rfl)
theorem dX2_behindOne_67 : decode cX2_behindOne 67 = .ok (.invokevirtual 226, 3) := dk_182 0 226 (dk_at dksX2_behindOne_2 21 rfl rfl)
theorem dX2_behindOne_70 : decode cX2_behindOne 70 = .ok (.istore_n 3, 1) := dk_62 (dk_at dksX2_behindOne_3 0 rfl rfl)
theorem dX2_behindOne_71 : decode cX2_behindOne 71 = .ok (.iload_n 3, 1) := dk_29 (dk_at dksX2_behindOne_3 1 rfl rfl)
theorem dX2_behindOne_72 : decode cX2_behindOne 72 = .ok (.ifCond .ge 5, 3) := dk_156 0 5 (dk_at dksX2_behindOne_3 2 rfl rfl)
theorem dX2_behindOne_75 : decode cX2_behindOne 75 = .ok (.iconst (-1), 1) := dk_2 (dk_at dksX2_behindOne_3 5 rfl rfl)
theorem dX2_behindOne_76 : decode cX2_behindOne 76 = .ok (.ireturn, 1) := dk_172 (dk_at dksX2_behindOne_3 6 rfl rfl)
theorem dX2_behindOne_77 : decode cX2_behindOne 77 = .ok (.aload_n 0, 1) := dk_42 (dk_at dksX2_behindOne_3 7 rfl rfl)
theorem dX2_behindOne_78 : decode cX2_behindOne 78 = .ok (.iconst 1, 1) := dk_4 (dk_at dksX2_behindOne_3 8 rfl rfl)
theorem dX2_behindOne_79 : decode cX2_behindOne 79 = .ok (.invokevirtual 211, 3) := dk_182 0 211 (dk_at dksX2_behindOne_3 9 rfl rfl)
theorem dX2_behindOne_82 : decode cX2_behindOne 82 = .ok (.aload_n 0, 1) := dk_42 (dk_at dksX2_behindOne_3 12 rfl rfl)
theorem dX2_behindOne_83 : decode cX2_behindOne 83 = .ok (.invokevirtual 189, 3) := dk_182 0 189 (dk_at dksX2_behindOne_3 13 rfl rfl)
theorem dX2_behindOne_86 : decode cX2_behindOne 86 = .ok (.iload_n 3, 1) := dk_29 (dk_at dksX2_behindOne_3 16 rfl rfl)
theorem dX2_behindOne_87 : decode cX2_behindOne 87 = .ok (.ifCond .ne 40, 3) := dk_154 0 40 (dk_at dksX2_behindOne_3 17 rfl rfl)
theorem dX2_behindOne_90 : decode cX2_behindOne 90 = .ok (.aload_n 0, 1) := dk_42 (dk_at dksX2_behindOne_3 20 rfl rfl)
theorem dX2_behindOne_91 : decode cX2_behindOne 91 = .ok (.dup, 1) := dk_89 (dk_at dksX2_behindOne_3 21 rfl rfl)
theorem dX2_behindOne_92 : decode cX2_behindOne 92 = .ok (.getfield 176, 3) := dk_180 0 176 (dk_at dksX2_behindOne_4 0 rfl rfl)
theorem dX2_behindOne_95 : decode cX2_behindOne 95 = .ok (.iconst 1, 1) := dk_4 (dk_at dksX2_behindOne_4 3 rfl rfl)
theorem dX2_behindOne_96 : decode cX2_behindOne 96 = .ok (.isub, 1) := dk_100 (dk_at dksX2_behindOne_4 4 rfl rfl)
theorem dX2_behindOne_97 : decode cX2_behindOne 97 = .ok (.putfield 176, 3) := dk_181 0 176 (dk_at dksX2_behindOne_4 5 rfl rfl)
theorem dX2_behindOne_100 : decode cX2_behindOne 100 = .ok (.aload_n 0, 1) := dk_42 (dk_at dksX2_behindOne_4 8 rfl rfl)
theorem dX2_behindOne_101 : decode cX2_behindOne 101 = .ok (.dup, 1) := dk_89 (dk_at dksX2_behindOne_4 9 rfl rfl)
theorem dX2_behindOne_102 : decode cX2_behindOne 102 = .ok (.getfield 166, 3) := dk_180 0 166 (dk_at dksX2_behindOne_4 10 rfl rfl)
theorem dX2_behindOne_105 : decode cX2_behindOne 105 = .ok (.iconst 1, 1) := dk_4 (dk_at dksX2_behindOne_4 13 rfl rfl)
theorem dX2_behindOne_106 : decode cX2_behindOne 106 = .ok (.isub, 1) := dk_100 (dk_at dksX2_behindOne_4 14 rfl rfl)
theorem dX2_behindOne_107 : decode cX2_behindOne 107 = .ok (.putfield 166, 3) := dk_181 0 166 (dk_at dksX2_behindOne_4 15 rfl rfl)
theorem dX2_behindOne_110 : decode cX2_behindOne 110 = .ok (.iload_n 2, 1) := dk_28 (dk_at dksX2_behindOne_4 18 rfl rfl)
theorem dX2_behindOne_111 : decode cX2_behindOne 111 = .ok (.bipush 44, 2) := dk_16 44 (dk_at dksX2_behindOne_4 19 rfl rfl)
theorem dX2_behindOne_113 : decode cX2_behindOne 113 = .ok (.if_icmp .ne 9, 3) := dk_160 0 9 (dk_at dksX2_behindOne_4 21 rfl rfl)
theorem dX2_behindOne_116 : decode cX2_behindOne 116 = .ok (.aload_n 0, 1) := dk_42 (dk_at dksX2_behindOne_5 0 rfl rfl)
theorem dX2_behindOne_117 : decode cX2_behindOne 117 = .ok (.iconst 3, 1) := dk_6 (dk_at dksX2_behindOne_5 1 rfl rfl)
theorem dX2_behindOne_118 : decode cX2_behindOne 118 = .ok (.iconst 0, 1) := dk_3 (dk_at dksX2_behindOne_5 2 rfl rfl)
theorem dX2_behindOne_119 : decode cX2_behindOne 119 = .ok (.invokevirtual 172, 3) := dk_182 0 172 (dk_at dksX2_behindOne_5 3 rfl rfl)
theorem dX2_behindOne_122 : decode cX2_behindOne 122 = .ok (.aload_n 0, 1) := dk_42 (dk_at dksX2_behindOne_5 6 rfl rfl)
theorem dX2_behindOne_123 : decode cX2_behindOne 123 = .ok (.invokevirtual 198, 3) := dk_182 0 198 (dk_at dksX2_behindOne_5 7 rfl rfl)
theorem dX2_behindOne_126 : decode cX2_behindOne 126 = .ok (.ireturn, 1) := dk_172 (dk_at dksX2_behindOne_5 10 rfl rfl)
theorem dX2_behindOne_127 : decode cX2_behindOne 127 = .ok (.aload_n 0, 1) := dk_42 (dk_at dksX2_behindOne_5 11 rfl rfl)
theorem dX2_behindOne_128 : decode cX2_behindOne 128 = .ok (.getfield 29, 3) := dk_180 0 29 (dk_at dksX2_behindOne_5 12 rfl rfl)
theorem dX2_behindOne_131 : decode cX2_behindOne 131 = .ok (.aload_n 0, 1) := dk_42 (dk_at dksX2_behindOne_5 15 rfl rfl)
theorem dX2_behindOne_132 : decode cX2_behindOne 132 = .ok (.invokevirtual 179, 3) := dk_182 0 179 (dk_at dksX2_behindOne_5 16 rfl rfl)
theorem dX2_behindOne_135 : decode cX2_behindOne 135 = .ok (.iload_n 3, 1) := dk_29 (dk_at dksX2_behindOne_5 19 rfl rfl)
theorem dX2_behindOne_136 : decode cX2_behindOne 136 = .ok (.iastore, 1) := dk_79 (dk_at dksX2_behindOne_5 20 rfl rfl)
theorem dX2_behindOne_137 : decode cX2_behindOne 137 = .ok (.aload_n 0, 1) := dk_42 (dk_at dksX2_behindOne_5 21 rfl rfl)
theorem dX2_behindOne_138 : decode cX2_behindOne 138 = .ok (.iconst 0, 1) := dk_3 (dk_at dksX2_behindOne_5 22 rfl rfl)
theorem dX2_behindOne_139 : decode cX2_behindOne 139 = .ok (.putfield 214, 3) := dk_181 0 214 (dk_at dksX2_behindOne_6 0 rfl rfl)
theorem dX2_behindOne_142 : decode cX2_behindOne 142 = .ok (.iconst 0, 1) := dk_3 (dk_at dksX2_behindOne_6 3 rfl rfl)
theorem dX2_behindOne_143 : decode cX2_behindOne 143 = .ok (.ireturn, 1) := dk_172 (dk_at dksX2_behindOne_6 4 rfl rfl)
abbrev cX2_betweenOf : ByteArray := prog_20_method_50_code
def yX2_betweenOf : MethodName := ⟨RX2, "betweenOf", "()I"⟩
def dkwX2_betweenOf_4 : List UInt8 := [184, 0, 137, 182, 0, 204, 153, 0, 8, 16, 22, 167, 0, 4, 2, 172]
abbrev dktX2_betweenOf_4 : List UInt8 := dkwX2_betweenOf_4 ++ []
def dkwX2_betweenOf_3 : List UInt8 := [16, 110, 16, 100, 184, 0, 141, 182, 0, 204, 153, 0, 8, 16, 21, 167, 0, 23, 42, 16, 111, 16, 114]
abbrev dktX2_betweenOf_3 : List UInt8 := dkwX2_betweenOf_3 ++ dktX2_betweenOf_4
def dkwX2_betweenOf_2 : List UInt8 := [42, 182, 0, 185, 154, 0, 5, 2, 172, 42, 182, 0, 217, 154, 0, 8, 42, 182, 0, 220, 172, 42, 16, 97]
abbrev dktX2_betweenOf_2 : List UInt8 := dkwX2_betweenOf_2 ++ dktX2_betweenOf_3
def dkwX2_betweenOf_1 : List UInt8 := [42, 180, 0, 115, 16, 42, 160, 0, 6, 16, 8, 172, 42, 180, 0, 115, 16, 47, 160, 0, 6, 16, 9, 172]
abbrev dktX2_betweenOf_1 : List UInt8 := dkwX2_betweenOf_1 ++ dktX2_betweenOf_2
def dkwX2_betweenOf_0 : List UInt8 := [42, 180, 0, 115, 16, 43, 160, 0, 6, 16, 6, 172, 42, 180, 0, 115, 16, 45, 160, 0, 6, 16, 7, 172]
abbrev dktX2_betweenOf_0 : List UInt8 := dkwX2_betweenOf_0 ++ dktX2_betweenOf_1
theorem dksX2_betweenOf_0 : cX2_betweenOf.data.toList.drop 0 = dktX2_betweenOf_0 := by decide +kernel
theorem dksX2_betweenOf_1 : cX2_betweenOf.data.toList.drop 24 = dktX2_betweenOf_1 := dk_seg dksX2_betweenOf_0 24 rfl rfl
theorem dksX2_betweenOf_2 : cX2_betweenOf.data.toList.drop 48 = dktX2_betweenOf_2 := dk_seg dksX2_betweenOf_1 24 rfl rfl
theorem dksX2_betweenOf_3 : cX2_betweenOf.data.toList.drop 72 = dktX2_betweenOf_3 := dk_seg dksX2_betweenOf_2 24 rfl rfl
theorem dksX2_betweenOf_4 : cX2_betweenOf.data.toList.drop 95 = dktX2_betweenOf_4 := dk_seg dksX2_betweenOf_3 23 rfl rfl
theorem dX2_betweenOf_0 : decode cX2_betweenOf 0 = .ok (.aload_n 0, 1) := dk_42 (dk_at dksX2_betweenOf_0 0 rfl rfl)
theorem dX2_betweenOf_1 : decode cX2_betweenOf 1 = .ok (.getfield 115, 3) := dk_180 0 115 (dk_at dksX2_betweenOf_0 1 rfl rfl)
theorem dX2_betweenOf_4 : decode cX2_betweenOf 4 = .ok (.bipush 43, 2) := dk_16 43 (dk_at dksX2_betweenOf_0 4 rfl rfl)
theorem dX2_betweenOf_6 : decode cX2_betweenOf 6 = .ok (.if_icmp .ne 6, 3) := dk_160 0 6 (dk_at dksX2_betweenOf_0 6 rfl rfl)
theorem dX2_betweenOf_9 : decode cX2_betweenOf 9 = .ok (.bipush 6, 2) := dk_16 6 (dk_at dksX2_betweenOf_0 9 rfl rfl)
theorem dX2_betweenOf_11 : decode cX2_betweenOf 11 = .ok (.ireturn, 1) := dk_172 (dk_at dksX2_betweenOf_0 11 rfl rfl)
theorem dX2_betweenOf_12 : decode cX2_betweenOf 12 = .ok (.aload_n 0, 1) := dk_42 (dk_at dksX2_betweenOf_0 12 rfl rfl)
theorem dX2_betweenOf_13 : decode cX2_betweenOf 13 = .ok (.getfield 115, 3) := dk_180 0 115 (dk_at dksX2_betweenOf_0 13 rfl rfl)
theorem dX2_betweenOf_16 : decode cX2_betweenOf 16 = .ok (.bipush 45, 2) := dk_16 45 (dk_at dksX2_betweenOf_0 16 rfl rfl)
theorem dX2_betweenOf_18 : decode cX2_betweenOf 18 = .ok (.if_icmp .ne 6, 3) := dk_160 0 6 (dk_at dksX2_betweenOf_0 18 rfl rfl)
theorem dX2_betweenOf_21 : decode cX2_betweenOf 21 = .ok (.bipush 7, 2) := dk_16 7 (dk_at dksX2_betweenOf_0 21 rfl rfl)
theorem dX2_betweenOf_23 : decode cX2_betweenOf 23 = .ok (.ireturn, 1) := dk_172 (dk_at dksX2_betweenOf_0 23 rfl rfl)
theorem dX2_betweenOf_24 : decode cX2_betweenOf 24 = .ok (.aload_n 0, 1) := dk_42 (dk_at dksX2_betweenOf_1 0 rfl rfl)
theorem dX2_betweenOf_25 : decode cX2_betweenOf 25 = .ok (.getfield 115, 3) := dk_180 0 115 (dk_at dksX2_betweenOf_1 1 rfl rfl)
theorem dX2_betweenOf_28 : decode cX2_betweenOf 28 = .ok (.bipush 42, 2) := dk_16 42 (dk_at dksX2_betweenOf_1 4 rfl rfl)
theorem dX2_betweenOf_30 : decode cX2_betweenOf 30 = .ok (.if_icmp .ne 6, 3) := dk_160 0 6 (dk_at dksX2_betweenOf_1 6 rfl rfl)
theorem dX2_betweenOf_33 : decode cX2_betweenOf 33 = .ok (.bipush 8, 2) := dk_16 8 (dk_at dksX2_betweenOf_1 9 rfl rfl)
theorem dX2_betweenOf_35 : decode cX2_betweenOf 35 = .ok (.ireturn, 1) := dk_172 (dk_at dksX2_betweenOf_1 11 rfl rfl)
theorem dX2_betweenOf_36 : decode cX2_betweenOf 36 = .ok (.aload_n 0, 1) := dk_42 (dk_at dksX2_betweenOf_1 12 rfl rfl)
theorem dX2_betweenOf_37 : decode cX2_betweenOf 37 = .ok (.getfield 115, 3) := dk_180 0 115 (dk_at dksX2_betweenOf_1 13 rfl rfl)
theorem dX2_betweenOf_40 : decode cX2_betweenOf 40 = .ok (.bipush 47, 2) := dk_16 47 (dk_at dksX2_betweenOf_1 16 rfl rfl)
theorem dX2_betweenOf_42 : decode cX2_betweenOf 42 = .ok (.if_icmp .ne 6, 3) := dk_160 0 6 (dk_at dksX2_betweenOf_1 18 rfl rfl)
theorem dX2_betweenOf_45 : decode cX2_betweenOf 45 = .ok (.bipush 9, 2) := dk_16 9 (dk_at dksX2_betweenOf_1 21 rfl rfl)
theorem dX2_betweenOf_47 : decode cX2_betweenOf 47 = .ok (.ireturn, 1) := dk_172 (dk_at dksX2_betweenOf_1 23 rfl rfl)
theorem dX2_betweenOf_48 : decode cX2_betweenOf 48 = .ok (.aload_n 0, 1) := dk_42 (dk_at dksX2_betweenOf_2 0 rfl rfl)
theorem dX2_betweenOf_49 : decode cX2_betweenOf 49 = .ok (.invokevirtual 185, 3) := dk_182 0 185 (dk_at dksX2_betweenOf_2 1 rfl rfl)
theorem dX2_betweenOf_52 : decode cX2_betweenOf 52 = .ok (.ifCond .ne 5, 3) := dk_154 0 5 (dk_at dksX2_betweenOf_2 4 rfl rfl)
theorem dX2_betweenOf_55 : decode cX2_betweenOf 55 = .ok (.iconst (-1), 1) := dk_2 (dk_at dksX2_betweenOf_2 7 rfl rfl)
theorem dX2_betweenOf_56 : decode cX2_betweenOf 56 = .ok (.ireturn, 1) := dk_172 (dk_at dksX2_betweenOf_2 8 rfl rfl)
theorem dX2_betweenOf_57 : decode cX2_betweenOf 57 = .ok (.aload_n 0, 1) := dk_42 (dk_at dksX2_betweenOf_2 9 rfl rfl)
theorem dX2_betweenOf_58 : decode cX2_betweenOf 58 = .ok (.invokevirtual 217, 3) := dk_182 0 217 (dk_at dksX2_betweenOf_2 10 rfl rfl)
theorem dX2_betweenOf_61 : decode cX2_betweenOf 61 = .ok (.ifCond .ne 8, 3) := dk_154 0 8 (dk_at dksX2_betweenOf_2 13 rfl rfl)
theorem dX2_betweenOf_64 : decode cX2_betweenOf 64 = .ok (.aload_n 0, 1) := dk_42 (dk_at dksX2_betweenOf_2 16 rfl rfl)
theorem dX2_betweenOf_65 : decode cX2_betweenOf 65 = .ok (.invokevirtual 220, 3) := dk_182 0 220 (dk_at dksX2_betweenOf_2 17 rfl rfl)
theorem dX2_betweenOf_68 : decode cX2_betweenOf 68 = .ok (.ireturn, 1) := dk_172 (dk_at dksX2_betweenOf_2 20 rfl rfl)
theorem dX2_betweenOf_69 : decode cX2_betweenOf 69 = .ok (.aload_n 0, 1) := dk_42 (dk_at dksX2_betweenOf_2 21 rfl rfl)
theorem dX2_betweenOf_70 : decode cX2_betweenOf 70 = .ok (.bipush 97, 2) := dk_16 97 (dk_at dksX2_betweenOf_2 22 rfl rfl)
theorem dX2_betweenOf_72 : decode cX2_betweenOf 72 = .ok (.bipush 110, 2) := dk_16 110 (dk_at dksX2_betweenOf_3 0 rfl rfl)
theorem dX2_betweenOf_74 : decode cX2_betweenOf 74 = .ok (.bipush 100, 2) := dk_16 100 (dk_at dksX2_betweenOf_3 2 rfl rfl)
theorem dX2_betweenOf_76 : decode cX2_betweenOf 76 = .ok (.invokestatic 141, 3) := dk_184 0 141 (dk_at dksX2_betweenOf_3 4 rfl rfl)
theorem dX2_betweenOf_79 : decode cX2_betweenOf 79 = .ok (.invokevirtual 204, 3) := dk_182 0 204 (dk_at dksX2_betweenOf_3 7 rfl rfl)
theorem dX2_betweenOf_82 : decode cX2_betweenOf 82 = .ok (.ifCond .eq 8, 3) := dk_153 0 8 (dk_at dksX2_betweenOf_3 10 rfl rfl)
theorem dX2_betweenOf_85 : decode cX2_betweenOf 85 = .ok (.bipush 21, 2) := dk_16 21 (dk_at dksX2_betweenOf_3 13 rfl rfl)
theorem dX2_betweenOf_87 : decode cX2_betweenOf 87 = .ok (.goto 23, 3) := dk_167 0 23 (dk_at dksX2_betweenOf_3 15 rfl rfl)
theorem dX2_betweenOf_90 : decode cX2_betweenOf 90 = .ok (.aload_n 0, 1) := dk_42 (dk_at dksX2_betweenOf_3 18 rfl rfl)
theorem dX2_betweenOf_91 : decode cX2_betweenOf 91 = .ok (.bipush 111, 2) := dk_16 111 (dk_at dksX2_betweenOf_3 19 rfl rfl)
theorem dX2_betweenOf_93 : decode cX2_betweenOf 93 = .ok (.bipush 114, 2) := dk_16 114 (dk_at dksX2_betweenOf_3 21 rfl rfl)
theorem dX2_betweenOf_95 : decode cX2_betweenOf 95 = .ok (.invokestatic 137, 3) := dk_184 0 137 (dk_at dksX2_betweenOf_4 0 rfl rfl)
theorem dX2_betweenOf_98 : decode cX2_betweenOf 98 = .ok (.invokevirtual 204, 3) := dk_182 0 204 (dk_at dksX2_betweenOf_4 3 rfl rfl)
theorem dX2_betweenOf_101 : decode cX2_betweenOf 101 = .ok (.ifCond .eq 8, 3) := dk_153 0 8 (dk_at dksX2_betweenOf_4 6 rfl rfl)
theorem dX2_betweenOf_104 : decode cX2_betweenOf 104 = .ok (.bipush 22, 2) := dk_16 22 (dk_at dksX2_betweenOf_4 9 rfl rfl)
theorem dX2_betweenOf_106 : decode cX2_betweenOf 106 = .ok (.goto 4, 3) := dk_167 0 4 (dk_at dksX2_betweenOf_4 11 rfl rfl)
theorem dX2_betweenOf_109 : decode cX2_betweenOf 109 = .ok (.iconst (-1), 1) := dk_2 (dk_at dksX2_betweenOf_4 14 rfl rfl)
theorem dX2_betweenOf_110 : decode cX2_betweenOf 110 = .ok (.ireturn, 1) := dk_172 (dk_at dksX2_betweenOf_4 15 rfl rfl)
abbrev cX2_isAsking : ByteArray := prog_20_method_43_code
def yX2_isAsking : MethodName := ⟨RX2, "isAsking", "()Z"⟩
def dkwX2_isAsking_0 : List UInt8 := [42, 182, 0, 182, 16, 42, 159, 0, 12, 42, 182, 0, 182, 16, 45, 160, 0, 7, 4, 167, 0, 4, 3, 172]
abbrev dktX2_isAsking_0 : List UInt8 := dkwX2_isAsking_0 ++ []
theorem dksX2_isAsking_0 : cX2_isAsking.data.toList.drop 0 = dktX2_isAsking_0 := by decide +kernel
theorem dX2_isAsking_0 : decode cX2_isAsking 0 = .ok (.aload_n 0, 1) := dk_42 (dk_at dksX2_isAsking_0 0 rfl rfl)
theorem dX2_isAsking_1 : decode cX2_isAsking 1 = .ok (.invokevirtual 182, 3) := dk_182 0 182 (dk_at dksX2_isAsking_0 1 rfl rfl)
theorem dX2_isAsking_4 : decode cX2_isAsking 4 = .ok (.bipush 42, 2) := dk_16 42 (dk_at dksX2_isAsking_0 4 rfl rfl)
theorem dX2_isAsking_6 : decode cX2_isAsking 6 = .ok (.if_icmp .eq 12, 3) := dk_159 0 12 (dk_at dksX2_isAsking_0 6 rfl rfl)
theorem dX2_isAsking_9 : decode cX2_isAsking 9 = .ok (.aload_n 0, 1) := dk_42 (dk_at dksX2_isAsking_0 9 rfl rfl)
theorem dX2_isAsking_10 : decode cX2_isAsking 10 = .ok (.invokevirtual 182, 3) := dk_182 0 182 (dk_at dksX2_isAsking_0 10 rfl rfl)
theorem dX2_isAsking_13 : decode cX2_isAsking 13 = .ok (.bipush 45, 2) := dk_16 45 (dk_at dksX2_isAsking_0 13 rfl rfl)
theorem dX2_isAsking_15 : decode cX2_isAsking 15 = .ok (.if_icmp .ne 7, 3) := dk_160 0 7 (dk_at dksX2_isAsking_0 15 rfl rfl)
theorem dX2_isAsking_18 : decode cX2_isAsking 18 = .ok (.iconst 1, 1) := dk_4 (dk_at dksX2_isAsking_0 18 rfl rfl)
theorem dX2_isAsking_19 : decode cX2_isAsking 19 = .ok (.goto 4, 3) := dk_167 0 4 (dk_at dksX2_isAsking_0 19 rfl rfl)
theorem dX2_isAsking_22 : decode cX2_isAsking 22 = .ok (.iconst 0, 1) := dk_3 (dk_at dksX2_isAsking_0 22 rfl rfl)
theorem dX2_isAsking_23 : decode cX2_isAsking 23 = .ok (.ireturn, 1) := dk_172 (dk_at dksX2_isAsking_0 23 rfl rfl)
abbrev cX2_openNow : ByteArray := prog_20_method_42_code
def yX2_openNow : MethodName := ⟨RX2, "openNow", "()I"⟩
def dkwX2_openNow_0 : List UInt8 := [42, 182, 0, 179, 156, 0, 7, 2, 167, 0, 12, 42, 180, 0, 29, 42, 182, 0, 179, 46, 172]
abbrev dktX2_openNow_0 : List UInt8 := dkwX2_openNow_0 ++ []
theorem dksX2_openNow_0 : cX2_openNow.data.toList.drop 0 = dktX2_openNow_0 := by decide +kernel
theorem dX2_openNow_0 : decode cX2_openNow 0 = .ok (.aload_n 0, 1) := dk_42 (dk_at dksX2_openNow_0 0 rfl rfl)
theorem dX2_openNow_1 : decode cX2_openNow 1 = .ok (.invokevirtual 179, 3) := dk_182 0 179 (dk_at dksX2_openNow_0 1 rfl rfl)
theorem dX2_openNow_4 : decode cX2_openNow 4 = .ok (.ifCond .ge 7, 3) := dk_156 0 7 (dk_at dksX2_openNow_0 4 rfl rfl)
theorem dX2_openNow_7 : decode cX2_openNow 7 = .ok (.iconst (-1), 1) := dk_2 (dk_at dksX2_openNow_0 7 rfl rfl)
theorem dX2_openNow_8 : decode cX2_openNow 8 = .ok (.goto 12, 3) := dk_167 0 12 (dk_at dksX2_openNow_0 8 rfl rfl)
theorem dX2_openNow_11 : decode cX2_openNow 11 = .ok (.aload_n 0, 1) := dk_42 (dk_at dksX2_openNow_0 11 rfl rfl)
theorem dX2_openNow_12 : decode cX2_openNow 12 = .ok (.getfield 29, 3) := dk_180 0 29 (dk_at dksX2_openNow_0 12 rfl rfl)
theorem dX2_openNow_15 : decode cX2_openNow 15 = .ok (.aload_n 0, 1) := dk_42 (dk_at dksX2_openNow_0 15 rfl rfl)
theorem dX2_openNow_16 : decode cX2_openNow 16 = .ok (.invokevirtual 179, 3) := dk_182 0 179 (dk_at dksX2_openNow_0 16 rfl rfl)
theorem dX2_openNow_19 : decode cX2_openNow 19 = .ok (.iaload, 1) := dk_46 (dk_at dksX2_openNow_0 19 rfl rfl)
theorem dX2_openNow_20 : decode cX2_openNow 20 = .ok (.ireturn, 1) := dk_172 (dk_at dksX2_openNow_0 20 rfl rfl)
abbrev cX2_openAt : ByteArray := prog_20_method_41_code
def yX2_openAt : MethodName := ⟨RX2, "openAt", "()I"⟩
def dkwX2_openAt_1 : List UInt8 := [132, 1, 255, 167, 255, 238, 27, 172]
abbrev dktX2_openAt_1 : List UInt8 := dkwX2_openAt_1 ++ []
def dkwX2_openAt_0 : List UInt8 := [42, 180, 0, 166, 4, 100, 60, 27, 155, 0, 20, 42, 180, 0, 29, 27, 46, 16, 40, 162, 0, 9]
abbrev dktX2_openAt_0 : List UInt8 := dkwX2_openAt_0 ++ dktX2_openAt_1
theorem dksX2_openAt_0 : cX2_openAt.data.toList.drop 0 = dktX2_openAt_0 := by decide +kernel
theorem dksX2_openAt_1 : cX2_openAt.data.toList.drop 22 = dktX2_openAt_1 := dk_seg dksX2_openAt_0 22 rfl rfl
theorem dX2_openAt_0 : decode cX2_openAt 0 = .ok (.aload_n 0, 1) := dk_42 (dk_at dksX2_openAt_0 0 rfl rfl)
theorem dX2_openAt_1 : decode cX2_openAt 1 = .ok (.getfield 166, 3) := dk_180 0 166 (dk_at dksX2_openAt_0 1 rfl rfl)
theorem dX2_openAt_4 : decode cX2_openAt 4 = .ok (.iconst 1, 1) := dk_4 (dk_at dksX2_openAt_0 4 rfl rfl)
theorem dX2_openAt_5 : decode cX2_openAt 5 = .ok (.isub, 1) := dk_100 (dk_at dksX2_openAt_0 5 rfl rfl)
theorem dX2_openAt_6 : decode cX2_openAt 6 = .ok (.istore_n 1, 1) := dk_60 (dk_at dksX2_openAt_0 6 rfl rfl)
theorem dX2_openAt_7 : decode cX2_openAt 7 = .ok (.iload_n 1, 1) := dk_27 (dk_at dksX2_openAt_0 7 rfl rfl)
theorem dX2_openAt_8 : decode cX2_openAt 8 = .ok (.ifCond .lt 20, 3) := dk_155 0 20 (dk_at dksX2_openAt_0 8 rfl rfl)
theorem dX2_openAt_11 : decode cX2_openAt 11 = .ok (.aload_n 0, 1) := dk_42 (dk_at dksX2_openAt_0 11 rfl rfl)
theorem dX2_openAt_12 : decode cX2_openAt 12 = .ok (.getfield 29, 3) := dk_180 0 29 (dk_at dksX2_openAt_0 12 rfl rfl)
theorem dX2_openAt_15 : decode cX2_openAt 15 = .ok (.iload_n 1, 1) := dk_27 (dk_at dksX2_openAt_0 15 rfl rfl)
theorem dX2_openAt_16 : decode cX2_openAt 16 = .ok (.iaload, 1) := dk_46 (dk_at dksX2_openAt_0 16 rfl rfl)
theorem dX2_openAt_17 : decode cX2_openAt 17 = .ok (.bipush 40, 2) := dk_16 40 (dk_at dksX2_openAt_0 17 rfl rfl)
theorem dX2_openAt_19 : decode cX2_openAt 19 = .ok (.if_icmp .ge 9, 3) := dk_162 0 9 (dk_at dksX2_openAt_0 19 rfl rfl)
theorem dX2_openAt_22 : decode cX2_openAt 22 = .ok (.iinc 1 (-1), 3) := dk_132 1 255 (dk_at dksX2_openAt_1 0 rfl rfl)
theorem dX2_openAt_25 : decode cX2_openAt 25 = .ok (.goto (-18), 3) := dk_167 255 238 (dk_at dksX2_openAt_1 3 rfl rfl)
theorem dX2_openAt_28 : decode cX2_openAt 28 = .ok (.iload_n 1, 1) := dk_27 (dk_at dksX2_openAt_1 6 rfl rfl)
theorem dX2_openAt_29 : decode cX2_openAt 29 = .ok (.ireturn, 1) := dk_172 (dk_at dksX2_openAt_1 7 rfl rfl)
abbrev cX2_isCompared : ByteArray := prog_20_method_44_code
def yX2_isCompared : MethodName := ⟨RX2, "isCompared", "()Z"⟩
def dkwX2_isCompared_2 : List UInt8 := [167, 0, 4, 3, 172]
abbrev dktX2_isCompared_2 : List UInt8 := dkwX2_isCompared_2 ++ []
def dkwX2_isCompared_1 : List UInt8 := [132, 1, 255, 167, 255, 236, 27, 155, 0, 20, 42, 180, 0, 29, 27, 46, 184, 0, 169, 7, 160, 0, 7, 4]
abbrev dktX2_isCompared_1 : List UInt8 := dkwX2_isCompared_1 ++ dktX2_isCompared_2
def dkwX2_isCompared_0 : List UInt8 := [42, 180, 0, 166, 4, 100, 60, 27, 155, 0, 22, 42, 180, 0, 29, 27, 46, 184, 0, 169, 7, 164, 0, 9]
abbrev dktX2_isCompared_0 : List UInt8 := dkwX2_isCompared_0 ++ dktX2_isCompared_1
theorem dksX2_isCompared_0 : cX2_isCompared.data.toList.drop 0 = dktX2_isCompared_0 := by decide +kernel
theorem dksX2_isCompared_1 : cX2_isCompared.data.toList.drop 24 = dktX2_isCompared_1 := dk_seg dksX2_isCompared_0 24 rfl rfl
theorem dksX2_isCompared_2 : cX2_isCompared.data.toList.drop 48 = dktX2_isCompared_2 := dk_seg dksX2_isCompared_1 24 rfl rfl
theorem dX2_isCompared_0 : decode cX2_isCompared 0 = .ok (.aload_n 0, 1) := dk_42 (dk_at dksX2_isCompared_0 0 rfl rfl)
theorem dX2_isCompared_1 : decode cX2_isCompared 1 = .ok (.getfield 166, 3) := dk_180 0 166 (dk_at dksX2_isCompared_0 1 rfl rfl)
theorem dX2_isCompared_4 : decode cX2_isCompared 4 = .ok (.iconst 1, 1) := dk_4 (dk_at dksX2_isCompared_0 4 rfl rfl)
theorem dX2_isCompared_5 : decode cX2_isCompared 5 = .ok (.isub, 1) := dk_100 (dk_at dksX2_isCompared_0 5 rfl rfl)
theorem dX2_isCompared_6 : decode cX2_isCompared 6 = .ok (.istore_n 1, 1) := dk_60 (dk_at dksX2_isCompared_0 6 rfl rfl)
theorem dX2_isCompared_7 : decode cX2_isCompared 7 = .ok (.iload_n 1, 1) := dk_27 (dk_at dksX2_isCompared_0 7 rfl rfl)
theorem dX2_isCompared_8 : decode cX2_isCompared 8 = .ok (.ifCond .lt 22, 3) := dk_155 0 22 (dk_at dksX2_isCompared_0 8 rfl rfl)
theorem dX2_isCompared_11 : decode cX2_isCompared 11 = .ok (.aload_n 0, 1) := dk_42 (dk_at dksX2_isCompared_0 11 rfl rfl)
theorem dX2_isCompared_12 : decode cX2_isCompared 12 = .ok (.getfield 29, 3) := dk_180 0 29 (dk_at dksX2_isCompared_0 12 rfl rfl)
theorem dX2_isCompared_15 : decode cX2_isCompared 15 = .ok (.iload_n 1, 1) := dk_27 (dk_at dksX2_isCompared_0 15 rfl rfl)
theorem dX2_isCompared_16 : decode cX2_isCompared 16 = .ok (.iaload, 1) := dk_46 (dk_at dksX2_isCompared_0 16 rfl rfl)
theorem dX2_isCompared_17 : decode cX2_isCompared 17 = .ok (.invokestatic 169, 3) := dk_184 0 169 (dk_at dksX2_isCompared_0 17 rfl rfl)
theorem dX2_isCompared_20 : decode cX2_isCompared 20 = .ok (.iconst 4, 1) := dk_7 (dk_at dksX2_isCompared_0 20 rfl rfl)
theorem dX2_isCompared_21 : decode cX2_isCompared 21 = .ok (.if_icmp .le 9, 3) := dk_164 0 9 (dk_at dksX2_isCompared_0 21 rfl rfl)
theorem dX2_isCompared_24 : decode cX2_isCompared 24 = .ok (.iinc 1 (-1), 3) := dk_132 1 255 (dk_at dksX2_isCompared_1 0 rfl rfl)
theorem dX2_isCompared_27 : decode cX2_isCompared 27 = .ok (.goto (-20), 3) := dk_167 255 236 (dk_at dksX2_isCompared_1 3 rfl rfl)
theorem dX2_isCompared_30 : decode cX2_isCompared 30 = .ok (.iload_n 1, 1) := dk_27 (dk_at dksX2_isCompared_1 6 rfl rfl)
theorem dX2_isCompared_31 : decode cX2_isCompared 31 = .ok (.ifCond .lt 20, 3) := dk_155 0 20 (dk_at dksX2_isCompared_1 7 rfl rfl)
theorem dX2_isCompared_34 : decode cX2_isCompared 34 = .ok (.aload_n 0, 1) := dk_42 (dk_at dksX2_isCompared_1 10 rfl rfl)
theorem dX2_isCompared_35 : decode cX2_isCompared 35 = .ok (.getfield 29, 3) := dk_180 0 29 (dk_at dksX2_isCompared_1 11 rfl rfl)
theorem dX2_isCompared_38 : decode cX2_isCompared 38 = .ok (.iload_n 1, 1) := dk_27 (dk_at dksX2_isCompared_1 14 rfl rfl)
theorem dX2_isCompared_39 : decode cX2_isCompared 39 = .ok (.iaload, 1) := dk_46 (dk_at dksX2_isCompared_1 15 rfl rfl)
theorem dX2_isCompared_40 : decode cX2_isCompared 40 = .ok (.invokestatic 169, 3) := dk_184 0 169 (dk_at dksX2_isCompared_1 16 rfl rfl)
theorem dX2_isCompared_43 : decode cX2_isCompared 43 = .ok (.iconst 4, 1) := dk_7 (dk_at dksX2_isCompared_1 19 rfl rfl)
theorem dX2_isCompared_44 : decode cX2_isCompared 44 = .ok (.if_icmp .ne 7, 3) := dk_160 0 7 (dk_at dksX2_isCompared_1 20 rfl rfl)
theorem dX2_isCompared_47 : decode cX2_isCompared 47 = .ok (.iconst 1, 1) := dk_4 (dk_at dksX2_isCompared_1 23 rfl rfl)
theorem dX2_isCompared_48 : decode cX2_isCompared 48 = .ok (.goto 4, 3) := dk_167 0 4 (dk_at dksX2_isCompared_2 0 rfl rfl)
theorem dX2_isCompared_51 : decode cX2_isCompared 51 = .ok (.iconst 0, 1) := dk_3 (dk_at dksX2_isCompared_2 3 rfl rfl)
theorem dX2_isCompared_52 : decode cX2_isCompared 52 = .ok (.ireturn, 1) := dk_172 (dk_at dksX2_isCompared_2 4 rfl rfl)
abbrev cX2_rank : ByteArray := prog_20_method_39_code
def yX2_rank : MethodName := ⟨RX2, "rank", "(I)I"⟩
def dkwX2_rank_3 : List UInt8 := [16, 8, 161, 0, 8, 16, 6, 167, 0, 4, 8, 172]
abbrev dktX2_rank_3 : List UInt8 := dkwX2_rank_3 ++ []
def dkwX2_rank_2 : List UInt8 := [167, 0, 35, 26, 8, 159, 0, 13, 26, 5, 159, 0, 8, 26, 7, 160, 0, 8, 16, 7, 167, 0, 15, 26]
abbrev dktX2_rank_2 : List UInt8 := dkwX2_rank_2 ++ dktX2_rank_3
def dkwX2_rank_1 : List UInt8 := [160, 0, 7, 5, 167, 0, 55, 26, 16, 20, 160, 0, 7, 6, 167, 0, 45, 26, 16, 10, 161, 0, 7, 7]
abbrev dktX2_rank_1 : List UInt8 := dkwX2_rank_1 ++ dktX2_rank_2
def dkwX2_rank_0 : List UInt8 := [26, 16, 40, 161, 0, 7, 3, 167, 0, 75, 26, 16, 22, 160, 0, 7, 4, 167, 0, 65, 26, 16, 21]
abbrev dktX2_rank_0 : List UInt8 := dkwX2_rank_0 ++ dktX2_rank_1
theorem dksX2_rank_0 : cX2_rank.data.toList.drop 0 = dktX2_rank_0 := by decide +kernel
theorem dksX2_rank_1 : cX2_rank.data.toList.drop 23 = dktX2_rank_1 := dk_seg dksX2_rank_0 23 rfl rfl
theorem dksX2_rank_2 : cX2_rank.data.toList.drop 47 = dktX2_rank_2 := dk_seg dksX2_rank_1 24 rfl rfl
theorem dksX2_rank_3 : cX2_rank.data.toList.drop 71 = dktX2_rank_3 := dk_seg dksX2_rank_2 24 rfl rfl
theorem dX2_rank_0 : decode cX2_rank 0 = .ok (.iload_n 0, 1) := dk_26 (dk_at dksX2_rank_0 0 rfl rfl)
theorem dX2_rank_1 : decode cX2_rank 1 = .ok (.bipush 40, 2) := dk_16 40 (dk_at dksX2_rank_0 1 rfl rfl)
theorem dX2_rank_3 : decode cX2_rank 3 = .ok (.if_icmp .lt 7, 3) := dk_161 0 7 (dk_at dksX2_rank_0 3 rfl rfl)
theorem dX2_rank_6 : decode cX2_rank 6 = .ok (.iconst 0, 1) := dk_3 (dk_at dksX2_rank_0 6 rfl rfl)
theorem dX2_rank_7 : decode cX2_rank 7 = .ok (.goto 75, 3) := dk_167 0 75 (dk_at dksX2_rank_0 7 rfl rfl)
theorem dX2_rank_10 : decode cX2_rank 10 = .ok (.iload_n 0, 1) := dk_26 (dk_at dksX2_rank_0 10 rfl rfl)
theorem dX2_rank_11 : decode cX2_rank 11 = .ok (.bipush 22, 2) := dk_16 22 (dk_at dksX2_rank_0 11 rfl rfl)
theorem dX2_rank_13 : decode cX2_rank 13 = .ok (.if_icmp .ne 7, 3) := dk_160 0 7 (dk_at dksX2_rank_0 13 rfl rfl)
theorem dX2_rank_16 : decode cX2_rank 16 = .ok (.iconst 1, 1) := dk_4 (dk_at dksX2_rank_0 16 rfl rfl)
theorem dX2_rank_17 : decode cX2_rank 17 = .ok (.goto 65, 3) := dk_167 0 65 (dk_at dksX2_rank_0 17 rfl rfl)
theorem dX2_rank_20 : decode cX2_rank 20 = .ok (.iload_n 0, 1) := dk_26 (dk_at dksX2_rank_0 20 rfl rfl)
theorem dX2_rank_21 : decode cX2_rank 21 = .ok (.bipush 21, 2) := dk_16 21 (dk_at dksX2_rank_0 21 rfl rfl)
theorem dX2_rank_23 : decode cX2_rank 23 = .ok (.if_icmp .ne 7, 3) := dk_160 0 7 (dk_at dksX2_rank_1 0 rfl rfl)
theorem dX2_rank_26 : decode cX2_rank 26 = .ok (.iconst 2, 1) := dk_5 (dk_at dksX2_rank_1 3 rfl rfl)
theorem dX2_rank_27 : decode cX2_rank 27 = .ok (.goto 55, 3) := dk_167 0 55 (dk_at dksX2_rank_1 4 rfl rfl)
theorem dX2_rank_30 : decode cX2_rank 30 = .ok (.iload_n 0, 1) := dk_26 (dk_at dksX2_rank_1 7 rfl rfl)
theorem dX2_rank_31 : decode cX2_rank 31 = .ok (.bipush 20, 2) := dk_16 20 (dk_at dksX2_rank_1 8 rfl rfl)
theorem dX2_rank_33 : decode cX2_rank 33 = .ok (.if_icmp .ne 7, 3) := dk_160 0 7 (dk_at dksX2_rank_1 10 rfl rfl)
theorem dX2_rank_36 : decode cX2_rank 36 = .ok (.iconst 3, 1) := dk_6 (dk_at dksX2_rank_1 13 rfl rfl)
theorem dX2_rank_37 : decode cX2_rank 37 = .ok (.goto 45, 3) := dk_167 0 45 (dk_at dksX2_rank_1 14 rfl rfl)
theorem dX2_rank_40 : decode cX2_rank 40 = .ok (.iload_n 0, 1) := dk_26 (dk_at dksX2_rank_1 17 rfl rfl)
theorem dX2_rank_41 : decode cX2_rank 41 = .ok (.bipush 10, 2) := dk_16 10 (dk_at dksX2_rank_1 18 rfl rfl)
theorem dX2_rank_43 : decode cX2_rank 43 = .ok (.if_icmp .lt 7, 3) := dk_161 0 7 (dk_at dksX2_rank_1 20 rfl rfl)
theorem dX2_rank_46 : decode cX2_rank 46 = .ok (.iconst 4, 1) := dk_7 (dk_at dksX2_rank_1 23 rfl rfl)
theorem dX2_rank_47 : decode cX2_rank 47 = .ok (.goto 35, 3) := dk_167 0 35 (dk_at dksX2_rank_2 0 rfl rfl)
theorem dX2_rank_50 : decode cX2_rank 50 = .ok (.iload_n 0, 1) := dk_26 (dk_at dksX2_rank_2 3 rfl rfl)
theorem dX2_rank_51 : decode cX2_rank 51 = .ok (.iconst 5, 1) := dk_8 (dk_at dksX2_rank_2 4 rfl rfl)
theorem dX2_rank_52 : decode cX2_rank 52 = .ok (.if_icmp .eq 13, 3) := dk_159 0 13 (dk_at dksX2_rank_2 5 rfl rfl)
theorem dX2_rank_55 : decode cX2_rank 55 = .ok (.iload_n 0, 1) := dk_26 (dk_at dksX2_rank_2 8 rfl rfl)
theorem dX2_rank_56 : decode cX2_rank 56 = .ok (.iconst 2, 1) := dk_5 (dk_at dksX2_rank_2 9 rfl rfl)
theorem dX2_rank_57 : decode cX2_rank 57 = .ok (.if_icmp .eq 8, 3) := dk_159 0 8 (dk_at dksX2_rank_2 10 rfl rfl)
theorem dX2_rank_60 : decode cX2_rank 60 = .ok (.iload_n 0, 1) := dk_26 (dk_at dksX2_rank_2 13 rfl rfl)
theorem dX2_rank_61 : decode cX2_rank 61 = .ok (.iconst 4, 1) := dk_7 (dk_at dksX2_rank_2 14 rfl rfl)
theorem dX2_rank_62 : decode cX2_rank 62 = .ok (.if_icmp .ne 8, 3) := dk_160 0 8 (dk_at dksX2_rank_2 15 rfl rfl)
theorem dX2_rank_65 : decode cX2_rank 65 = .ok (.bipush 7, 2) := dk_16 7 (dk_at dksX2_rank_2 18 rfl rfl)
theorem dX2_rank_67 : decode cX2_rank 67 = .ok (.goto 15, 3) := dk_167 0 15 (dk_at dksX2_rank_2 20 rfl rfl)
theorem dX2_rank_70 : decode cX2_rank 70 = .ok (.iload_n 0, 1) := dk_26 (dk_at dksX2_rank_2 23 rfl rfl)
theorem dX2_rank_71 : decode cX2_rank 71 = .ok (.bipush 8, 2) := dk_16 8 (dk_at dksX2_rank_3 0 rfl rfl)
theorem dX2_rank_73 : decode cX2_rank 73 = .ok (.if_icmp .lt 8, 3) := dk_161 0 8 (dk_at dksX2_rank_3 2 rfl rfl)
theorem dX2_rank_76 : decode cX2_rank 76 = .ok (.bipush 6, 2) := dk_16 6 (dk_at dksX2_rank_3 5 rfl rfl)
theorem dX2_rank_78 : decode cX2_rank 78 = .ok (.goto 4, 3) := dk_167 0 4 (dk_at dksX2_rank_3 7 rfl rfl)
theorem dX2_rank_81 : decode cX2_rank 81 = .ok (.iconst 5, 1) := dk_8 (dk_at dksX2_rank_3 10 rfl rfl)
theorem dX2_rank_82 : decode cX2_rank 82 = .ok (.ireturn, 1) := dk_172 (dk_at dksX2_rank_3 11 rfl rfl)
abbrev cX2_compareOf : ByteArray := prog_20_method_49_code
def yX2_compareOf : MethodName := ⟨RX2, "compareOf", "()I"⟩
def dkwX2_compareOf_3 : List UInt8 := [180, 0, 115, 16, 35, 160, 0, 8, 16, 15, 167, 0, 4, 2, 172]
abbrev dktX2_compareOf_3 : List UInt8 := dkwX2_compareOf_3 ++ []
def dkwX2_compareOf_2 : List UInt8 := [160, 0, 8, 16, 13, 167, 0, 32, 42, 180, 0, 115, 16, 61, 160, 0, 8, 16, 14, 167, 0, 18, 42]
abbrev dktX2_compareOf_2 : List UInt8 := dkwX2_compareOf_2 ++ dktX2_compareOf_3
def dkwX2_compareOf_1 : List UInt8 := [167, 0, 59, 42, 180, 0, 115, 16, 62, 160, 0, 8, 16, 12, 167, 0, 45, 42, 180, 0, 115, 8]
abbrev dktX2_compareOf_1 : List UInt8 := dkwX2_compareOf_1 ++ dktX2_compareOf_2
def dkwX2_compareOf_0 : List UInt8 := [42, 180, 0, 115, 16, 60, 160, 0, 8, 16, 10, 167, 0, 72, 42, 180, 0, 115, 7, 160, 0, 8, 16, 11]
abbrev dktX2_compareOf_0 : List UInt8 := dkwX2_compareOf_0 ++ dktX2_compareOf_1
theorem dksX2_compareOf_0 : cX2_compareOf.data.toList.drop 0 = dktX2_compareOf_0 := by decide +kernel
theorem dksX2_compareOf_1 : cX2_compareOf.data.toList.drop 24 = dktX2_compareOf_1 := dk_seg dksX2_compareOf_0 24 rfl rfl
theorem dksX2_compareOf_2 : cX2_compareOf.data.toList.drop 46 = dktX2_compareOf_2 := dk_seg dksX2_compareOf_1 22 rfl rfl
theorem dksX2_compareOf_3 : cX2_compareOf.data.toList.drop 69 = dktX2_compareOf_3 := dk_seg dksX2_compareOf_2 23 rfl rfl
theorem dX2_compareOf_0 : decode cX2_compareOf 0 = .ok (.aload_n 0, 1) := dk_42 (dk_at dksX2_compareOf_0 0 rfl rfl)
theorem dX2_compareOf_1 : decode cX2_compareOf 1 = .ok (.getfield 115, 3) := dk_180 0 115 (dk_at dksX2_compareOf_0 1 rfl rfl)
theorem dX2_compareOf_4 : decode cX2_compareOf 4 = .ok (.bipush 60, 2) := dk_16 60 (dk_at dksX2_compareOf_0 4 rfl rfl)
theorem dX2_compareOf_6 : decode cX2_compareOf 6 = .ok (.if_icmp .ne 8, 3) := dk_160 0 8 (dk_at dksX2_compareOf_0 6 rfl rfl)
theorem dX2_compareOf_9 : decode cX2_compareOf 9 = .ok (.bipush 10, 2) := dk_16 10 (dk_at dksX2_compareOf_0 9 rfl rfl)
theorem dX2_compareOf_11 : decode cX2_compareOf 11 = .ok (.goto 72, 3) := dk_167 0 72 (dk_at dksX2_compareOf_0 11 rfl rfl)
theorem dX2_compareOf_14 : decode cX2_compareOf 14 = .ok (.aload_n 0, 1) := dk_42 (dk_at dksX2_compareOf_0 14 rfl rfl)
theorem dX2_compareOf_15 : decode cX2_compareOf 15 = .ok (.getfield 115, 3) := dk_180 0 115 (dk_at dksX2_compareOf_0 15 rfl rfl)
theorem dX2_compareOf_18 : decode cX2_compareOf 18 = .ok (.iconst 4, 1) := dk_7 (dk_at dksX2_compareOf_0 18 rfl rfl)
theorem dX2_compareOf_19 : decode cX2_compareOf 19 = .ok (.if_icmp .ne 8, 3) := dk_160 0 8 (dk_at dksX2_compareOf_0 19 rfl rfl)
theorem dX2_compareOf_22 : decode cX2_compareOf 22 = .ok (.bipush 11, 2) := dk_16 11 (dk_at dksX2_compareOf_0 22 rfl rfl)
theorem dX2_compareOf_24 : decode cX2_compareOf 24 = .ok (.goto 59, 3) := dk_167 0 59 (dk_at dksX2_compareOf_1 0 rfl rfl)
theorem dX2_compareOf_27 : decode cX2_compareOf 27 = .ok (.aload_n 0, 1) := dk_42 (dk_at dksX2_compareOf_1 3 rfl rfl)
theorem dX2_compareOf_28 : decode cX2_compareOf 28 = .ok (.getfield 115, 3) := dk_180 0 115 (dk_at dksX2_compareOf_1 4 rfl rfl)
theorem dX2_compareOf_31 : decode cX2_compareOf 31 = .ok (.bipush 62, 2) := dk_16 62 (dk_at dksX2_compareOf_1 7 rfl rfl)
theorem dX2_compareOf_33 : decode cX2_compareOf 33 = .ok (.if_icmp .ne 8, 3) := dk_160 0 8 (dk_at dksX2_compareOf_1 9 rfl rfl)
theorem dX2_compareOf_36 : decode cX2_compareOf 36 = .ok (.bipush 12, 2) := dk_16 12 (dk_at dksX2_compareOf_1 12 rfl rfl)
theorem dX2_compareOf_38 : decode cX2_compareOf 38 = .ok (.goto 45, 3) := dk_167 0 45 (dk_at dksX2_compareOf_1 14 rfl rfl)
theorem dX2_compareOf_41 : decode cX2_compareOf 41 = .ok (.aload_n 0, 1) := dk_42 (dk_at dksX2_compareOf_1 17 rfl rfl)
theorem dX2_compareOf_42 : decode cX2_compareOf 42 = .ok (.getfield 115, 3) := dk_180 0 115 (dk_at dksX2_compareOf_1 18 rfl rfl)
theorem dX2_compareOf_45 : decode cX2_compareOf 45 = .ok (.iconst 5, 1) := dk_8 (dk_at dksX2_compareOf_1 21 rfl rfl)
theorem dX2_compareOf_46 : decode cX2_compareOf 46 = .ok (.if_icmp .ne 8, 3) := dk_160 0 8 (dk_at dksX2_compareOf_2 0 rfl rfl)
theorem dX2_compareOf_49 : decode cX2_compareOf 49 = .ok (.bipush 13, 2) := dk_16 13 (dk_at dksX2_compareOf_2 3 rfl rfl)
theorem dX2_compareOf_51 : decode cX2_compareOf 51 = .ok (.goto 32, 3) := dk_167 0 32 (dk_at dksX2_compareOf_2 5 rfl rfl)
theorem dX2_compareOf_54 : decode cX2_compareOf 54 = .ok (.aload_n 0, 1) := dk_42 (dk_at dksX2_compareOf_2 8 rfl rfl)
theorem dX2_compareOf_55 : decode cX2_compareOf 55 = .ok (.getfield 115, 3) := dk_180 0 115 (dk_at dksX2_compareOf_2 9 rfl rfl)
theorem dX2_compareOf_58 : decode cX2_compareOf 58 = .ok (.bipush 61, 2) := dk_16 61 (dk_at dksX2_compareOf_2 12 rfl rfl)
theorem dX2_compareOf_60 : decode cX2_compareOf 60 = .ok (.if_icmp .ne 8, 3) := dk_160 0 8 (dk_at dksX2_compareOf_2 14 rfl rfl)
theorem dX2_compareOf_63 : decode cX2_compareOf 63 = .ok (.bipush 14, 2) := dk_16 14 (dk_at dksX2_compareOf_2 17 rfl rfl)
theorem dX2_compareOf_65 : decode cX2_compareOf 65 = .ok (.goto 18, 3) := dk_167 0 18 (dk_at dksX2_compareOf_2 19 rfl rfl)
theorem dX2_compareOf_68 : decode cX2_compareOf 68 = .ok (.aload_n 0, 1) := dk_42 (dk_at dksX2_compareOf_2 22 rfl rfl)
theorem dX2_compareOf_69 : decode cX2_compareOf 69 = .ok (.getfield 115, 3) := dk_180 0 115 (dk_at dksX2_compareOf_3 0 rfl rfl)
theorem dX2_compareOf_72 : decode cX2_compareOf 72 = .ok (.bipush 35, 2) := dk_16 35 (dk_at dksX2_compareOf_3 3 rfl rfl)
theorem dX2_compareOf_74 : decode cX2_compareOf 74 = .ok (.if_icmp .ne 8, 3) := dk_160 0 8 (dk_at dksX2_compareOf_3 5 rfl rfl)
theorem dX2_compareOf_77 : decode cX2_compareOf 77 = .ok (.bipush 15, 2) := dk_16 15 (dk_at dksX2_compareOf_3 8 rfl rfl)
theorem dX2_compareOf_79 : decode cX2_compareOf 79 = .ok (.goto 4, 3) := dk_167 0 4 (dk_at dksX2_compareOf_3 10 rfl rfl)
theorem dX2_compareOf_82 : decode cX2_compareOf 82 = .ok (.iconst (-1), 1) := dk_2 (dk_at dksX2_compareOf_3 13 rfl rfl)
theorem dX2_compareOf_83 : decode cX2_compareOf 83 = .ok (.ireturn, 1) := dk_172 (dk_at dksX2_compareOf_3 14 rfl rfl)
abbrev cX2_settle : ByteArray := prog_20_method_40_code
def yX2_settle : MethodName := ⟨RX2, "settle", "(I)V"⟩
def dkwX2_settle_3 : List UInt8 := [42, 180, 0, 166, 46, 16, 20, 160, 255, 179, 42, 89, 180, 0, 176, 4, 100, 181, 0, 176, 167, 255, 166, 177]
abbrev dktX2_settle_3 : List UInt8 := dkwX2_settle_3 ++ []
def dkwX2_settle_2 : List UInt8 := [182, 0, 172, 42, 180, 0, 29, 42, 180, 0, 166, 46, 184, 0, 169, 16, 7, 159, 0, 17, 42, 180, 0, 29]
abbrev dktX2_settle_2 : List UInt8 := dkwX2_settle_2 ++ dktX2_settle_3
def dkwX2_settle_1 : List UInt8 := [161, 0, 71, 42, 89, 180, 0, 166, 4, 100, 181, 0, 166, 42, 42, 180, 0, 29, 42, 180, 0, 166, 46, 3]
abbrev dktX2_settle_1 : List UInt8 := dkwX2_settle_1 ++ dktX2_settle_2
def dkwX2_settle_0 : List UInt8 := [42, 180, 0, 166, 158, 0, 89, 42, 180, 0, 29, 42, 180, 0, 166, 4, 100, 46, 184, 0, 169, 27]
abbrev dktX2_settle_0 : List UInt8 := dkwX2_settle_0 ++ dktX2_settle_1
theorem dksX2_settle_0 : cX2_settle.data.toList.drop 0 = dktX2_settle_0 := by decide +kernel
theorem dksX2_settle_1 : cX2_settle.data.toList.drop 22 = dktX2_settle_1 := dk_seg dksX2_settle_0 22 rfl rfl
theorem dksX2_settle_2 : cX2_settle.data.toList.drop 46 = dktX2_settle_2 := dk_seg dksX2_settle_1 24 rfl rfl
theorem dksX2_settle_3 : cX2_settle.data.toList.drop 70 = dktX2_settle_3 := dk_seg dksX2_settle_2 24 rfl rfl
theorem dX2_settle_0 : decode cX2_settle 0 = .ok (.aload_n 0, 1) := dk_42 (dk_at dksX2_settle_0 0 rfl rfl)
theorem dX2_settle_1 : decode cX2_settle 1 = .ok (.getfield 166, 3) := dk_180 0 166 (dk_at dksX2_settle_0 1 rfl rfl)
theorem dX2_settle_4 : decode cX2_settle 4 = .ok (.ifCond .le 89, 3) := dk_158 0 89 (dk_at dksX2_settle_0 4 rfl rfl)
theorem dX2_settle_7 : decode cX2_settle 7 = .ok (.aload_n 0, 1) := dk_42 (dk_at dksX2_settle_0 7 rfl rfl)
theorem dX2_settle_8 : decode cX2_settle 8 = .ok (.getfield 29, 3) := dk_180 0 29 (dk_at dksX2_settle_0 8 rfl rfl)
theorem dX2_settle_11 : decode cX2_settle 11 = .ok (.aload_n 0, 1) := dk_42 (dk_at dksX2_settle_0 11 rfl rfl)
theorem dX2_settle_12 : decode cX2_settle 12 = .ok (.getfield 166, 3) := dk_180 0 166 (dk_at dksX2_settle_0 12 rfl rfl)
theorem dX2_settle_15 : decode cX2_settle 15 = .ok (.iconst 1, 1) := dk_4 (dk_at dksX2_settle_0 15 rfl rfl)
theorem dX2_settle_16 : decode cX2_settle 16 = .ok (.isub, 1) := dk_100 (dk_at dksX2_settle_0 16 rfl rfl)
theorem dX2_settle_17 : decode cX2_settle 17 = .ok (.iaload, 1) := dk_46 (dk_at dksX2_settle_0 17 rfl rfl)
theorem dX2_settle_18 : decode cX2_settle 18 = .ok (.invokestatic 169, 3) := dk_184 0 169 (dk_at dksX2_settle_0 18 rfl rfl)
theorem dX2_settle_21 : decode cX2_settle 21 = .ok (.iload_n 1, 1) := dk_27 (dk_at dksX2_settle_0 21 rfl rfl)
theorem dX2_settle_22 : decode cX2_settle 22 = .ok (.if_icmp .lt 71, 3) := dk_161 0 71 (dk_at dksX2_settle_1 0 rfl rfl)
theorem dX2_settle_25 : decode cX2_settle 25 = .ok (.aload_n 0, 1) := dk_42 (dk_at dksX2_settle_1 3 rfl rfl)
theorem dX2_settle_26 : decode cX2_settle 26 = .ok (.dup, 1) := dk_89 (dk_at dksX2_settle_1 4 rfl rfl)
theorem dX2_settle_27 : decode cX2_settle 27 = .ok (.getfield 166, 3) := dk_180 0 166 (dk_at dksX2_settle_1 5 rfl rfl)
theorem dX2_settle_30 : decode cX2_settle 30 = .ok (.iconst 1, 1) := dk_4 (dk_at dksX2_settle_1 8 rfl rfl)
theorem dX2_settle_31 : decode cX2_settle 31 = .ok (.isub, 1) := dk_100 (dk_at dksX2_settle_1 9 rfl rfl)
theorem dX2_settle_32 : decode cX2_settle 32 = .ok (.putfield 166, 3) := dk_181 0 166 (dk_at dksX2_settle_1 10 rfl rfl)
theorem dX2_settle_35 : decode cX2_settle 35 = .ok (.aload_n 0, 1) := dk_42 (dk_at dksX2_settle_1 13 rfl rfl)
theorem dX2_settle_36 : decode cX2_settle 36 = .ok (.aload_n 0, 1) := dk_42 (dk_at dksX2_settle_1 14 rfl rfl)
theorem dX2_settle_37 : decode cX2_settle 37 = .ok (.getfield 29, 3) := dk_180 0 29 (dk_at dksX2_settle_1 15 rfl rfl)
theorem dX2_settle_40 : decode cX2_settle 40 = .ok (.aload_n 0, 1) := dk_42 (dk_at dksX2_settle_1 18 rfl rfl)
theorem dX2_settle_41 : decode cX2_settle 41 = .ok (.getfield 166, 3) := dk_180 0 166 (dk_at dksX2_settle_1 19 rfl rfl)
theorem dX2_settle_44 : decode cX2_settle 44 = .ok (.iaload, 1) := dk_46 (dk_at dksX2_settle_1 22 rfl rfl)
theorem dX2_settle_45 : decode cX2_settle 45 = .ok (.iconst 0, 1) := dk_3 (dk_at dksX2_settle_1 23 rfl rfl)
theorem dX2_settle_46 : decode cX2_settle 46 = .ok (.invokevirtual 172, 3) := dk_182 0 172 (dk_at dksX2_settle_2 0 rfl rfl)
theorem dX2_settle_49 : decode cX2_settle 49 = .ok (.aload_n 0, 1) := dk_42 (dk_at dksX2_settle_2 3 rfl rfl)
theorem dX2_settle_50 : decode cX2_settle 50 = .ok (.getfield 29, 3) := dk_180 0 29 (dk_at dksX2_settle_2 4 rfl rfl)
theorem dX2_settle_53 : decode cX2_settle 53 = .ok (.aload_n 0, 1) := dk_42 (dk_at dksX2_settle_2 7 rfl rfl)
theorem dX2_settle_54 : decode cX2_settle 54 = .ok (.getfield 166, 3) := dk_180 0 166 (dk_at dksX2_settle_2 8 rfl rfl)
theorem dX2_settle_57 : decode cX2_settle 57 = .ok (.iaload, 1) := dk_46 (dk_at dksX2_settle_2 11 rfl rfl)
theorem dX2_settle_58 : decode cX2_settle 58 = .ok (.invokestatic 169, 3) := dk_184 0 169 (dk_at dksX2_settle_2 12 rfl rfl)
theorem dX2_settle_61 : decode cX2_settle 61 = .ok (.bipush 7, 2) := dk_16 7 (dk_at dksX2_settle_2 15 rfl rfl)
theorem dX2_settle_63 : decode cX2_settle 63 = .ok (.if_icmp .eq 17, 3) := dk_159 0 17 (dk_at dksX2_settle_2 17 rfl rfl)
theorem dX2_settle_66 : decode cX2_settle 66 = .ok (.aload_n 0, 1) := dk_42 (dk_at dksX2_settle_2 20 rfl rfl)
theorem dX2_settle_67 : decode cX2_settle 67 = .ok (.getfield 29, 3) := dk_180 0 29 (dk_at dksX2_settle_2 21 rfl rfl)
theorem dX2_settle_70 : decode cX2_settle 70 = .ok (.aload_n 0, 1) := dk_42 (dk_at dksX2_settle_3 0 rfl rfl)
theorem dX2_settle_71 : decode cX2_settle 71 = .ok (.getfield 166, 3) := dk_180 0 166 (dk_at dksX2_settle_3 1 rfl rfl)
theorem dX2_settle_74 : decode cX2_settle 74 = .ok (.iaload, 1) := dk_46 (dk_at dksX2_settle_3 4 rfl rfl)
theorem dX2_settle_75 : decode cX2_settle 75 = .ok (.bipush 20, 2) := dk_16 20 (dk_at dksX2_settle_3 5 rfl rfl)
theorem dX2_settle_77 : decode cX2_settle 77 = .ok (.if_icmp .ne (-77), 3) := dk_160 255 179 (dk_at dksX2_settle_3 7 rfl rfl)
theorem dX2_settle_80 : decode cX2_settle 80 = .ok (.aload_n 0, 1) := dk_42 (dk_at dksX2_settle_3 10 rfl rfl)
theorem dX2_settle_81 : decode cX2_settle 81 = .ok (.dup, 1) := dk_89 (dk_at dksX2_settle_3 11 rfl rfl)
theorem dX2_settle_82 : decode cX2_settle 82 = .ok (.getfield 176, 3) := dk_180 0 176 (dk_at dksX2_settle_3 12 rfl rfl)
theorem dX2_settle_85 : decode cX2_settle 85 = .ok (.iconst 1, 1) := dk_4 (dk_at dksX2_settle_3 15 rfl rfl)
theorem dX2_settle_86 : decode cX2_settle 86 = .ok (.isub, 1) := dk_100 (dk_at dksX2_settle_3 16 rfl rfl)
theorem dX2_settle_87 : decode cX2_settle 87 = .ok (.putfield 176, 3) := dk_181 0 176 (dk_at dksX2_settle_3 17 rfl rfl)
theorem dX2_settle_90 : decode cX2_settle 90 = .ok (.goto (-90), 3) := dk_167 255 166 (dk_at dksX2_settle_3 20 rfl rfl)
theorem dX2_settle_93 : decode cX2_settle 93 = .ok (.return_, 1) := dk_177 (dk_at dksX2_settle_3 23 rfl rfl)
abbrev cX2_emit : ByteArray := prog_20_method_35_code
def yX2_emit : MethodName := ⟨RX2, "emit", "(II)V"⟩
def dkwX2_emit_2 : List UInt8 := [96, 181, 0, 156, 177]
abbrev dktX2_emit_2 : List UInt8 := dkwX2_emit_2 ++ []
def dkwX2_emit_1 : List UInt8 := [42, 180, 0, 153, 16, 97, 96, 5, 42, 180, 0, 156, 104, 96, 4, 96, 28, 79, 42, 89, 180, 0, 156, 4]
abbrev dktX2_emit_1 : List UInt8 := dkwX2_emit_1 ++ dktX2_emit_2
def dkwX2_emit_0 : List UInt8 := [42, 180, 0, 16, 42, 180, 0, 153, 16, 97, 96, 5, 42, 180, 0, 156, 104, 96, 27, 79, 42, 180, 0, 16]
abbrev dktX2_emit_0 : List UInt8 := dkwX2_emit_0 ++ dktX2_emit_1
theorem dksX2_emit_0 : cX2_emit.data.toList.drop 0 = dktX2_emit_0 := by decide +kernel
theorem dksX2_emit_1 : cX2_emit.data.toList.drop 24 = dktX2_emit_1 := dk_seg dksX2_emit_0 24 rfl rfl
theorem dksX2_emit_2 : cX2_emit.data.toList.drop 48 = dktX2_emit_2 := dk_seg dksX2_emit_1 24 rfl rfl
theorem dX2_emit_0 : decode cX2_emit 0 = .ok (.aload_n 0, 1) := dk_42 (dk_at dksX2_emit_0 0 rfl rfl)
theorem dX2_emit_1 : decode cX2_emit 1 = .ok (.getfield 16, 3) := dk_180 0 16 (dk_at dksX2_emit_0 1 rfl rfl)
theorem dX2_emit_4 : decode cX2_emit 4 = .ok (.aload_n 0, 1) := dk_42 (dk_at dksX2_emit_0 4 rfl rfl)
theorem dX2_emit_5 : decode cX2_emit 5 = .ok (.getfield 153, 3) := dk_180 0 153 (dk_at dksX2_emit_0 5 rfl rfl)
theorem dX2_emit_8 : decode cX2_emit 8 = .ok (.bipush 97, 2) := dk_16 97 (dk_at dksX2_emit_0 8 rfl rfl)
theorem dX2_emit_10 : decode cX2_emit 10 = .ok (.iadd, 1) := dk_96 (dk_at dksX2_emit_0 10 rfl rfl)
theorem dX2_emit_11 : decode cX2_emit 11 = .ok (.iconst 2, 1) := dk_5 (dk_at dksX2_emit_0 11 rfl rfl)
theorem dX2_emit_12 : decode cX2_emit 12 = .ok (.aload_n 0, 1) := dk_42 (dk_at dksX2_emit_0 12 rfl rfl)
theorem dX2_emit_13 : decode cX2_emit 13 = .ok (.getfield 156, 3) := dk_180 0 156 (dk_at dksX2_emit_0 13 rfl rfl)
theorem dX2_emit_16 : decode cX2_emit 16 = .ok (.imul, 1) := dk_104 (dk_at dksX2_emit_0 16 rfl rfl)
theorem dX2_emit_17 : decode cX2_emit 17 = .ok (.iadd, 1) := dk_96 (dk_at dksX2_emit_0 17 rfl rfl)
theorem dX2_emit_18 : decode cX2_emit 18 = .ok (.iload_n 1, 1) := dk_27 (dk_at dksX2_emit_0 18 rfl rfl)
theorem dX2_emit_19 : decode cX2_emit 19 = .ok (.iastore, 1) := dk_79 (dk_at dksX2_emit_0 19 rfl rfl)
theorem dX2_emit_20 : decode cX2_emit 20 = .ok (.aload_n 0, 1) := dk_42 (dk_at dksX2_emit_0 20 rfl rfl)
theorem dX2_emit_21 : decode cX2_emit 21 = .ok (.getfield 16, 3) := dk_180 0 16 (dk_at dksX2_emit_0 21 rfl rfl)
theorem dX2_emit_24 : decode cX2_emit 24 = .ok (.aload_n 0, 1) := dk_42 (dk_at dksX2_emit_1 0 rfl rfl)
theorem dX2_emit_25 : decode cX2_emit 25 = .ok (.getfield 153, 3) := dk_180 0 153 (dk_at dksX2_emit_1 1 rfl rfl)
theorem dX2_emit_28 : decode cX2_emit 28 = .ok (.bipush 97, 2) := dk_16 97 (dk_at dksX2_emit_1 4 rfl rfl)
theorem dX2_emit_30 : decode cX2_emit 30 = .ok (.iadd, 1) := dk_96 (dk_at dksX2_emit_1 6 rfl rfl)
theorem dX2_emit_31 : decode cX2_emit 31 = .ok (.iconst 2, 1) := dk_5 (dk_at dksX2_emit_1 7 rfl rfl)
theorem dX2_emit_32 : decode cX2_emit 32 = .ok (.aload_n 0, 1) := dk_42 (dk_at dksX2_emit_1 8 rfl rfl)
theorem dX2_emit_33 : decode cX2_emit 33 = .ok (.getfield 156, 3) := dk_180 0 156 (dk_at dksX2_emit_1 9 rfl rfl)
theorem dX2_emit_36 : decode cX2_emit 36 = .ok (.imul, 1) := dk_104 (dk_at dksX2_emit_1 12 rfl rfl)
theorem dX2_emit_37 : decode cX2_emit 37 = .ok (.iadd, 1) := dk_96 (dk_at dksX2_emit_1 13 rfl rfl)
theorem dX2_emit_38 : decode cX2_emit 38 = .ok (.iconst 1, 1) := dk_4 (dk_at dksX2_emit_1 14 rfl rfl)
theorem dX2_emit_39 : decode cX2_emit 39 = .ok (.iadd, 1) := dk_96 (dk_at dksX2_emit_1 15 rfl rfl)
theorem dX2_emit_40 : decode cX2_emit 40 = .ok (.iload_n 2, 1) := dk_28 (dk_at dksX2_emit_1 16 rfl rfl)
theorem dX2_emit_41 : decode cX2_emit 41 = .ok (.iastore, 1) := dk_79 (dk_at dksX2_emit_1 17 rfl rfl)
theorem dX2_emit_42 : decode cX2_emit 42 = .ok (.aload_n 0, 1) := dk_42 (dk_at dksX2_emit_1 18 rfl rfl)
theorem dX2_emit_43 : decode cX2_emit 43 = .ok (.dup, 1) := dk_89 (dk_at dksX2_emit_1 19 rfl rfl)
theorem dX2_emit_44 : decode cX2_emit 44 = .ok (.getfield 156, 3) := dk_180 0 156 (dk_at dksX2_emit_1 20 rfl rfl)
theorem dX2_emit_47 : decode cX2_emit 47 = .ok (.iconst 1, 1) := dk_4 (dk_at dksX2_emit_1 23 rfl rfl)
theorem dX2_emit_48 : decode cX2_emit 48 = .ok (.iadd, 1) := dk_96 (dk_at dksX2_emit_2 0 rfl rfl)
theorem dX2_emit_49 : decode cX2_emit 49 = .ok (.putfield 156, 3) := dk_181 0 156 (dk_at dksX2_emit_2 1 rfl rfl)
theorem dX2_emit_52 : decode cX2_emit 52 = .ok (.return_, 1) := dk_177 (dk_at dksX2_emit_2 4 rfl rfl)
abbrev cX2_partOf : ByteArray := prog_20_method_51_code
def yX2_partOf : MethodName := ⟨RX2, "partOf", "(I)I"⟩
def dkwX2_partOf_5 : List UInt8 := [42, 16, 101, 16, 110, 16, 100, 184, 0, 141, 182, 0, 204, 153, 0, 7, 3, 167, 0, 4, 2, 172, 2, 172]
abbrev dktX2_partOf_5 : List UInt8 := dkwX2_partOf_5 ++ []
def dkwX2_partOf_4 : List UInt8 := [16, 101, 16, 108, 16, 115, 16, 101, 184, 0, 145, 182, 0, 204, 153, 0, 8, 16, 44, 167, 0, 4, 2, 172]
abbrev dktX2_partOf_4 : List UInt8 := dkwX2_partOf_4 ++ dktX2_partOf_5
def dkwX2_partOf_3 : List UInt8 := [184, 0, 145, 182, 0, 204, 153, 0, 15, 42, 182, 0, 217, 153, 0, 8, 16, 43, 167, 0, 4, 2, 172, 42]
abbrev dktX2_partOf_3 : List UInt8 := dkwX2_partOf_3 ++ dktX2_partOf_4
def dkwX2_partOf_2 : List UInt8 := [42, 180, 0, 115, 16, 41, 160, 0, 7, 3, 167, 0, 4, 2, 172, 42, 16, 116, 16, 104, 16, 101, 16, 110]
abbrev dktX2_partOf_2 : List UInt8 := dkwX2_partOf_2 ++ dktX2_partOf_3
def dkwX2_partOf_1 : List UInt8 := [170, 0, 0, 0, 0, 0, 129, 0, 0, 0, 40, 0, 0, 0, 44, 0, 0, 0, 35, 0, 0, 0, 129, 0, 0, 0, 50, 0, 0, 0, 82, 0, 0, 0, 107]
abbrev dktX2_partOf_1 : List UInt8 := dkwX2_partOf_1 ++ dktX2_partOf_2
def dkwX2_partOf_0 : List UInt8 := [27]
abbrev dktX2_partOf_0 : List UInt8 := dkwX2_partOf_0 ++ dktX2_partOf_1
theorem dksX2_partOf_0 : cX2_partOf.data.toList.drop 0 = dktX2_partOf_0 := by decide +kernel
theorem dksX2_partOf_1 : cX2_partOf.data.toList.drop 1 = dktX2_partOf_1 := dk_seg dksX2_partOf_0 1 rfl rfl
theorem dksX2_partOf_2 : cX2_partOf.data.toList.drop 36 = dktX2_partOf_2 := dk_seg dksX2_partOf_1 35 rfl rfl
theorem dksX2_partOf_3 : cX2_partOf.data.toList.drop 60 = dktX2_partOf_3 := dk_seg dksX2_partOf_2 24 rfl rfl
theorem dksX2_partOf_4 : cX2_partOf.data.toList.drop 84 = dktX2_partOf_4 := dk_seg dksX2_partOf_3 24 rfl rfl
theorem dksX2_partOf_5 : cX2_partOf.data.toList.drop 108 = dktX2_partOf_5 := dk_seg dksX2_partOf_4 24 rfl rfl
theorem dX2_partOf_0 : decode cX2_partOf 0 = .ok (.iload_n 1, 1) := dk_27 (dk_at dksX2_partOf_0 0 rfl rfl)
theorem dX2_partOf_1 : decode cX2_partOf 1 = .ok (.tableswitch 129 40 44 #[35, 129, 50, 82, 107], 35) := by decide +kernel
theorem dX2_partOf_36 : decode cX2_partOf 36 = .ok (.aload_n 0, 1) := dk_42 (dk_at dksX2_partOf_2 0 rfl rfl)
theorem dX2_partOf_37 : decode cX2_partOf 37 = .ok (.getfield 115, 3) := dk_180 0 115 (dk_at dksX2_partOf_2 1 rfl rfl)
theorem dX2_partOf_40 : decode cX2_partOf 40 = .ok (.bipush 41, 2) := dk_16 41 (dk_at dksX2_partOf_2 4 rfl rfl)
theorem dX2_partOf_42 : decode cX2_partOf 42 = .ok (.if_icmp .ne 7, 3) := dk_160 0 7 (dk_at dksX2_partOf_2 6 rfl rfl)
theorem dX2_partOf_45 : decode cX2_partOf 45 = .ok (.iconst 0, 1) := dk_3 (dk_at dksX2_partOf_2 9 rfl rfl)
theorem dX2_partOf_46 : decode cX2_partOf 46 = .ok (.goto 4, 3) := dk_167 0 4 (dk_at dksX2_partOf_2 10 rfl rfl)
theorem dX2_partOf_49 : decode cX2_partOf 49 = .ok (.iconst (-1), 1) := dk_2 (dk_at dksX2_partOf_2 13 rfl rfl)
theorem dX2_partOf_50 : decode cX2_partOf 50 = .ok (.ireturn, 1) := dk_172 (dk_at dksX2_partOf_2 14 rfl rfl)
theorem dX2_partOf_51 : decode cX2_partOf 51 = .ok (.aload_n 0, 1) := dk_42 (dk_at dksX2_partOf_2 15 rfl rfl)
theorem dX2_partOf_52 : decode cX2_partOf 52 = .ok (.bipush 116, 2) := dk_16 116 (dk_at dksX2_partOf_2 16 rfl rfl)
theorem dX2_partOf_54 : decode cX2_partOf 54 = .ok (.bipush 104, 2) := dk_16 104 (dk_at dksX2_partOf_2 18 rfl rfl)
theorem dX2_partOf_56 : decode cX2_partOf 56 = .ok (.bipush 101, 2) := dk_16 101 (dk_at dksX2_partOf_2 20 rfl rfl)
theorem dX2_partOf_58 : decode cX2_partOf 58 = .ok (.bipush 110, 2) := dk_16 110 (dk_at dksX2_partOf_2 22 rfl rfl)
theorem dX2_partOf_60 : decode cX2_partOf 60 = .ok (.invokestatic 145, 3) := dk_184 0 145 (dk_at dksX2_partOf_3 0 rfl rfl)
theorem dX2_partOf_63 : decode cX2_partOf 63 = .ok (.invokevirtual 204, 3) := dk_182 0 204 (dk_at dksX2_partOf_3 3 rfl rfl)
theorem dX2_partOf_66 : decode cX2_partOf 66 = .ok (.ifCond .eq 15, 3) := dk_153 0 15 (dk_at dksX2_partOf_3 6 rfl rfl)
theorem dX2_partOf_69 : decode cX2_partOf 69 = .ok (.aload_n 0, 1) := dk_42 (dk_at dksX2_partOf_3 9 rfl rfl)
theorem dX2_partOf_70 : decode cX2_partOf 70 = .ok (.invokevirtual 217, 3) := dk_182 0 217 (dk_at dksX2_partOf_3 10 rfl rfl)
theorem dX2_partOf_73 : decode cX2_partOf 73 = .ok (.ifCond .eq 8, 3) := dk_153 0 8 (dk_at dksX2_partOf_3 13 rfl rfl)
theorem dX2_partOf_76 : decode cX2_partOf 76 = .ok (.bipush 43, 2) := dk_16 43 (dk_at dksX2_partOf_3 16 rfl rfl)
theorem dX2_partOf_78 : decode cX2_partOf 78 = .ok (.goto 4, 3) := dk_167 0 4 (dk_at dksX2_partOf_3 18 rfl rfl)
theorem dX2_partOf_81 : decode cX2_partOf 81 = .ok (.iconst (-1), 1) := dk_2 (dk_at dksX2_partOf_3 21 rfl rfl)
theorem dX2_partOf_82 : decode cX2_partOf 82 = .ok (.ireturn, 1) := dk_172 (dk_at dksX2_partOf_3 22 rfl rfl)
theorem dX2_partOf_83 : decode cX2_partOf 83 = .ok (.aload_n 0, 1) := dk_42 (dk_at dksX2_partOf_3 23 rfl rfl)
theorem dX2_partOf_84 : decode cX2_partOf 84 = .ok (.bipush 101, 2) := dk_16 101 (dk_at dksX2_partOf_4 0 rfl rfl)
theorem dX2_partOf_86 : decode cX2_partOf 86 = .ok (.bipush 108, 2) := dk_16 108 (dk_at dksX2_partOf_4 2 rfl rfl)
theorem dX2_partOf_88 : decode cX2_partOf 88 = .ok (.bipush 115, 2) := dk_16 115 (dk_at dksX2_partOf_4 4 rfl rfl)
theorem dX2_partOf_90 : decode cX2_partOf 90 = .ok (.bipush 101, 2) := dk_16 101 (dk_at dksX2_partOf_4 6 rfl rfl)
theorem dX2_partOf_92 : decode cX2_partOf 92 = .ok (.invokestatic 145, 3) := dk_184 0 145 (dk_at dksX2_partOf_4 8 rfl rfl)
theorem dX2_partOf_95 : decode cX2_partOf 95 = .ok (.invokevirtual 204, 3) := dk_182 0 204 (dk_at dksX2_partOf_4 11 rfl rfl)
theorem dX2_partOf_98 : decode cX2_partOf 98 = .ok (.ifCond .eq 8, 3) := dk_153 0 8 (dk_at dksX2_partOf_4 14 rfl rfl)
theorem dX2_partOf_101 : decode cX2_partOf 101 = .ok (.bipush 44, 2) := dk_16 44 (dk_at dksX2_partOf_4 17 rfl rfl)
theorem dX2_partOf_103 : decode cX2_partOf 103 = .ok (.goto 4, 3) := dk_167 0 4 (dk_at dksX2_partOf_4 19 rfl rfl)
theorem dX2_partOf_106 : decode cX2_partOf 106 = .ok (.iconst (-1), 1) := dk_2 (dk_at dksX2_partOf_4 22 rfl rfl)
theorem dX2_partOf_107 : decode cX2_partOf 107 = .ok (.ireturn, 1) := dk_172 (dk_at dksX2_partOf_4 23 rfl rfl)
theorem dX2_partOf_108 : decode cX2_partOf 108 = .ok (.aload_n 0, 1) := dk_42 (dk_at dksX2_partOf_5 0 rfl rfl)
theorem dX2_partOf_109 : decode cX2_partOf 109 = .ok (.bipush 101, 2) := dk_16 101 (dk_at dksX2_partOf_5 1 rfl rfl)
theorem dX2_partOf_111 : decode cX2_partOf 111 = .ok (.bipush 110, 2) := dk_16 110 (dk_at dksX2_partOf_5 3 rfl rfl)
theorem dX2_partOf_113 : decode cX2_partOf 113 = .ok (.bipush 100, 2) := dk_16 100 (dk_at dksX2_partOf_5 5 rfl rfl)
theorem dX2_partOf_115 : decode cX2_partOf 115 = .ok (.invokestatic 141, 3) := dk_184 0 141 (dk_at dksX2_partOf_5 7 rfl rfl)
theorem dX2_partOf_118 : decode cX2_partOf 118 = .ok (.invokevirtual 204, 3) := dk_182 0 204 (dk_at dksX2_partOf_5 10 rfl rfl)
theorem dX2_partOf_121 : decode cX2_partOf 121 = .ok (.ifCond .eq 7, 3) := dk_153 0 7 (dk_at dksX2_partOf_5 13 rfl rfl)
theorem dX2_partOf_124 : decode cX2_partOf 124 = .ok (.iconst 0, 1) := dk_3 (dk_at dksX2_partOf_5 16 rfl rfl)
theorem dX2_partOf_125 : decode cX2_partOf 125 = .ok (.goto 4, 3) := dk_167 0 4 (dk_at dksX2_partOf_5 17 rfl rfl)
theorem dX2_partOf_128 : decode cX2_partOf 128 = .ok (.iconst (-1), 1) := dk_2 (dk_at dksX2_partOf_5 20 rfl rfl)
theorem dX2_partOf_129 : decode cX2_partOf 129 = .ok (.ireturn, 1) := dk_172 (dk_at dksX2_partOf_5 21 rfl rfl)
theorem dX2_partOf_130 : decode cX2_partOf 130 = .ok (.iconst (-1), 1) := dk_2 (dk_at dksX2_partOf_5 22 rfl rfl)
theorem dX2_partOf_131 : decode cX2_partOf 131 = .ok (.ireturn, 1) := dk_172 (dk_at dksX2_partOf_5 23 rfl rfl)
abbrev cX2_endOne : ByteArray := prog_20_method_48_code
def yX2_endOne : MethodName := ⟨RX2, "endOne", "()I"⟩
def dkwX2_endOne_3 : List UInt8 := [181, 0, 214, 3, 172]
abbrev dktX2_endOne_3 : List UInt8 := dkwX2_endOne_3 ++ []
def dkwX2_endOne_2 : List UInt8 := [154, 0, 5, 4, 172, 42, 182, 0, 189, 42, 180, 0, 29, 42, 180, 0, 166, 4, 100, 7, 79, 42, 3]
abbrev dktX2_endOne_2 : List UInt8 := dkwX2_endOne_2 ++ dktX2_endOne_3
def dkwX2_endOne_1 : List UInt8 := [180, 0, 166, 4, 100, 46, 16, 41, 159, 0, 5, 3, 172, 42, 16, 111, 16, 102, 184, 0, 137, 182, 0, 204]
abbrev dktX2_endOne_1 : List UInt8 := dkwX2_endOne_1 ++ dktX2_endOne_2
def dkwX2_endOne_0 : List UInt8 := [42, 16, 7, 182, 0, 211, 42, 4, 181, 0, 214, 42, 180, 0, 166, 153, 0, 19, 42, 180, 0, 29, 42]
abbrev dktX2_endOne_0 : List UInt8 := dkwX2_endOne_0 ++ dktX2_endOne_1
theorem dksX2_endOne_0 : cX2_endOne.data.toList.drop 0 = dktX2_endOne_0 := by decide +kernel
theorem dksX2_endOne_1 : cX2_endOne.data.toList.drop 23 = dktX2_endOne_1 := dk_seg dksX2_endOne_0 23 rfl rfl
theorem dksX2_endOne_2 : cX2_endOne.data.toList.drop 47 = dktX2_endOne_2 := dk_seg dksX2_endOne_1 24 rfl rfl
theorem dksX2_endOne_3 : cX2_endOne.data.toList.drop 70 = dktX2_endOne_3 := dk_seg dksX2_endOne_2 23 rfl rfl
theorem dX2_endOne_0 : decode cX2_endOne 0 = .ok (.aload_n 0, 1) := dk_42 (dk_at dksX2_endOne_0 0 rfl rfl)
theorem dX2_endOne_1 : decode cX2_endOne 1 = .ok (.bipush 7, 2) := dk_16 7 (dk_at dksX2_endOne_0 1 rfl rfl)
theorem dX2_endOne_3 : decode cX2_endOne 3 = .ok (.invokevirtual 211, 3) := dk_182 0 211 (dk_at dksX2_endOne_0 3 rfl rfl)
theorem dX2_endOne_6 : decode cX2_endOne 6 = .ok (.aload_n 0, 1) := dk_42 (dk_at dksX2_endOne_0 6 rfl rfl)
theorem dX2_endOne_7 : decode cX2_endOne 7 = .ok (.iconst 1, 1) := dk_4 (dk_at dksX2_endOne_0 7 rfl rfl)
theorem dX2_endOne_8 : decode cX2_endOne 8 = .ok (.putfield 214, 3) := dk_181 0 214 (dk_at dksX2_endOne_0 8 rfl rfl)
theorem dX2_endOne_11 : decode cX2_endOne 11 = .ok (.aload_n 0, 1) := dk_42 (dk_at dksX2_endOne_0 11 rfl rfl)
theorem dX2_endOne_12 : decode cX2_endOne 12 = .ok (.getfield 166, 3) := dk_180 0 166 (dk_at dksX2_endOne_0 12 rfl rfl)
theorem dX2_endOne_15 : decode cX2_endOne 15 = .ok (.ifCond .eq 19, 3) := dk_153 0 19 (dk_at dksX2_endOne_0 15 rfl rfl)
theorem dX2_endOne_18 : decode cX2_endOne 18 = .ok (.aload_n 0, 1) := dk_42 (dk_at dksX2_endOne_0 18 rfl rfl)
theorem dX2_endOne_19 : decode cX2_endOne 19 = .ok (.getfield 29, 3) := dk_180 0 29 (dk_at dksX2_endOne_0 19 rfl rfl)
theorem dX2_endOne_22 : decode cX2_endOne 22 = .ok (.aload_n 0, 1) := dk_42 (dk_at dksX2_endOne_0 22 rfl rfl)
theorem dX2_endOne_23 : decode cX2_endOne 23 = .ok (.getfield 166, 3) := dk_180 0 166 (dk_at dksX2_endOne_1 0 rfl rfl)
theorem dX2_endOne_26 : decode cX2_endOne 26 = .ok (.iconst 1, 1) := dk_4 (dk_at dksX2_endOne_1 3 rfl rfl)
theorem dX2_endOne_27 : decode cX2_endOne 27 = .ok (.isub, 1) := dk_100 (dk_at dksX2_endOne_1 4 rfl rfl)
theorem dX2_endOne_28 : decode cX2_endOne 28 = .ok (.iaload, 1) := dk_46 (dk_at dksX2_endOne_1 5 rfl rfl)
theorem dX2_endOne_29 : decode cX2_endOne 29 = .ok (.bipush 41, 2) := dk_16 41 (dk_at dksX2_endOne_1 6 rfl rfl)
theorem dX2_endOne_31 : decode cX2_endOne 31 = .ok (.if_icmp .eq 5, 3) := dk_159 0 5 (dk_at dksX2_endOne_1 8 rfl rfl)
theorem dX2_endOne_34 : decode cX2_endOne 34 = .ok (.iconst 0, 1) := dk_3 (dk_at dksX2_endOne_1 11 rfl rfl)
theorem dX2_endOne_35 : decode cX2_endOne 35 = .ok (.ireturn, 1) := dk_172 (dk_at dksX2_endOne_1 12 rfl rfl)
theorem dX2_endOne_36 : decode cX2_endOne 36 = .ok (.aload_n 0, 1) := dk_42 (dk_at dksX2_endOne_1 13 rfl rfl)
theorem dX2_endOne_37 : decode cX2_endOne 37 = .ok (.bipush 111, 2) := dk_16 111 (dk_at dksX2_endOne_1 14 rfl rfl)
theorem dX2_endOne_39 : decode cX2_endOne 39 = .ok (.bipush 102, 2) := dk_16 102 (dk_at dksX2_endOne_1 16 rfl rfl)
theorem dX2_endOne_41 : decode cX2_endOne 41 = .ok (.invokestatic 137, 3) := dk_184 0 137 (dk_at dksX2_endOne_1 18 rfl rfl)
theorem dX2_endOne_44 : decode cX2_endOne 44 = .ok (.invokevirtual 204, 3) := dk_182 0 204 (dk_at dksX2_endOne_1 21 rfl rfl)
theorem dX2_endOne_47 : decode cX2_endOne 47 = .ok (.ifCond .ne 5, 3) := dk_154 0 5 (dk_at dksX2_endOne_2 0 rfl rfl)
theorem dX2_endOne_50 : decode cX2_endOne 50 = .ok (.iconst 1, 1) := dk_4 (dk_at dksX2_endOne_2 3 rfl rfl)
theorem dX2_endOne_51 : decode cX2_endOne 51 = .ok (.ireturn, 1) := dk_172 (dk_at dksX2_endOne_2 4 rfl rfl)
theorem dX2_endOne_52 : decode cX2_endOne 52 = .ok (.aload_n 0, 1) := dk_42 (dk_at dksX2_endOne_2 5 rfl rfl)
theorem dX2_endOne_53 : decode cX2_endOne 53 = .ok (.invokevirtual 189, 3) := dk_182 0 189 (dk_at dksX2_endOne_2 6 rfl rfl)
theorem dX2_endOne_56 : decode cX2_endOne 56 = .ok (.aload_n 0, 1) := dk_42 (dk_at dksX2_endOne_2 9 rfl rfl)
theorem dX2_endOne_57 : decode cX2_endOne 57 = .ok (.getfield 29, 3) := dk_180 0 29 (dk_at dksX2_endOne_2 10 rfl rfl)
theorem dX2_endOne_60 : decode cX2_endOne 60 = .ok (.aload_n 0, 1) := dk_42 (dk_at dksX2_endOne_2 13 rfl rfl)
theorem dX2_endOne_61 : decode cX2_endOne 61 = .ok (.getfield 166, 3) := dk_180 0 166 (dk_at dksX2_endOne_2 14 rfl rfl)
theorem dX2_endOne_64 : decode cX2_endOne 64 = .ok (.iconst 1, 1) := dk_4 (dk_at dksX2_endOne_2 17 rfl rfl)
theorem dX2_endOne_65 : decode cX2_endOne 65 = .ok (.isub, 1) := dk_100 (dk_at dksX2_endOne_2 18 rfl rfl)
theorem dX2_endOne_66 : decode cX2_endOne 66 = .ok (.iconst 4, 1) := dk_7 (dk_at dksX2_endOne_2 19 rfl rfl)
theorem dX2_endOne_67 : decode cX2_endOne 67 = .ok (.iastore, 1) := dk_79 (dk_at dksX2_endOne_2 20 rfl rfl)
theorem dX2_endOne_68 : decode cX2_endOne 68 = .ok (.aload_n 0, 1) := dk_42 (dk_at dksX2_endOne_2 21 rfl rfl)
theorem dX2_endOne_69 : decode cX2_endOne 69 = .ok (.iconst 0, 1) := dk_3 (dk_at dksX2_endOne_2 22 rfl rfl)
theorem dX2_endOne_70 : decode cX2_endOne 70 = .ok (.putfield 214, 3) := dk_181 0 214 (dk_at dksX2_endOne_3 0 rfl rfl)
theorem dX2_endOne_73 : decode cX2_endOne 73 = .ok (.iconst 0, 1) := dk_3 (dk_at dksX2_endOne_3 3 rfl rfl)
theorem dX2_endOne_74 : decode cX2_endOne 74 = .ok (.ireturn, 1) := dk_172 (dk_at dksX2_endOne_3 4 rfl rfl)
abbrev cX2_beginOne : ByteArray := prog_20_method_47_code
def yX2_beginOne : MethodName := ⟨RX2, "beginOne", "()I"⟩
def dkwX2_beginOne_9 : List UInt8 := [153, 0, 12, 42, 16, 20, 182, 0, 201, 167, 0, 4, 4, 172]
abbrev dktX2_beginOne_9 : List UInt8 := dkwX2_beginOne_9 ++ []
def dkwX2_beginOne_8 : List UInt8 := [182, 0, 201, 172, 42, 16, 110, 16, 111, 16, 116, 184, 0, 141, 182, 0, 204, 153, 0, 19, 42, 182, 0, 208]
abbrev dktX2_beginOne_8 : List UInt8 := dkwX2_beginOne_8 ++ dktX2_beginOne_9
def dkwX2_beginOne_7 : List UInt8 := [42, 5, 182, 0, 201, 172, 42, 16, 105, 16, 102, 184, 0, 137, 182, 0, 204, 153, 0, 10, 42, 16, 42]
abbrev dktX2_beginOne_7 : List UInt8 := dkwX2_beginOne_7 ++ dktX2_beginOne_8
def dkwX2_beginOne_6 : List UInt8 := [16, 41, 182, 0, 201, 172, 42, 16, 104, 16, 101, 16, 108, 16, 100, 184, 0, 145, 182, 0, 204, 153, 0, 9]
abbrev dktX2_beginOne_6 : List UInt8 := dkwX2_beginOne_6 ++ dktX2_beginOne_7
def dkwX2_beginOne_5 : List UInt8 := [42, 8, 182, 0, 201, 172, 42, 16, 103, 16, 97, 16, 112, 184, 0, 141, 182, 0, 204, 153, 0, 10, 42]
abbrev dktX2_beginOne_5 : List UInt8 := dkwX2_beginOne_5 ++ dktX2_beginOne_6
def dkwX2_beginOne_4 : List UInt8 := [180, 0, 115, 16, 40, 160, 0, 10, 42, 16, 40, 182, 0, 201, 172, 42, 180, 0, 115, 16, 45, 160, 0, 9]
abbrev dktX2_beginOne_4 : List UInt8 := dkwX2_beginOne_4 ++ dktX2_beginOne_5
def dkwX2_beginOne_3 : List UInt8 := [160, 0, 10, 42, 180, 0, 121, 167, 0, 4, 27, 182, 0, 172, 42, 182, 0, 189, 42, 182, 0, 198, 172, 42]
abbrev dktX2_beginOne_3 : List UInt8 := dkwX2_beginOne_3 ++ dktX2_beginOne_4
def dkwX2_beginOne_2 : List UInt8 := [155, 0, 45, 42, 42, 180, 0, 115, 4, 160, 0, 7, 3, 167, 0, 4, 4, 42, 180, 0, 115, 4]
abbrev dktX2_beginOne_2 : List UInt8 := dkwX2_beginOne_2 ++ dktX2_beginOne_3
def dkwX2_beginOne_1 : List UInt8 := [60, 27, 155, 0, 13, 42, 27, 182, 0, 195, 154, 0, 5, 8, 172, 42, 180, 0, 115, 4, 159, 0, 7, 27]
abbrev dktX2_beginOne_1 : List UInt8 := dkwX2_beginOne_1 ++ dktX2_beginOne_2
def dkwX2_beginOne_0 : List UInt8 := [42, 180, 0, 115, 4, 160, 0, 15, 42, 180, 0, 121, 17, 39, 15, 164, 0, 5, 5, 172, 42, 182, 0, 192]
abbrev dktX2_beginOne_0 : List UInt8 := dkwX2_beginOne_0 ++ dktX2_beginOne_1
theorem dksX2_beginOne_0 : cX2_beginOne.data.toList.drop 0 = dktX2_beginOne_0 := by decide +kernel
theorem dksX2_beginOne_1 : cX2_beginOne.data.toList.drop 24 = dktX2_beginOne_1 := dk_seg dksX2_beginOne_0 24 rfl rfl
theorem dksX2_beginOne_2 : cX2_beginOne.data.toList.drop 48 = dktX2_beginOne_2 := dk_seg dksX2_beginOne_1 24 rfl rfl
theorem dksX2_beginOne_3 : cX2_beginOne.data.toList.drop 70 = dktX2_beginOne_3 := dk_seg dksX2_beginOne_2 22 rfl rfl
theorem dksX2_beginOne_4 : cX2_beginOne.data.toList.drop 94 = dktX2_beginOne_4 := dk_seg dksX2_beginOne_3 24 rfl rfl
theorem dksX2_beginOne_5 : cX2_beginOne.data.toList.drop 118 = dktX2_beginOne_5 := dk_seg dksX2_beginOne_4 24 rfl rfl
theorem dksX2_beginOne_6 : cX2_beginOne.data.toList.drop 141 = dktX2_beginOne_6 := dk_seg dksX2_beginOne_5 23 rfl rfl
theorem dksX2_beginOne_7 : cX2_beginOne.data.toList.drop 165 = dktX2_beginOne_7 := dk_seg dksX2_beginOne_6 24 rfl rfl
theorem dksX2_beginOne_8 : cX2_beginOne.data.toList.drop 188 = dktX2_beginOne_8 := dk_seg dksX2_beginOne_7 23 rfl rfl
theorem dksX2_beginOne_9 : cX2_beginOne.data.toList.drop 212 = dktX2_beginOne_9 := dk_seg dksX2_beginOne_8 24 rfl rfl
theorem dX2_beginOne_0 : decode cX2_beginOne 0 = .ok (.aload_n 0, 1) := dk_42 (dk_at dksX2_beginOne_0 0 rfl rfl)
theorem dX2_beginOne_1 : decode cX2_beginOne 1 = .ok (.getfield 115, 3) := dk_180 0 115 (dk_at dksX2_beginOne_0 1 rfl rfl)
theorem dX2_beginOne_4 : decode cX2_beginOne 4 = .ok (.iconst 1, 1) := dk_4 (dk_at dksX2_beginOne_0 4 rfl rfl)
theorem dX2_beginOne_5 : decode cX2_beginOne 5 = .ok (.if_icmp .ne 15, 3) := dk_160 0 15 (dk_at dksX2_beginOne_0 5 rfl rfl)
theorem dX2_beginOne_8 : decode cX2_beginOne 8 = .ok (.aload_n 0, 1) := dk_42 (dk_at dksX2_beginOne_0 8 rfl rfl)
theorem dX2_beginOne_9 : decode cX2_beginOne 9 = .ok (.getfield 121, 3) := dk_180 0 121 (dk_at dksX2_beginOne_0 9 rfl rfl)
theorem dX2_beginOne_12 : decode cX2_beginOne 12 = .ok (.sipush 9999, 3) := dk_17 39 15 (dk_at dksX2_beginOne_0 12 rfl rfl)
theorem dX2_beginOne_15 : decode cX2_beginOne 15 = .ok (.if_icmp .le 5, 3) := dk_164 0 5 (dk_at dksX2_beginOne_0 15 rfl rfl)
theorem dX2_beginOne_18 : decode cX2_beginOne 18 = .ok (.iconst 2, 1) := dk_5 (dk_at dksX2_beginOne_0 18 rfl rfl)
theorem dX2_beginOne_19 : decode cX2_beginOne 19 = .ok (.ireturn, 1) := dk_172 (dk_at dksX2_beginOne_0 19 rfl rfl)
theorem dX2_beginOne_20 : decode cX2_beginOne 20 = .ok (.aload_n 0, 1) := dk_42 (dk_at dksX2_beginOne_0 20 rfl rfl)
theorem dX2_beginOne_21 : decode cX2_beginOne 21 = .ok (.invokevirtual 192, 3) := dk_182 0 192 (dk_at dksX2_beginOne_0 21 rfl rfl)
theorem dX2_beginOne_24 : decode cX2_beginOne 24 = .ok (.istore_n 1, 1) := dk_60 (dk_at dksX2_beginOne_1 0 rfl rfl)
theorem dX2_beginOne_25 : decode cX2_beginOne 25 = .ok (.iload_n 1, 1) := dk_27 (dk_at dksX2_beginOne_1 1 rfl rfl)
theorem dX2_beginOne_26 : decode cX2_beginOne 26 = .ok (.ifCond .lt 13, 3) := dk_155 0 13 (dk_at dksX2_beginOne_1 2 rfl rfl)
theorem dX2_beginOne_29 : decode cX2_beginOne 29 = .ok (.aload_n 0, 1) := dk_42 (dk_at dksX2_beginOne_1 5 rfl rfl)
theorem dX2_beginOne_30 : decode cX2_beginOne 30 = .ok (.iload_n 1, 1) := dk_27 (dk_at dksX2_beginOne_1 6 rfl rfl)
theorem dX2_beginOne_31 : decode cX2_beginOne 31 = .ok (.invokevirtual 195, 3) := dk_182 0 195 (dk_at dksX2_beginOne_1 7 rfl rfl)
theorem dX2_beginOne_34 : decode cX2_beginOne 34 = .ok (.ifCond .ne 5, 3) := dk_154 0 5 (dk_at dksX2_beginOne_1 10 rfl rfl)
theorem dX2_beginOne_37 : decode cX2_beginOne 37 = .ok (.iconst 5, 1) := dk_8 (dk_at dksX2_beginOne_1 13 rfl rfl)
theorem dX2_beginOne_38 : decode cX2_beginOne 38 = .ok (.ireturn, 1) := dk_172 (dk_at dksX2_beginOne_1 14 rfl rfl)
theorem dX2_beginOne_39 : decode cX2_beginOne 39 = .ok (.aload_n 0, 1) := dk_42 (dk_at dksX2_beginOne_1 15 rfl rfl)
theorem dX2_beginOne_40 : decode cX2_beginOne 40 = .ok (.getfield 115, 3) := dk_180 0 115 (dk_at dksX2_beginOne_1 16 rfl rfl)
theorem dX2_beginOne_43 : decode cX2_beginOne 43 = .ok (.iconst 1, 1) := dk_4 (dk_at dksX2_beginOne_1 19 rfl rfl)
theorem dX2_beginOne_44 : decode cX2_beginOne 44 = .ok (.if_icmp .eq 7, 3) := dk_159 0 7 (dk_at dksX2_beginOne_1 20 rfl rfl)
theorem dX2_beginOne_47 : decode cX2_beginOne 47 = .ok (.iload_n 1, 1) := dk_27 (dk_at dksX2_beginOne_1 23 rfl rfl)
theorem dX2_beginOne_48 : decode cX2_beginOne 48 = .ok (.ifCond .lt 45, 3) := dk_155 0 45 (dk_at dksX2_beginOne_2 0 rfl rfl)
theorem dX2_beginOne_51 : decode cX2_beginOne 51 = .ok (.aload_n 0, 1) := dk_42 (dk_at dksX2_beginOne_2 3 rfl rfl)
theorem dX2_beginOne_52 : decode cX2_beginOne 52 = .ok (.aload_n 0, 1) := dk_42 (dk_at dksX2_beginOne_2 4 rfl rfl)
theorem dX2_beginOne_53 : decode cX2_beginOne 53 = .ok (.getfield 115, 3) := dk_180 0 115 (dk_at dksX2_beginOne_2 5 rfl rfl)
theorem dX2_beginOne_56 : decode cX2_beginOne 56 = .ok (.iconst 1, 1) := dk_4 (dk_at dksX2_beginOne_2 8 rfl rfl)
theorem dX2_beginOne_57 : decode cX2_beginOne 57 = .ok (.if_icmp .ne 7, 3) := dk_160 0 7 (dk_at dksX2_beginOne_2 9 rfl rfl)
theorem dX2_beginOne_60 : decode cX2_beginOne 60 = .ok (.iconst 0, 1) := dk_3 (dk_at dksX2_beginOne_2 12 rfl rfl)
theorem dX2_beginOne_61 : decode cX2_beginOne 61 = .ok (.goto 4, 3) := dk_167 0 4 (dk_at dksX2_beginOne_2 13 rfl rfl)
theorem dX2_beginOne_64 : decode cX2_beginOne 64 = .ok (.iconst 1, 1) := dk_4 (dk_at dksX2_beginOne_2 16 rfl rfl)
theorem dX2_beginOne_65 : decode cX2_beginOne 65 = .ok (.aload_n 0, 1) := dk_42 (dk_at dksX2_beginOne_2 17 rfl rfl)
theorem dX2_beginOne_66 : decode cX2_beginOne 66 = .ok (.getfield 115, 3) := dk_180 0 115 (dk_at dksX2_beginOne_2 18 rfl rfl)
theorem dX2_beginOne_69 : decode cX2_beginOne 69 = .ok (.iconst 1, 1) := dk_4 (dk_at dksX2_beginOne_2 21 rfl rfl)
theorem dX2_beginOne_70 : decode cX2_beginOne 70 = .ok (.if_icmp .ne 10, 3) := dk_160 0 10 (dk_at dksX2_beginOne_3 0 rfl rfl)
theorem dX2_beginOne_73 : decode cX2_beginOne 73 = .ok (.aload_n 0, 1) := dk_42 (dk_at dksX2_beginOne_3 3 rfl rfl)
theorem dX2_beginOne_74 : decode cX2_beginOne 74 = .ok (.getfield 121, 3) := dk_180 0 121 (dk_at dksX2_beginOne_3 4 rfl rfl)
theorem dX2_beginOne_77 : decode cX2_beginOne 77 = .ok (.goto 4, 3) := dk_167 0 4 (dk_at dksX2_beginOne_3 7 rfl rfl)
theorem dX2_beginOne_80 : decode cX2_beginOne 80 = .ok (.iload_n 1, 1) := dk_27 (dk_at dksX2_beginOne_3 10 rfl rfl)
theorem dX2_beginOne_81 : decode cX2_beginOne 81 = .ok (.invokevirtual 172, 3) := dk_182 0 172 (dk_at dksX2_beginOne_3 11 rfl rfl)
theorem dX2_beginOne_84 : decode cX2_beginOne 84 = .ok (.aload_n 0, 1) := dk_42 (dk_at dksX2_beginOne_3 14 rfl rfl)
theorem dX2_beginOne_85 : decode cX2_beginOne 85 = .ok (.invokevirtual 189, 3) := dk_182 0 189 (dk_at dksX2_beginOne_3 15 rfl rfl)
theorem dX2_beginOne_88 : decode cX2_beginOne 88 = .ok (.aload_n 0, 1) := dk_42 (dk_at dksX2_beginOne_3 18 rfl rfl)
theorem dX2_beginOne_89 : decode cX2_beginOne 89 = .ok (.invokevirtual 198, 3) := dk_182 0 198 (dk_at dksX2_beginOne_3 19 rfl rfl)
theorem dX2_beginOne_92 : decode cX2_beginOne 92 = .ok (.ireturn, 1) := dk_172 (dk_at dksX2_beginOne_3 22 rfl rfl)
theorem dX2_beginOne_93 : decode cX2_beginOne 93 = .ok (.aload_n 0, 1) := dk_42 (dk_at dksX2_beginOne_3 23 rfl rfl)
theorem dX2_beginOne_94 : decode cX2_beginOne 94 = .ok (.getfield 115, 3) := dk_180 0 115 (dk_at dksX2_beginOne_4 0 rfl rfl)
theorem dX2_beginOne_97 : decode cX2_beginOne 97 = .ok (.bipush 40, 2) := dk_16 40 (dk_at dksX2_beginOne_4 3 rfl rfl)
theorem dX2_beginOne_99 : decode cX2_beginOne 99 = .ok (.if_icmp .ne 10, 3) := dk_160 0 10 (dk_at dksX2_beginOne_4 5 rfl rfl)
theorem dX2_beginOne_102 : decode cX2_beginOne 102 = .ok (.aload_n 0, 1) := dk_42 (dk_at dksX2_beginOne_4 8 rfl rfl)
theorem dX2_beginOne_103 : decode cX2_beginOne 103 = .ok (.bipush 40, 2) := dk_16 40 (dk_at dksX2_beginOne_4 9 rfl rfl)
theorem dX2_beginOne_105 : decode cX2_beginOne 105 = .ok (.invokevirtual 201, 3) := dk_182 0 201 (dk_at dksX2_beginOne_4 11 rfl rfl)
theorem dX2_beginOne_108 : decode cX2_beginOne 108 = .ok (.ireturn, 1) := dk_172 (dk_at dksX2_beginOne_4 14 rfl rfl)
theorem dX2_beginOne_109 : decode cX2_beginOne 109 = .ok (.aload_n 0, 1) := dk_42 (dk_at dksX2_beginOne_4 15 rfl rfl)
theorem dX2_beginOne_110 : decode cX2_beginOne 110 = .ok (.getfield 115, 3) := dk_180 0 115 (dk_at dksX2_beginOne_4 16 rfl rfl)
theorem dX2_beginOne_113 : decode cX2_beginOne 113 = .ok (.bipush 45, 2) := dk_16 45 (dk_at dksX2_beginOne_4 19 rfl rfl)
theorem dX2_beginOne_115 : decode cX2_beginOne 115 = .ok (.if_icmp .ne 9, 3) := dk_160 0 9 (dk_at dksX2_beginOne_4 21 rfl rfl)
theorem dX2_beginOne_118 : decode cX2_beginOne 118 = .ok (.aload_n 0, 1) := dk_42 (dk_at dksX2_beginOne_5 0 rfl rfl)
theorem dX2_beginOne_119 : decode cX2_beginOne 119 = .ok (.iconst 5, 1) := dk_8 (dk_at dksX2_beginOne_5 1 rfl rfl)
theorem dX2_beginOne_120 : decode cX2_beginOne 120 = .ok (.invokevirtual 201, 3) := dk_182 0 201 (dk_at dksX2_beginOne_5 2 rfl rfl)
theorem dX2_beginOne_123 : decode cX2_beginOne 123 = .ok (.ireturn, 1) := dk_172 (dk_at dksX2_beginOne_5 5 rfl rfl)
theorem dX2_beginOne_124 : decode cX2_beginOne 124 = .ok (.aload_n 0, 1) := dk_42 (dk_at dksX2_beginOne_5 6 rfl rfl)
theorem dX2_beginOne_125 : decode cX2_beginOne 125 = .ok (.bipush 103, 2) := dk_16 103 (dk_at dksX2_beginOne_5 7 rfl rfl)
theorem dX2_beginOne_127 : decode cX2_beginOne 127 = .ok (.bipush 97, 2) := dk_16 97 (dk_at dksX2_beginOne_5 9 rfl rfl)
theorem dX2_beginOne_129 : decode cX2_beginOne 129 = .ok (.bipush 112, 2) := dk_16 112 (dk_at dksX2_beginOne_5 11 rfl rfl)
theorem dX2_beginOne_131 : decode cX2_beginOne 131 = .ok (.invokestatic 141, 3) := dk_184 0 141 (dk_at dksX2_beginOne_5 13 rfl rfl)
theorem dX2_beginOne_134 : decode cX2_beginOne 134 = .ok (.invokevirtual 204, 3) := dk_182 0 204 (dk_at dksX2_beginOne_5 16 rfl rfl)
theorem dX2_beginOne_137 : decode cX2_beginOne 137 = .ok (.ifCond .eq 10, 3) := dk_153 0 10 (dk_at dksX2_beginOne_5 19 rfl rfl)
theorem dX2_beginOne_140 : decode cX2_beginOne 140 = .ok (.aload_n 0, 1) := dk_42 (dk_at dksX2_beginOne_5 22 rfl rfl)
theorem dX2_beginOne_141 : decode cX2_beginOne 141 = .ok (.bipush 41, 2) := dk_16 41 (dk_at dksX2_beginOne_6 0 rfl rfl)
theorem dX2_beginOne_143 : decode cX2_beginOne 143 = .ok (.invokevirtual 201, 3) := dk_182 0 201 (dk_at dksX2_beginOne_6 2 rfl rfl)
theorem dX2_beginOne_146 : decode cX2_beginOne 146 = .ok (.ireturn, 1) := dk_172 (dk_at dksX2_beginOne_6 5 rfl rfl)
theorem dX2_beginOne_147 : decode cX2_beginOne 147 = .ok (.aload_n 0, 1) := dk_42 (dk_at dksX2_beginOne_6 6 rfl rfl)
theorem dX2_beginOne_148 : decode cX2_beginOne 148 = .ok (.bipush 104, 2) := dk_16 104 (dk_at dksX2_beginOne_6 7 rfl rfl)
theorem dX2_beginOne_150 : decode cX2_beginOne 150 = .ok (.bipush 101, 2) := dk_16 101 (dk_at dksX2_beginOne_6 9 rfl rfl)
theorem dX2_beginOne_152 : decode cX2_beginOne 152 = .ok (.bipush 108, 2) := dk_16 108 (dk_at dksX2_beginOne_6 11 rfl rfl)
theorem dX2_beginOne_154 : decode cX2_beginOne 154 = .ok (.bipush 100, 2) := dk_16 100 (dk_at dksX2_beginOne_6 13 rfl rfl)
theorem dX2_beginOne_156 : decode cX2_beginOne 156 = .ok (.invokestatic 145, 3) := dk_184 0 145 (dk_at dksX2_beginOne_6 15 rfl rfl)
theorem dX2_beginOne_159 : decode cX2_beginOne 159 = .ok (.invokevirtual 204, 3) := dk_182 0 204 (dk_at dksX2_beginOne_6 18 rfl rfl)
theorem dX2_beginOne_162 : decode cX2_beginOne 162 = .ok (.ifCond .eq 9, 3) := dk_153 0 9 (dk_at dksX2_beginOne_6 21 rfl rfl)
theorem dX2_beginOne_165 : decode cX2_beginOne 165 = .ok (.aload_n 0, 1) := dk_42 (dk_at dksX2_beginOne_7 0 rfl rfl)
theorem dX2_beginOne_166 : decode cX2_beginOne 166 = .ok (.iconst 2, 1) := dk_5 (dk_at dksX2_beginOne_7 1 rfl rfl)
theorem dX2_beginOne_167 : decode cX2_beginOne 167 = .ok (.invokevirtual 201, 3) := dk_182 0 201 (dk_at dksX2_beginOne_7 2 rfl rfl)
theorem dX2_beginOne_170 : decode cX2_beginOne 170 = .ok (.ireturn, 1) := dk_172 (dk_at dksX2_beginOne_7 5 rfl rfl)
theorem dX2_beginOne_171 : decode cX2_beginOne 171 = .ok (.aload_n 0, 1) := dk_42 (dk_at dksX2_beginOne_7 6 rfl rfl)
theorem dX2_beginOne_172 : decode cX2_beginOne 172 = .ok (.bipush 105, 2) := dk_16 105 (dk_at dksX2_beginOne_7 7 rfl rfl)
theorem dX2_beginOne_174 : decode cX2_beginOne 174 = .ok (.bipush 102, 2) := dk_16 102 (dk_at dksX2_beginOne_7 9 rfl rfl)
theorem dX2_beginOne_176 : decode cX2_beginOne 176 = .ok (.invokestatic 137, 3) := dk_184 0 137 (dk_at dksX2_beginOne_7 11 rfl rfl)
theorem dX2_beginOne_179 : decode cX2_beginOne 179 = .ok (.invokevirtual 204, 3) := dk_182 0 204 (dk_at dksX2_beginOne_7 14 rfl rfl)
theorem dX2_beginOne_182 : decode cX2_beginOne 182 = .ok (.ifCond .eq 10, 3) := dk_153 0 10 (dk_at dksX2_beginOne_7 17 rfl rfl)
theorem dX2_beginOne_185 : decode cX2_beginOne 185 = .ok (.aload_n 0, 1) := dk_42 (dk_at dksX2_beginOne_7 20 rfl rfl)
theorem dX2_beginOne_186 : decode cX2_beginOne 186 = .ok (.bipush 42, 2) := dk_16 42 (dk_at dksX2_beginOne_7 21 rfl rfl)
theorem dX2_beginOne_188 : decode cX2_beginOne 188 = .ok (.invokevirtual 201, 3) := dk_182 0 201 (dk_at dksX2_beginOne_8 0 rfl rfl)
theorem dX2_beginOne_191 : decode cX2_beginOne 191 = .ok (.ireturn, 1) := dk_172 (dk_at dksX2_beginOne_8 3 rfl rfl)
theorem dX2_beginOne_192 : decode cX2_beginOne 192 = .ok (.aload_n 0, 1) := dk_42 (dk_at dksX2_beginOne_8 4 rfl rfl)
theorem dX2_beginOne_193 : decode cX2_beginOne 193 = .ok (.bipush 110, 2) := dk_16 110 (dk_at dksX2_beginOne_8 5 rfl rfl)
theorem dX2_beginOne_195 : decode cX2_beginOne 195 = .ok (.bipush 111, 2) := dk_16 111 (dk_at dksX2_beginOne_8 7 rfl rfl)
theorem dX2_beginOne_197 : decode cX2_beginOne 197 = .ok (.bipush 116, 2) := dk_16 116 (dk_at dksX2_beginOne_8 9 rfl rfl)
theorem dX2_beginOne_199 : decode cX2_beginOne 199 = .ok (.invokestatic 141, 3) := dk_184 0 141 (dk_at dksX2_beginOne_8 11 rfl rfl)
theorem dX2_beginOne_202 : decode cX2_beginOne 202 = .ok (.invokevirtual 204, 3) := dk_182 0 204 (dk_at dksX2_beginOne_8 14 rfl rfl)
theorem dX2_beginOne_205 : decode cX2_beginOne 205 = .ok (.ifCond .eq 19, 3) := dk_153 0 19 (dk_at dksX2_beginOne_8 17 rfl rfl)
theorem dX2_beginOne_208 : decode cX2_beginOne 208 = .ok (.aload_n 0, 1) := dk_42 (dk_at dksX2_beginOne_8 20 rfl rfl)
theorem dX2_beginOne_209 : decode cX2_beginOne 209 = .ok (.invokevirtual 208, 3) := dk_182 0 208 (dk_at dksX2_beginOne_8 21 rfl rfl)
theorem dX2_beginOne_212 : decode cX2_beginOne 212 = .ok (.ifCond .eq 12, 3) := dk_153 0 12 (dk_at dksX2_beginOne_9 0 rfl rfl)
theorem dX2_beginOne_215 : decode cX2_beginOne 215 = .ok (.aload_n 0, 1) := dk_42 (dk_at dksX2_beginOne_9 3 rfl rfl)
theorem dX2_beginOne_216 : decode cX2_beginOne 216 = .ok (.bipush 20, 2) := dk_16 20 (dk_at dksX2_beginOne_9 4 rfl rfl)
theorem dX2_beginOne_218 : decode cX2_beginOne 218 = .ok (.invokevirtual 201, 3) := dk_182 0 201 (dk_at dksX2_beginOne_9 6 rfl rfl)
theorem dX2_beginOne_221 : decode cX2_beginOne 221 = .ok (.goto 4, 3) := dk_167 0 4 (dk_at dksX2_beginOne_9 9 rfl rfl)
theorem dX2_beginOne_224 : decode cX2_beginOne 224 = .ok (.iconst 1, 1) := dk_4 (dk_at dksX2_beginOne_9 12 rfl rfl)
theorem dX2_beginOne_225 : decode cX2_beginOne 225 = .ok (.ireturn, 1) := dk_172 (dk_at dksX2_beginOne_9 13 rfl rfl)
abbrev cX2_nameOf : ByteArray := prog_20_method_37_code
def yX2_nameOf : MethodName := ⟨RX2, "nameOf", "()I"⟩
def dkwX2_nameOf_8 : List UInt8 := [180, 0, 112, 182, 0, 109, 96, 16, 97, 100, 167, 0, 4, 2, 172]
abbrev dktX2_nameOf_8 : List UInt8 := dkwX2_nameOf_8 ++ []
def dkwX2_nameOf_7 : List UInt8 := [42, 42, 180, 0, 112, 182, 0, 109, 16, 97, 16, 100, 184, 0, 75, 153, 0, 20, 16, 6, 42, 42]
abbrev dktX2_nameOf_7 : List UInt8 := dkwX2_nameOf_7 ++ dktX2_nameOf_8
def dkwX2_nameOf_6 : List UInt8 := [16, 116, 184, 0, 145, 148, 154, 0, 5, 8, 172, 42, 180, 0, 106, 42, 180, 0, 112, 100, 4, 160, 0, 38]
abbrev dktX2_nameOf_6 : List UInt8 := dkwX2_nameOf_6 ++ dktX2_nameOf_7
def dkwX2_nameOf_5 : List UInt8 := [16, 117, 16, 101, 184, 0, 159, 148, 154, 0, 5, 7, 172, 42, 180, 0, 128, 16, 119, 16, 97, 16, 110]
abbrev dktX2_nameOf_5 : List UInt8 := dkwX2_nameOf_5 ++ dktX2_nameOf_6
def dkwX2_nameOf_4 : List UInt8 := [16, 114, 184, 0, 159, 148, 154, 0, 5, 6, 172, 42, 180, 0, 128, 16, 116, 16, 111, 16, 110, 16, 103]
abbrev dktX2_nameOf_4 : List UInt8 := dkwX2_nameOf_4 ++ dktX2_nameOf_5
def dkwX2_nameOf_3 : List UInt8 := [184, 0, 145, 148, 154, 0, 5, 5, 172, 42, 180, 0, 128, 16, 102, 16, 97, 16, 114, 16, 109, 16, 101]
abbrev dktX2_nameOf_3 : List UInt8 := dkwX2_nameOf_3 ++ dktX2_nameOf_4
def dkwX2_nameOf_2 : List UInt8 := [16, 100, 184, 0, 149, 148, 154, 0, 5, 4, 172, 42, 180, 0, 128, 16, 115, 16, 111, 16, 105, 16, 108]
abbrev dktX2_nameOf_2 : List UInt8 := dkwX2_nameOf_2 ++ dktX2_nameOf_3
def dkwX2_nameOf_1 : List UInt8 := [16, 103, 184, 0, 159, 148, 154, 0, 5, 3, 172, 42, 180, 0, 128, 16, 102, 16, 105, 16, 101, 16, 108]
abbrev dktX2_nameOf_1 : List UInt8 := dkwX2_nameOf_1 ++ dktX2_nameOf_2
def dkwX2_nameOf_0 : List UInt8 := [42, 180, 0, 115, 5, 159, 0, 5, 2, 172, 42, 180, 0, 128, 16, 115, 16, 112, 16, 114, 16, 105, 16, 110]
abbrev dktX2_nameOf_0 : List UInt8 := dkwX2_nameOf_0 ++ dktX2_nameOf_1
theorem dksX2_nameOf_0 : cX2_nameOf.data.toList.drop 0 = dktX2_nameOf_0 := by decide +kernel
theorem dksX2_nameOf_1 : cX2_nameOf.data.toList.drop 24 = dktX2_nameOf_1 := dk_seg dksX2_nameOf_0 24 rfl rfl
theorem dksX2_nameOf_2 : cX2_nameOf.data.toList.drop 47 = dktX2_nameOf_2 := dk_seg dksX2_nameOf_1 23 rfl rfl
theorem dksX2_nameOf_3 : cX2_nameOf.data.toList.drop 70 = dktX2_nameOf_3 := dk_seg dksX2_nameOf_2 23 rfl rfl
theorem dksX2_nameOf_4 : cX2_nameOf.data.toList.drop 93 = dktX2_nameOf_4 := dk_seg dksX2_nameOf_3 23 rfl rfl
theorem dksX2_nameOf_5 : cX2_nameOf.data.toList.drop 116 = dktX2_nameOf_5 := dk_seg dksX2_nameOf_4 23 rfl rfl
theorem dksX2_nameOf_6 : cX2_nameOf.data.toList.drop 139 = dktX2_nameOf_6 := dk_seg dksX2_nameOf_5 23 rfl rfl
theorem dksX2_nameOf_7 : cX2_nameOf.data.toList.drop 163 = dktX2_nameOf_7 := dk_seg dksX2_nameOf_6 24 rfl rfl
theorem dksX2_nameOf_8 : cX2_nameOf.data.toList.drop 185 = dktX2_nameOf_8 := dk_seg dksX2_nameOf_7 22 rfl rfl
theorem dX2_nameOf_0 : decode cX2_nameOf 0 = .ok (.aload_n 0, 1) := dk_42 (dk_at dksX2_nameOf_0 0 rfl rfl)
theorem dX2_nameOf_1 : decode cX2_nameOf 1 = .ok (.getfield 115, 3) := dk_180 0 115 (dk_at dksX2_nameOf_0 1 rfl rfl)
theorem dX2_nameOf_4 : decode cX2_nameOf 4 = .ok (.iconst 2, 1) := dk_5 (dk_at dksX2_nameOf_0 4 rfl rfl)
theorem dX2_nameOf_5 : decode cX2_nameOf 5 = .ok (.if_icmp .eq 5, 3) := dk_159 0 5 (dk_at dksX2_nameOf_0 5 rfl rfl)
theorem dX2_nameOf_8 : decode cX2_nameOf 8 = .ok (.iconst (-1), 1) := dk_2 (dk_at dksX2_nameOf_0 8 rfl rfl)
theorem dX2_nameOf_9 : decode cX2_nameOf 9 = .ok (.ireturn, 1) := dk_172 (dk_at dksX2_nameOf_0 9 rfl rfl)
theorem dX2_nameOf_10 : decode cX2_nameOf 10 = .ok (.aload_n 0, 1) := dk_42 (dk_at dksX2_nameOf_0 10 rfl rfl)
theorem dX2_nameOf_11 : decode cX2_nameOf 11 = .ok (.getfield 128, 3) := dk_180 0 128 (dk_at dksX2_nameOf_0 11 rfl rfl)
theorem dX2_nameOf_14 : decode cX2_nameOf 14 = .ok (.bipush 115, 2) := dk_16 115 (dk_at dksX2_nameOf_0 14 rfl rfl)
theorem dX2_nameOf_16 : decode cX2_nameOf 16 = .ok (.bipush 112, 2) := dk_16 112 (dk_at dksX2_nameOf_0 16 rfl rfl)
theorem dX2_nameOf_18 : decode cX2_nameOf 18 = .ok (.bipush 114, 2) := dk_16 114 (dk_at dksX2_nameOf_0 18 rfl rfl)
theorem dX2_nameOf_20 : decode cX2_nameOf 20 = .ok (.bipush 105, 2) := dk_16 105 (dk_at dksX2_nameOf_0 20 rfl rfl)
theorem dX2_nameOf_22 : decode cX2_nameOf 22 = .ok (.bipush 110, 2) := dk_16 110 (dk_at dksX2_nameOf_0 22 rfl rfl)
theorem dX2_nameOf_24 : decode cX2_nameOf 24 = .ok (.bipush 103, 2) := dk_16 103 (dk_at dksX2_nameOf_1 0 rfl rfl)
theorem dX2_nameOf_26 : decode cX2_nameOf 26 = .ok (.invokestatic 159, 3) := dk_184 0 159 (dk_at dksX2_nameOf_1 2 rfl rfl)
theorem dX2_nameOf_29 : decode cX2_nameOf 29 = .ok (.lcmp, 1) := dk_148 (dk_at dksX2_nameOf_1 5 rfl rfl)
theorem dX2_nameOf_30 : decode cX2_nameOf 30 = .ok (.ifCond .ne 5, 3) := dk_154 0 5 (dk_at dksX2_nameOf_1 6 rfl rfl)
theorem dX2_nameOf_33 : decode cX2_nameOf 33 = .ok (.iconst 0, 1) := dk_3 (dk_at dksX2_nameOf_1 9 rfl rfl)
theorem dX2_nameOf_34 : decode cX2_nameOf 34 = .ok (.ireturn, 1) := dk_172 (dk_at dksX2_nameOf_1 10 rfl rfl)
theorem dX2_nameOf_35 : decode cX2_nameOf 35 = .ok (.aload_n 0, 1) := dk_42 (dk_at dksX2_nameOf_1 11 rfl rfl)
theorem dX2_nameOf_36 : decode cX2_nameOf 36 = .ok (.getfield 128, 3) := dk_180 0 128 (dk_at dksX2_nameOf_1 12 rfl rfl)
theorem dX2_nameOf_39 : decode cX2_nameOf 39 = .ok (.bipush 102, 2) := dk_16 102 (dk_at dksX2_nameOf_1 15 rfl rfl)
theorem dX2_nameOf_41 : decode cX2_nameOf 41 = .ok (.bipush 105, 2) := dk_16 105 (dk_at dksX2_nameOf_1 17 rfl rfl)
theorem dX2_nameOf_43 : decode cX2_nameOf 43 = .ok (.bipush 101, 2) := dk_16 101 (dk_at dksX2_nameOf_1 19 rfl rfl)
theorem dX2_nameOf_45 : decode cX2_nameOf 45 = .ok (.bipush 108, 2) := dk_16 108 (dk_at dksX2_nameOf_1 21 rfl rfl)
theorem dX2_nameOf_47 : decode cX2_nameOf 47 = .ok (.bipush 100, 2) := dk_16 100 (dk_at dksX2_nameOf_2 0 rfl rfl)
theorem dX2_nameOf_49 : decode cX2_nameOf 49 = .ok (.invokestatic 149, 3) := dk_184 0 149 (dk_at dksX2_nameOf_2 2 rfl rfl)
theorem dX2_nameOf_52 : decode cX2_nameOf 52 = .ok (.lcmp, 1) := dk_148 (dk_at dksX2_nameOf_2 5 rfl rfl)
theorem dX2_nameOf_53 : decode cX2_nameOf 53 = .ok (.ifCond .ne 5, 3) := dk_154 0 5 (dk_at dksX2_nameOf_2 6 rfl rfl)
theorem dX2_nameOf_56 : decode cX2_nameOf 56 = .ok (.iconst 1, 1) := dk_4 (dk_at dksX2_nameOf_2 9 rfl rfl)
theorem dX2_nameOf_57 : decode cX2_nameOf 57 = .ok (.ireturn, 1) := dk_172 (dk_at dksX2_nameOf_2 10 rfl rfl)
theorem dX2_nameOf_58 : decode cX2_nameOf 58 = .ok (.aload_n 0, 1) := dk_42 (dk_at dksX2_nameOf_2 11 rfl rfl)
theorem dX2_nameOf_59 : decode cX2_nameOf 59 = .ok (.getfield 128, 3) := dk_180 0 128 (dk_at dksX2_nameOf_2 12 rfl rfl)
theorem dX2_nameOf_62 : decode cX2_nameOf 62 = .ok (.bipush 115, 2) := dk_16 115 (dk_at dksX2_nameOf_2 15 rfl rfl)
theorem dX2_nameOf_64 : decode cX2_nameOf 64 = .ok (.bipush 111, 2) := dk_16 111 (dk_at dksX2_nameOf_2 17 rfl rfl)
theorem dX2_nameOf_66 : decode cX2_nameOf 66 = .ok (.bipush 105, 2) := dk_16 105 (dk_at dksX2_nameOf_2 19 rfl rfl)
theorem dX2_nameOf_68 : decode cX2_nameOf 68 = .ok (.bipush 108, 2) := dk_16 108 (dk_at dksX2_nameOf_2 21 rfl rfl)
theorem dX2_nameOf_70 : decode cX2_nameOf 70 = .ok (.invokestatic 145, 3) := dk_184 0 145 (dk_at dksX2_nameOf_3 0 rfl rfl)
theorem dX2_nameOf_73 : decode cX2_nameOf 73 = .ok (.lcmp, 1) := dk_148 (dk_at dksX2_nameOf_3 3 rfl rfl)
theorem dX2_nameOf_74 : decode cX2_nameOf 74 = .ok (.ifCond .ne 5, 3) := dk_154 0 5 (dk_at dksX2_nameOf_3 4 rfl rfl)
theorem dX2_nameOf_77 : decode cX2_nameOf 77 = .ok (.iconst 2, 1) := dk_5 (dk_at dksX2_nameOf_3 7 rfl rfl)
theorem dX2_nameOf_78 : decode cX2_nameOf 78 = .ok (.ireturn, 1) := dk_172 (dk_at dksX2_nameOf_3 8 rfl rfl)
theorem dX2_nameOf_79 : decode cX2_nameOf 79 = .ok (.aload_n 0, 1) := dk_42 (dk_at dksX2_nameOf_3 9 rfl rfl)
theorem dX2_nameOf_80 : decode cX2_nameOf 80 = .ok (.getfield 128, 3) := dk_180 0 128 (dk_at dksX2_nameOf_3 10 rfl rfl)
theorem dX2_nameOf_83 : decode cX2_nameOf 83 = .ok (.bipush 102, 2) := dk_16 102 (dk_at dksX2_nameOf_3 13 rfl rfl)
theorem dX2_nameOf_85 : decode cX2_nameOf 85 = .ok (.bipush 97, 2) := dk_16 97 (dk_at dksX2_nameOf_3 15 rfl rfl)
theorem dX2_nameOf_87 : decode cX2_nameOf 87 = .ok (.bipush 114, 2) := dk_16 114 (dk_at dksX2_nameOf_3 17 rfl rfl)
theorem dX2_nameOf_89 : decode cX2_nameOf 89 = .ok (.bipush 109, 2) := dk_16 109 (dk_at dksX2_nameOf_3 19 rfl rfl)
theorem dX2_nameOf_91 : decode cX2_nameOf 91 = .ok (.bipush 101, 2) := dk_16 101 (dk_at dksX2_nameOf_3 21 rfl rfl)
theorem dX2_nameOf_93 : decode cX2_nameOf 93 = .ok (.bipush 114, 2) := dk_16 114 (dk_at dksX2_nameOf_4 0 rfl rfl)
theorem dX2_nameOf_95 : decode cX2_nameOf 95 = .ok (.invokestatic 159, 3) := dk_184 0 159 (dk_at dksX2_nameOf_4 2 rfl rfl)
theorem dX2_nameOf_98 : decode cX2_nameOf 98 = .ok (.lcmp, 1) := dk_148 (dk_at dksX2_nameOf_4 5 rfl rfl)
theorem dX2_nameOf_99 : decode cX2_nameOf 99 = .ok (.ifCond .ne 5, 3) := dk_154 0 5 (dk_at dksX2_nameOf_4 6 rfl rfl)
theorem dX2_nameOf_102 : decode cX2_nameOf 102 = .ok (.iconst 3, 1) := dk_6 (dk_at dksX2_nameOf_4 9 rfl rfl)
theorem dX2_nameOf_103 : decode cX2_nameOf 103 = .ok (.ireturn, 1) := dk_172 (dk_at dksX2_nameOf_4 10 rfl rfl)
theorem dX2_nameOf_104 : decode cX2_nameOf 104 = .ok (.aload_n 0, 1) := dk_42 (dk_at dksX2_nameOf_4 11 rfl rfl)
theorem dX2_nameOf_105 : decode cX2_nameOf 105 = .ok (.getfield 128, 3) := dk_180 0 128 (dk_at dksX2_nameOf_4 12 rfl rfl)
theorem dX2_nameOf_108 : decode cX2_nameOf 108 = .ok (.bipush 116, 2) := dk_16 116 (dk_at dksX2_nameOf_4 15 rfl rfl)
theorem dX2_nameOf_110 : decode cX2_nameOf 110 = .ok (.bipush 111, 2) := dk_16 111 (dk_at dksX2_nameOf_4 17 rfl rfl)
theorem dX2_nameOf_112 : decode cX2_nameOf 112 = .ok (.bipush 110, 2) := dk_16 110 (dk_at dksX2_nameOf_4 19 rfl rfl)
theorem dX2_nameOf_114 : decode cX2_nameOf 114 = .ok (.bipush 103, 2) := dk_16 103 (dk_at dksX2_nameOf_4 21 rfl rfl)
theorem dX2_nameOf_116 : decode cX2_nameOf 116 = .ok (.bipush 117, 2) := dk_16 117 (dk_at dksX2_nameOf_5 0 rfl rfl)
theorem dX2_nameOf_118 : decode cX2_nameOf 118 = .ok (.bipush 101, 2) := dk_16 101 (dk_at dksX2_nameOf_5 2 rfl rfl)
theorem dX2_nameOf_120 : decode cX2_nameOf 120 = .ok (.invokestatic 159, 3) := dk_184 0 159 (dk_at dksX2_nameOf_5 4 rfl rfl)
theorem dX2_nameOf_123 : decode cX2_nameOf 123 = .ok (.lcmp, 1) := dk_148 (dk_at dksX2_nameOf_5 7 rfl rfl)
theorem dX2_nameOf_124 : decode cX2_nameOf 124 = .ok (.ifCond .ne 5, 3) := dk_154 0 5 (dk_at dksX2_nameOf_5 8 rfl rfl)
theorem dX2_nameOf_127 : decode cX2_nameOf 127 = .ok (.iconst 4, 1) := dk_7 (dk_at dksX2_nameOf_5 11 rfl rfl)
theorem dX2_nameOf_128 : decode cX2_nameOf 128 = .ok (.ireturn, 1) := dk_172 (dk_at dksX2_nameOf_5 12 rfl rfl)
theorem dX2_nameOf_129 : decode cX2_nameOf 129 = .ok (.aload_n 0, 1) := dk_42 (dk_at dksX2_nameOf_5 13 rfl rfl)
theorem dX2_nameOf_130 : decode cX2_nameOf 130 = .ok (.getfield 128, 3) := dk_180 0 128 (dk_at dksX2_nameOf_5 14 rfl rfl)
theorem dX2_nameOf_133 : decode cX2_nameOf 133 = .ok (.bipush 119, 2) := dk_16 119 (dk_at dksX2_nameOf_5 17 rfl rfl)
theorem dX2_nameOf_135 : decode cX2_nameOf 135 = .ok (.bipush 97, 2) := dk_16 97 (dk_at dksX2_nameOf_5 19 rfl rfl)
theorem dX2_nameOf_137 : decode cX2_nameOf 137 = .ok (.bipush 110, 2) := dk_16 110 (dk_at dksX2_nameOf_5 21 rfl rfl)
theorem dX2_nameOf_139 : decode cX2_nameOf 139 = .ok (.bipush 116, 2) := dk_16 116 (dk_at dksX2_nameOf_6 0 rfl rfl)
theorem dX2_nameOf_141 : decode cX2_nameOf 141 = .ok (.invokestatic 145, 3) := dk_184 0 145 (dk_at dksX2_nameOf_6 2 rfl rfl)
theorem dX2_nameOf_144 : decode cX2_nameOf 144 = .ok (.lcmp, 1) := dk_148 (dk_at dksX2_nameOf_6 5 rfl rfl)
theorem dX2_nameOf_145 : decode cX2_nameOf 145 = .ok (.ifCond .ne 5, 3) := dk_154 0 5 (dk_at dksX2_nameOf_6 6 rfl rfl)
theorem dX2_nameOf_148 : decode cX2_nameOf 148 = .ok (.iconst 5, 1) := dk_8 (dk_at dksX2_nameOf_6 9 rfl rfl)
theorem dX2_nameOf_149 : decode cX2_nameOf 149 = .ok (.ireturn, 1) := dk_172 (dk_at dksX2_nameOf_6 10 rfl rfl)
theorem dX2_nameOf_150 : decode cX2_nameOf 150 = .ok (.aload_n 0, 1) := dk_42 (dk_at dksX2_nameOf_6 11 rfl rfl)
theorem dX2_nameOf_151 : decode cX2_nameOf 151 = .ok (.getfield 106, 3) := dk_180 0 106 (dk_at dksX2_nameOf_6 12 rfl rfl)
theorem dX2_nameOf_154 : decode cX2_nameOf 154 = .ok (.aload_n 0, 1) := dk_42 (dk_at dksX2_nameOf_6 15 rfl rfl)
theorem dX2_nameOf_155 : decode cX2_nameOf 155 = .ok (.getfield 112, 3) := dk_180 0 112 (dk_at dksX2_nameOf_6 16 rfl rfl)
theorem dX2_nameOf_158 : decode cX2_nameOf 158 = .ok (.isub, 1) := dk_100 (dk_at dksX2_nameOf_6 19 rfl rfl)
theorem dX2_nameOf_159 : decode cX2_nameOf 159 = .ok (.iconst 1, 1) := dk_4 (dk_at dksX2_nameOf_6 20 rfl rfl)
theorem dX2_nameOf_160 : decode cX2_nameOf 160 = .ok (.if_icmp .ne 38, 3) := dk_160 0 38 (dk_at dksX2_nameOf_6 21 rfl rfl)
theorem dX2_nameOf_163 : decode cX2_nameOf 163 = .ok (.aload_n 0, 1) := dk_42 (dk_at dksX2_nameOf_7 0 rfl rfl)
theorem dX2_nameOf_164 : decode cX2_nameOf 164 = .ok (.aload_n 0, 1) := dk_42 (dk_at dksX2_nameOf_7 1 rfl rfl)
theorem dX2_nameOf_165 : decode cX2_nameOf 165 = .ok (.getfield 112, 3) := dk_180 0 112 (dk_at dksX2_nameOf_7 2 rfl rfl)
theorem dX2_nameOf_168 : decode cX2_nameOf 168 = .ok (.invokevirtual 109, 3) := dk_182 0 109 (dk_at dksX2_nameOf_7 5 rfl rfl)
theorem dX2_nameOf_171 : decode cX2_nameOf 171 = .ok (.bipush 97, 2) := dk_16 97 (dk_at dksX2_nameOf_7 8 rfl rfl)
theorem dX2_nameOf_173 : decode cX2_nameOf 173 = .ok (.bipush 100, 2) := dk_16 100 (dk_at dksX2_nameOf_7 10 rfl rfl)
theorem dX2_nameOf_175 : decode cX2_nameOf 175 = .ok (.invokestatic 75, 3) := dk_184 0 75 (dk_at dksX2_nameOf_7 12 rfl rfl)
theorem dX2_nameOf_178 : decode cX2_nameOf 178 = .ok (.ifCond .eq 20, 3) := dk_153 0 20 (dk_at dksX2_nameOf_7 15 rfl rfl)
theorem dX2_nameOf_181 : decode cX2_nameOf 181 = .ok (.bipush 6, 2) := dk_16 6 (dk_at dksX2_nameOf_7 18 rfl rfl)
theorem dX2_nameOf_183 : decode cX2_nameOf 183 = .ok (.aload_n 0, 1) := dk_42 (dk_at dksX2_nameOf_7 20 rfl rfl)
theorem dX2_nameOf_184 : decode cX2_nameOf 184 = .ok (.aload_n 0, 1) := dk_42 (dk_at dksX2_nameOf_7 21 rfl rfl)
theorem dX2_nameOf_185 : decode cX2_nameOf 185 = .ok (.getfield 112, 3) := dk_180 0 112 (dk_at dksX2_nameOf_8 0 rfl rfl)
theorem dX2_nameOf_188 : decode cX2_nameOf 188 = .ok (.invokevirtual 109, 3) := dk_182 0 109 (dk_at dksX2_nameOf_8 3 rfl rfl)
theorem dX2_nameOf_191 : decode cX2_nameOf 191 = .ok (.iadd, 1) := dk_96 (dk_at dksX2_nameOf_8 6 rfl rfl)
theorem dX2_nameOf_192 : decode cX2_nameOf 192 = .ok (.bipush 97, 2) := dk_16 97 (dk_at dksX2_nameOf_8 7 rfl rfl)
theorem dX2_nameOf_194 : decode cX2_nameOf 194 = .ok (.isub, 1) := dk_100 (dk_at dksX2_nameOf_8 9 rfl rfl)
theorem dX2_nameOf_195 : decode cX2_nameOf 195 = .ok (.goto 4, 3) := dk_167 0 4 (dk_at dksX2_nameOf_8 10 rfl rfl)
theorem dX2_nameOf_198 : decode cX2_nameOf 198 = .ok (.iconst (-1), 1) := dk_2 (dk_at dksX2_nameOf_8 13 rfl rfl)
theorem dX2_nameOf_199 : decode cX2_nameOf 199 = .ok (.ireturn, 1) := dk_172 (dk_at dksX2_nameOf_8 14 rfl rfl)
abbrev cX2_isOf : ByteArray := prog_20_method_38_code
def yX2_isOf : MethodName := ⟨RX2, "isOf", "(I)Z"⟩
def dkwX2_isOf_1 : List UInt8 := [180, 0, 163, 4, 160, 0, 7, 4, 167, 0, 4, 3, 172]
abbrev dktX2_isOf_1 : List UInt8 := dkwX2_isOf_1 ++ []
def dkwX2_isOf_0 : List UInt8 := [27, 16, 6, 162, 0, 18, 42, 180, 0, 163, 154, 0, 7, 4, 167, 0, 20, 3, 167, 0, 16, 42]
abbrev dktX2_isOf_0 : List UInt8 := dkwX2_isOf_0 ++ dktX2_isOf_1
theorem dksX2_isOf_0 : cX2_isOf.data.toList.drop 0 = dktX2_isOf_0 := by decide +kernel
theorem dksX2_isOf_1 : cX2_isOf.data.toList.drop 22 = dktX2_isOf_1 := dk_seg dksX2_isOf_0 22 rfl rfl
theorem dX2_isOf_0 : decode cX2_isOf 0 = .ok (.iload_n 1, 1) := dk_27 (dk_at dksX2_isOf_0 0 rfl rfl)
theorem dX2_isOf_1 : decode cX2_isOf 1 = .ok (.bipush 6, 2) := dk_16 6 (dk_at dksX2_isOf_0 1 rfl rfl)
theorem dX2_isOf_3 : decode cX2_isOf 3 = .ok (.if_icmp .ge 18, 3) := dk_162 0 18 (dk_at dksX2_isOf_0 3 rfl rfl)
theorem dX2_isOf_6 : decode cX2_isOf 6 = .ok (.aload_n 0, 1) := dk_42 (dk_at dksX2_isOf_0 6 rfl rfl)
theorem dX2_isOf_7 : decode cX2_isOf 7 = .ok (.getfield 163, 3) := dk_180 0 163 (dk_at dksX2_isOf_0 7 rfl rfl)
theorem dX2_isOf_10 : decode cX2_isOf 10 = .ok (.ifCond .ne 7, 3) := dk_154 0 7 (dk_at dksX2_isOf_0 10 rfl rfl)
theorem dX2_isOf_13 : decode cX2_isOf 13 = .ok (.iconst 1, 1) := dk_4 (dk_at dksX2_isOf_0 13 rfl rfl)
theorem dX2_isOf_14 : decode cX2_isOf 14 = .ok (.goto 20, 3) := dk_167 0 20 (dk_at dksX2_isOf_0 14 rfl rfl)
theorem dX2_isOf_17 : decode cX2_isOf 17 = .ok (.iconst 0, 1) := dk_3 (dk_at dksX2_isOf_0 17 rfl rfl)
theorem dX2_isOf_18 : decode cX2_isOf 18 = .ok (.goto 16, 3) := dk_167 0 16 (dk_at dksX2_isOf_0 18 rfl rfl)
theorem dX2_isOf_21 : decode cX2_isOf 21 = .ok (.aload_n 0, 1) := dk_42 (dk_at dksX2_isOf_0 21 rfl rfl)
theorem dX2_isOf_22 : decode cX2_isOf 22 = .ok (.getfield 163, 3) := dk_180 0 163 (dk_at dksX2_isOf_1 0 rfl rfl)
theorem dX2_isOf_25 : decode cX2_isOf 25 = .ok (.iconst 1, 1) := dk_4 (dk_at dksX2_isOf_1 3 rfl rfl)
theorem dX2_isOf_26 : decode cX2_isOf 26 = .ok (.if_icmp .ne 7, 3) := dk_160 0 7 (dk_at dksX2_isOf_1 4 rfl rfl)
theorem dX2_isOf_29 : decode cX2_isOf 29 = .ok (.iconst 1, 1) := dk_4 (dk_at dksX2_isOf_1 7 rfl rfl)
theorem dX2_isOf_30 : decode cX2_isOf 30 = .ok (.goto 4, 3) := dk_167 0 4 (dk_at dksX2_isOf_1 8 rfl rfl)
theorem dX2_isOf_33 : decode cX2_isOf 33 = .ok (.iconst 0, 1) := dk_3 (dk_at dksX2_isOf_1 11 rfl rfl)
theorem dX2_isOf_34 : decode cX2_isOf 34 = .ok (.ireturn, 1) := dk_172 (dk_at dksX2_isOf_1 12 rfl rfl)
abbrev cX2_opened : ByteArray := prog_20_method_46_code
def yX2_opened : MethodName := ⟨RX2, "opened", "(I)I"⟩
def dkwX2_opened_2 : List UInt8 := [172]
abbrev dktX2_opened_2 : List UInt8 := dkwX2_opened_2 ++ []
def dkwX2_opened_1 : List UInt8 := [180, 0, 29, 42, 180, 0, 166, 27, 79, 42, 89, 180, 0, 166, 4, 96, 181, 0, 166, 42, 182, 0, 189, 3]
abbrev dktX2_opened_1 : List UInt8 := dkwX2_opened_1 ++ dktX2_opened_2
def dkwX2_opened_0 : List UInt8 := [42, 180, 0, 176, 16, 8, 160, 0, 5, 6, 172, 42, 89, 180, 0, 176, 4, 96, 181, 0, 176, 42]
abbrev dktX2_opened_0 : List UInt8 := dkwX2_opened_0 ++ dktX2_opened_1
theorem dksX2_opened_0 : cX2_opened.data.toList.drop 0 = dktX2_opened_0 := by decide +kernel
theorem dksX2_opened_1 : cX2_opened.data.toList.drop 22 = dktX2_opened_1 := dk_seg dksX2_opened_0 22 rfl rfl
theorem dksX2_opened_2 : cX2_opened.data.toList.drop 46 = dktX2_opened_2 := dk_seg dksX2_opened_1 24 rfl rfl
theorem dX2_opened_0 : decode cX2_opened 0 = .ok (.aload_n 0, 1) := dk_42 (dk_at dksX2_opened_0 0 rfl rfl)
theorem dX2_opened_1 : decode cX2_opened 1 = .ok (.getfield 176, 3) := dk_180 0 176 (dk_at dksX2_opened_0 1 rfl rfl)
theorem dX2_opened_4 : decode cX2_opened 4 = .ok (.bipush 8, 2) := dk_16 8 (dk_at dksX2_opened_0 4 rfl rfl)
theorem dX2_opened_6 : decode cX2_opened 6 = .ok (.if_icmp .ne 5, 3) := dk_160 0 5 (dk_at dksX2_opened_0 6 rfl rfl)
theorem dX2_opened_9 : decode cX2_opened 9 = .ok (.iconst 3, 1) := dk_6 (dk_at dksX2_opened_0 9 rfl rfl)
theorem dX2_opened_10 : decode cX2_opened 10 = .ok (.ireturn, 1) := dk_172 (dk_at dksX2_opened_0 10 rfl rfl)
theorem dX2_opened_11 : decode cX2_opened 11 = .ok (.aload_n 0, 1) := dk_42 (dk_at dksX2_opened_0 11 rfl rfl)
theorem dX2_opened_12 : decode cX2_opened 12 = .ok (.dup, 1) := dk_89 (dk_at dksX2_opened_0 12 rfl rfl)
theorem dX2_opened_13 : decode cX2_opened 13 = .ok (.getfield 176, 3) := dk_180 0 176 (dk_at dksX2_opened_0 13 rfl rfl)
theorem dX2_opened_16 : decode cX2_opened 16 = .ok (.iconst 1, 1) := dk_4 (dk_at dksX2_opened_0 16 rfl rfl)
theorem dX2_opened_17 : decode cX2_opened 17 = .ok (.iadd, 1) := dk_96 (dk_at dksX2_opened_0 17 rfl rfl)
theorem dX2_opened_18 : decode cX2_opened 18 = .ok (.putfield 176, 3) := dk_181 0 176 (dk_at dksX2_opened_0 18 rfl rfl)
theorem dX2_opened_21 : decode cX2_opened 21 = .ok (.aload_n 0, 1) := dk_42 (dk_at dksX2_opened_0 21 rfl rfl)
theorem dX2_opened_22 : decode cX2_opened 22 = .ok (.getfield 29, 3) := dk_180 0 29 (dk_at dksX2_opened_1 0 rfl rfl)
theorem dX2_opened_25 : decode cX2_opened 25 = .ok (.aload_n 0, 1) := dk_42 (dk_at dksX2_opened_1 3 rfl rfl)
theorem dX2_opened_26 : decode cX2_opened 26 = .ok (.getfield 166, 3) := dk_180 0 166 (dk_at dksX2_opened_1 4 rfl rfl)
theorem dX2_opened_29 : decode cX2_opened 29 = .ok (.iload_n 1, 1) := dk_27 (dk_at dksX2_opened_1 7 rfl rfl)
theorem dX2_opened_30 : decode cX2_opened 30 = .ok (.iastore, 1) := dk_79 (dk_at dksX2_opened_1 8 rfl rfl)
theorem dX2_opened_31 : decode cX2_opened 31 = .ok (.aload_n 0, 1) := dk_42 (dk_at dksX2_opened_1 9 rfl rfl)
theorem dX2_opened_32 : decode cX2_opened 32 = .ok (.dup, 1) := dk_89 (dk_at dksX2_opened_1 10 rfl rfl)
theorem dX2_opened_33 : decode cX2_opened 33 = .ok (.getfield 166, 3) := dk_180 0 166 (dk_at dksX2_opened_1 11 rfl rfl)
theorem dX2_opened_36 : decode cX2_opened 36 = .ok (.iconst 1, 1) := dk_4 (dk_at dksX2_opened_1 14 rfl rfl)
theorem dX2_opened_37 : decode cX2_opened 37 = .ok (.iadd, 1) := dk_96 (dk_at dksX2_opened_1 15 rfl rfl)
theorem dX2_opened_38 : decode cX2_opened 38 = .ok (.putfield 166, 3) := dk_181 0 166 (dk_at dksX2_opened_1 16 rfl rfl)
theorem dX2_opened_41 : decode cX2_opened 41 = .ok (.aload_n 0, 1) := dk_42 (dk_at dksX2_opened_1 19 rfl rfl)
theorem dX2_opened_42 : decode cX2_opened 42 = .ok (.invokevirtual 189, 3) := dk_182 0 189 (dk_at dksX2_opened_1 20 rfl rfl)
theorem dX2_opened_45 : decode cX2_opened 45 = .ok (.iconst 0, 1) := dk_3 (dk_at dksX2_opened_1 23 rfl rfl)
theorem dX2_opened_46 : decode cX2_opened 46 = .ok (.ireturn, 1) := dk_172 (dk_at dksX2_opened_2 0 rfl rfl)
abbrev cX2_isAskAhead : ByteArray := prog_20_method_45_code
def yX2_isAskAhead : MethodName := ⟨RX2, "isAskAhead", "()Z"⟩
def dkwX2_isAskAhead_2 : List UInt8 := [167, 0, 4, 3, 172]
abbrev dktX2_isAskAhead_2 : List UInt8 := dkwX2_isAskAhead_2 ++ []
def dkwX2_isAskAhead_1 : List UInt8 := [180, 0, 29, 42, 180, 0, 166, 4, 100, 46, 184, 0, 169, 4, 6, 184, 0, 75, 153, 0, 7, 4]
abbrev dktX2_isAskAhead_1 : List UInt8 := dkwX2_isAskAhead_1 ++ dktX2_isAskAhead_2
def dkwX2_isAskAhead_0 : List UInt8 := [42, 182, 0, 185, 153, 0, 45, 42, 180, 0, 29, 42, 180, 0, 166, 4, 100, 46, 16, 40, 162, 0, 25, 42]
abbrev dktX2_isAskAhead_0 : List UInt8 := dkwX2_isAskAhead_0 ++ dktX2_isAskAhead_1
theorem dksX2_isAskAhead_0 : cX2_isAskAhead.data.toList.drop 0 = dktX2_isAskAhead_0 := by decide +kernel
theorem dksX2_isAskAhead_1 : cX2_isAskAhead.data.toList.drop 24 = dktX2_isAskAhead_1 := dk_seg dksX2_isAskAhead_0 24 rfl rfl
theorem dksX2_isAskAhead_2 : cX2_isAskAhead.data.toList.drop 46 = dktX2_isAskAhead_2 := dk_seg dksX2_isAskAhead_1 22 rfl rfl
theorem dX2_isAskAhead_0 : decode cX2_isAskAhead 0 = .ok (.aload_n 0, 1) := dk_42 (dk_at dksX2_isAskAhead_0 0 rfl rfl)
theorem dX2_isAskAhead_1 : decode cX2_isAskAhead 1 = .ok (.invokevirtual 185, 3) := dk_182 0 185 (dk_at dksX2_isAskAhead_0 1 rfl rfl)
theorem dX2_isAskAhead_4 : decode cX2_isAskAhead 4 = .ok (.ifCond .eq 45, 3) := dk_153 0 45 (dk_at dksX2_isAskAhead_0 4 rfl rfl)
theorem dX2_isAskAhead_7 : decode cX2_isAskAhead 7 = .ok (.aload_n 0, 1) := dk_42 (dk_at dksX2_isAskAhead_0 7 rfl rfl)
theorem dX2_isAskAhead_8 : decode cX2_isAskAhead 8 = .ok (.getfield 29, 3) := dk_180 0 29 (dk_at dksX2_isAskAhead_0 8 rfl rfl)
theorem dX2_isAskAhead_11 : decode cX2_isAskAhead 11 = .ok (.aload_n 0, 1) := dk_42 (dk_at dksX2_isAskAhead_0 11 rfl rfl)
theorem dX2_isAskAhead_12 : decode cX2_isAskAhead 12 = .ok (.getfield 166, 3) := dk_180 0 166 (dk_at dksX2_isAskAhead_0 12 rfl rfl)
theorem dX2_isAskAhead_15 : decode cX2_isAskAhead 15 = .ok (.iconst 1, 1) := dk_4 (dk_at dksX2_isAskAhead_0 15 rfl rfl)
theorem dX2_isAskAhead_16 : decode cX2_isAskAhead 16 = .ok (.isub, 1) := dk_100 (dk_at dksX2_isAskAhead_0 16 rfl rfl)
theorem dX2_isAskAhead_17 : decode cX2_isAskAhead 17 = .ok (.iaload, 1) := dk_46 (dk_at dksX2_isAskAhead_0 17 rfl rfl)
theorem dX2_isAskAhead_18 : decode cX2_isAskAhead 18 = .ok (.bipush 40, 2) := dk_16 40 (dk_at dksX2_isAskAhead_0 18 rfl rfl)
theorem dX2_isAskAhead_20 : decode cX2_isAskAhead 20 = .ok (.if_icmp .ge 25, 3) := dk_162 0 25 (dk_at dksX2_isAskAhead_0 20 rfl rfl)
theorem dX2_isAskAhead_23 : decode cX2_isAskAhead 23 = .ok (.aload_n 0, 1) := dk_42 (dk_at dksX2_isAskAhead_0 23 rfl rfl)
theorem dX2_isAskAhead_24 : decode cX2_isAskAhead 24 = .ok (.getfield 29, 3) := dk_180 0 29 (dk_at dksX2_isAskAhead_1 0 rfl rfl)
theorem dX2_isAskAhead_27 : decode cX2_isAskAhead 27 = .ok (.aload_n 0, 1) := dk_42 (dk_at dksX2_isAskAhead_1 3 rfl rfl)
theorem dX2_isAskAhead_28 : decode cX2_isAskAhead 28 = .ok (.getfield 166, 3) := dk_180 0 166 (dk_at dksX2_isAskAhead_1 4 rfl rfl)
theorem dX2_isAskAhead_31 : decode cX2_isAskAhead 31 = .ok (.iconst 1, 1) := dk_4 (dk_at dksX2_isAskAhead_1 7 rfl rfl)
theorem dX2_isAskAhead_32 : decode cX2_isAskAhead 32 = .ok (.isub, 1) := dk_100 (dk_at dksX2_isAskAhead_1 8 rfl rfl)
theorem dX2_isAskAhead_33 : decode cX2_isAskAhead 33 = .ok (.iaload, 1) := dk_46 (dk_at dksX2_isAskAhead_1 9 rfl rfl)
theorem dX2_isAskAhead_34 : decode cX2_isAskAhead 34 = .ok (.invokestatic 169, 3) := dk_184 0 169 (dk_at dksX2_isAskAhead_1 10 rfl rfl)
theorem dX2_isAskAhead_37 : decode cX2_isAskAhead 37 = .ok (.iconst 1, 1) := dk_4 (dk_at dksX2_isAskAhead_1 13 rfl rfl)
theorem dX2_isAskAhead_38 : decode cX2_isAskAhead 38 = .ok (.iconst 3, 1) := dk_6 (dk_at dksX2_isAskAhead_1 14 rfl rfl)
theorem dX2_isAskAhead_39 : decode cX2_isAskAhead 39 = .ok (.invokestatic 75, 3) := dk_184 0 75 (dk_at dksX2_isAskAhead_1 15 rfl rfl)
theorem dX2_isAskAhead_42 : decode cX2_isAskAhead 42 = .ok (.ifCond .eq 7, 3) := dk_153 0 7 (dk_at dksX2_isAskAhead_1 18 rfl rfl)
theorem dX2_isAskAhead_45 : decode cX2_isAskAhead 45 = .ok (.iconst 1, 1) := dk_4 (dk_at dksX2_isAskAhead_1 21 rfl rfl)
theorem dX2_isAskAhead_46 : decode cX2_isAskAhead 46 = .ok (.goto 4, 3) := dk_167 0 4 (dk_at dksX2_isAskAhead_2 0 rfl rfl)
theorem dX2_isAskAhead_49 : decode cX2_isAskAhead 49 = .ok (.iconst 0, 1) := dk_3 (dk_at dksX2_isAskAhead_2 3 rfl rfl)
theorem dX2_isAskAhead_50 : decode cX2_isAskAhead 50 = .ok (.ireturn, 1) := dk_172 (dk_at dksX2_isAskAhead_2 4 rfl rfl)
abbrev cX2_figure : ByteArray := prog_20_method_54_code
def yX2_figure : MethodName := ⟨RX2, "figure", "(III)I"⟩
def dkwX2_figure_1 : List UInt8 := [42, 180, 0, 16, 27, 42, 180, 0, 121, 79, 42, 182, 0, 189, 3, 172]
abbrev dktX2_figure_1 : List UInt8 := dkwX2_figure_1 ++ []
def dkwX2_figure_0 : List UInt8 := [42, 180, 0, 115, 4, 159, 0, 5, 4, 172, 42, 180, 0, 121, 28, 29, 184, 0, 75, 154, 0, 5, 5, 172]
abbrev dktX2_figure_0 : List UInt8 := dkwX2_figure_0 ++ dktX2_figure_1
theorem dksX2_figure_0 : cX2_figure.data.toList.drop 0 = dktX2_figure_0 := by decide +kernel
theorem dksX2_figure_1 : cX2_figure.data.toList.drop 24 = dktX2_figure_1 := dk_seg dksX2_figure_0 24 rfl rfl
theorem dX2_figure_0 : decode cX2_figure 0 = .ok (.aload_n 0, 1) := dk_42 (dk_at dksX2_figure_0 0 rfl rfl)
theorem dX2_figure_1 : decode cX2_figure 1 = .ok (.getfield 115, 3) := dk_180 0 115 (dk_at dksX2_figure_0 1 rfl rfl)
theorem dX2_figure_4 : decode cX2_figure 4 = .ok (.iconst 1, 1) := dk_4 (dk_at dksX2_figure_0 4 rfl rfl)
theorem dX2_figure_5 : decode cX2_figure 5 = .ok (.if_icmp .eq 5, 3) := dk_159 0 5 (dk_at dksX2_figure_0 5 rfl rfl)
theorem dX2_figure_8 : decode cX2_figure 8 = .ok (.iconst 1, 1) := dk_4 (dk_at dksX2_figure_0 8 rfl rfl)
theorem dX2_figure_9 : decode cX2_figure 9 = .ok (.ireturn, 1) := dk_172 (dk_at dksX2_figure_0 9 rfl rfl)
theorem dX2_figure_10 : decode cX2_figure 10 = .ok (.aload_n 0, 1) := dk_42 (dk_at dksX2_figure_0 10 rfl rfl)
theorem dX2_figure_11 : decode cX2_figure 11 = .ok (.getfield 121, 3) := dk_180 0 121 (dk_at dksX2_figure_0 11 rfl rfl)
theorem dX2_figure_14 : decode cX2_figure 14 = .ok (.iload_n 2, 1) := dk_28 (dk_at dksX2_figure_0 14 rfl rfl)
theorem dX2_figure_15 : decode cX2_figure 15 = .ok (.iload_n 3, 1) := dk_29 (dk_at dksX2_figure_0 15 rfl rfl)
theorem dX2_figure_16 : decode cX2_figure 16 = .ok (.invokestatic 75, 3) := dk_184 0 75 (dk_at dksX2_figure_0 16 rfl rfl)
theorem dX2_figure_19 : decode cX2_figure 19 = .ok (.ifCond .ne 5, 3) := dk_154 0 5 (dk_at dksX2_figure_0 19 rfl rfl)
theorem dX2_figure_22 : decode cX2_figure 22 = .ok (.iconst 2, 1) := dk_5 (dk_at dksX2_figure_0 22 rfl rfl)
theorem dX2_figure_23 : decode cX2_figure 23 = .ok (.ireturn, 1) := dk_172 (dk_at dksX2_figure_0 23 rfl rfl)
theorem dX2_figure_24 : decode cX2_figure 24 = .ok (.aload_n 0, 1) := dk_42 (dk_at dksX2_figure_1 0 rfl rfl)
theorem dX2_figure_25 : decode cX2_figure 25 = .ok (.getfield 16, 3) := dk_180 0 16 (dk_at dksX2_figure_1 1 rfl rfl)
theorem dX2_figure_28 : decode cX2_figure 28 = .ok (.iload_n 1, 1) := dk_27 (dk_at dksX2_figure_1 4 rfl rfl)
theorem dX2_figure_29 : decode cX2_figure 29 = .ok (.aload_n 0, 1) := dk_42 (dk_at dksX2_figure_1 5 rfl rfl)
theorem dX2_figure_30 : decode cX2_figure 30 = .ok (.getfield 121, 3) := dk_180 0 121 (dk_at dksX2_figure_1 6 rfl rfl)
theorem dX2_figure_33 : decode cX2_figure 33 = .ok (.iastore, 1) := dk_79 (dk_at dksX2_figure_1 9 rfl rfl)
theorem dX2_figure_34 : decode cX2_figure 34 = .ok (.aload_n 0, 1) := dk_42 (dk_at dksX2_figure_1 10 rfl rfl)
theorem dX2_figure_35 : decode cX2_figure 35 = .ok (.invokevirtual 189, 3) := dk_182 0 189 (dk_at dksX2_figure_1 11 rfl rfl)
theorem dX2_figure_38 : decode cX2_figure 38 = .ok (.iconst 0, 1) := dk_3 (dk_at dksX2_figure_1 14 rfl rfl)
theorem dX2_figure_39 : decode cX2_figure 39 = .ok (.ireturn, 1) := dk_172 (dk_at dksX2_figure_1 15 rfl rfl)
abbrev cX2_wantClause : ByteArray := prog_20_method_57_code
def yX2_wantClause : MethodName := ⟨RX2, "wantClause", "(IZ)I"⟩
def dkwX2_wantClause_2 : List UInt8 := [184, 0, 137, 182, 0, 243, 167, 0, 4, 29, 172]
abbrev dktX2_wantClause_2 : List UInt8 := dkwX2_wantClause_2 ++ []
def dkwX2_wantClause_1 : List UInt8 := [184, 0, 137, 182, 0, 243, 62, 29, 154, 0, 24, 28, 153, 0, 20, 42, 27, 6, 96, 16, 98, 16, 121]
abbrev dktX2_wantClause_1 : List UInt8 := dkwX2_wantClause_1 ++ dktX2_wantClause_2
def dkwX2_wantClause_0 : List UInt8 := [42, 27, 4, 96, 3, 16, 20, 182, 0, 239, 62, 29, 154, 0, 18, 42, 27, 5, 96, 16, 97, 16, 116]
abbrev dktX2_wantClause_0 : List UInt8 := dkwX2_wantClause_0 ++ dktX2_wantClause_1
theorem dksX2_wantClause_0 : cX2_wantClause.data.toList.drop 0 = dktX2_wantClause_0 := by decide +kernel
theorem dksX2_wantClause_1 : cX2_wantClause.data.toList.drop 23 = dktX2_wantClause_1 := dk_seg dksX2_wantClause_0 23 rfl rfl
theorem dksX2_wantClause_2 : cX2_wantClause.data.toList.drop 46 = dktX2_wantClause_2 := dk_seg dksX2_wantClause_1 23 rfl rfl
theorem dX2_wantClause_0 : decode cX2_wantClause 0 = .ok (.aload_n 0, 1) := dk_42 (dk_at dksX2_wantClause_0 0 rfl rfl)
theorem dX2_wantClause_1 : decode cX2_wantClause 1 = .ok (.iload_n 1, 1) := dk_27 (dk_at dksX2_wantClause_0 1 rfl rfl)
theorem dX2_wantClause_2 : decode cX2_wantClause 2 = .ok (.iconst 1, 1) := dk_4 (dk_at dksX2_wantClause_0 2 rfl rfl)
theorem dX2_wantClause_3 : decode cX2_wantClause 3 = .ok (.iadd, 1) := dk_96 (dk_at dksX2_wantClause_0 3 rfl rfl)
theorem dX2_wantClause_4 : decode cX2_wantClause 4 = .ok (.iconst 0, 1) := dk_3 (dk_at dksX2_wantClause_0 4 rfl rfl)
theorem dX2_wantClause_5 : decode cX2_wantClause 5 = .ok (.bipush 20, 2) := dk_16 20 (dk_at dksX2_wantClause_0 5 rfl rfl)
theorem dX2_wantClause_7 : decode cX2_wantClause 7 = .ok (.invokevirtual 239, 3) := dk_182 0 239 (dk_at dksX2_wantClause_0 7 rfl rfl)
theorem dX2_wantClause_10 : decode cX2_wantClause 10 = .ok (.istore_n 3, 1) := dk_62 (dk_at dksX2_wantClause_0 10 rfl rfl)
theorem dX2_wantClause_11 : decode cX2_wantClause 11 = .ok (.iload_n 3, 1) := dk_29 (dk_at dksX2_wantClause_0 11 rfl rfl)
theorem dX2_wantClause_12 : decode cX2_wantClause 12 = .ok (.ifCond .ne 18, 3) := dk_154 0 18 (dk_at dksX2_wantClause_0 12 rfl rfl)
theorem dX2_wantClause_15 : decode cX2_wantClause 15 = .ok (.aload_n 0, 1) := dk_42 (dk_at dksX2_wantClause_0 15 rfl rfl)
theorem dX2_wantClause_16 : decode cX2_wantClause 16 = .ok (.iload_n 1, 1) := dk_27 (dk_at dksX2_wantClause_0 16 rfl rfl)
theorem dX2_wantClause_17 : decode cX2_wantClause 17 = .ok (.iconst 2, 1) := dk_5 (dk_at dksX2_wantClause_0 17 rfl rfl)
theorem dX2_wantClause_18 : decode cX2_wantClause 18 = .ok (.iadd, 1) := dk_96 (dk_at dksX2_wantClause_0 18 rfl rfl)
theorem dX2_wantClause_19 : decode cX2_wantClause 19 = .ok (.bipush 97, 2) := dk_16 97 (dk_at dksX2_wantClause_0 19 rfl rfl)
theorem dX2_wantClause_21 : decode cX2_wantClause 21 = .ok (.bipush 116, 2) := dk_16 116 (dk_at dksX2_wantClause_0 21 rfl rfl)
theorem dX2_wantClause_23 : decode cX2_wantClause 23 = .ok (.invokestatic 137, 3) := dk_184 0 137 (dk_at dksX2_wantClause_1 0 rfl rfl)
theorem dX2_wantClause_26 : decode cX2_wantClause 26 = .ok (.invokevirtual 243, 3) := dk_182 0 243 (dk_at dksX2_wantClause_1 3 rfl rfl)
theorem dX2_wantClause_29 : decode cX2_wantClause 29 = .ok (.istore_n 3, 1) := dk_62 (dk_at dksX2_wantClause_1 6 rfl rfl)
theorem dX2_wantClause_30 : decode cX2_wantClause 30 = .ok (.iload_n 3, 1) := dk_29 (dk_at dksX2_wantClause_1 7 rfl rfl)
theorem dX2_wantClause_31 : decode cX2_wantClause 31 = .ok (.ifCond .ne 24, 3) := dk_154 0 24 (dk_at dksX2_wantClause_1 8 rfl rfl)
theorem dX2_wantClause_34 : decode cX2_wantClause 34 = .ok (.iload_n 2, 1) := dk_28 (dk_at dksX2_wantClause_1 11 rfl rfl)
theorem dX2_wantClause_35 : decode cX2_wantClause 35 = .ok (.ifCond .eq 20, 3) := dk_153 0 20 (dk_at dksX2_wantClause_1 12 rfl rfl)
theorem dX2_wantClause_38 : decode cX2_wantClause 38 = .ok (.aload_n 0, 1) := dk_42 (dk_at dksX2_wantClause_1 15 rfl rfl)
theorem dX2_wantClause_39 : decode cX2_wantClause 39 = .ok (.iload_n 1, 1) := dk_27 (dk_at dksX2_wantClause_1 16 rfl rfl)
theorem dX2_wantClause_40 : decode cX2_wantClause 40 = .ok (.iconst 3, 1) := dk_6 (dk_at dksX2_wantClause_1 17 rfl rfl)
theorem dX2_wantClause_41 : decode cX2_wantClause 41 = .ok (.iadd, 1) := dk_96 (dk_at dksX2_wantClause_1 18 rfl rfl)
theorem dX2_wantClause_42 : decode cX2_wantClause 42 = .ok (.bipush 98, 2) := dk_16 98 (dk_at dksX2_wantClause_1 19 rfl rfl)
theorem dX2_wantClause_44 : decode cX2_wantClause 44 = .ok (.bipush 121, 2) := dk_16 121 (dk_at dksX2_wantClause_1 21 rfl rfl)
theorem dX2_wantClause_46 : decode cX2_wantClause 46 = .ok (.invokestatic 137, 3) := dk_184 0 137 (dk_at dksX2_wantClause_2 0 rfl rfl)
theorem dX2_wantClause_49 : decode cX2_wantClause 49 = .ok (.invokevirtual 243, 3) := dk_182 0 243 (dk_at dksX2_wantClause_2 3 rfl rfl)
theorem dX2_wantClause_52 : decode cX2_wantClause 52 = .ok (.goto 4, 3) := dk_167 0 4 (dk_at dksX2_wantClause_2 6 rfl rfl)
theorem dX2_wantClause_55 : decode cX2_wantClause 55 = .ok (.iload_n 3, 1) := dk_29 (dk_at dksX2_wantClause_2 9 rfl rfl)
theorem dX2_wantClause_56 : decode cX2_wantClause 56 = .ok (.ireturn, 1) := dk_172 (dk_at dksX2_wantClause_2 10 rfl rfl)
abbrev cX2_behind : ByteArray := prog_20_method_56_code
def yX2_behind : MethodName := ⟨RX2, "behind", "(IJ)I"⟩
def dkwX2_behind_0 : List UInt8 := [42, 32, 182, 0, 204, 154, 0, 5, 4, 172, 42, 182, 0, 189, 42, 27, 3, 7, 182, 0, 239, 172]
abbrev dktX2_behind_0 : List UInt8 := dkwX2_behind_0 ++ []
theorem dksX2_behind_0 : cX2_behind.data.toList.drop 0 = dktX2_behind_0 := by decide +kernel
theorem dX2_behind_0 : decode cX2_behind 0 = .ok (.aload_n 0, 1) := dk_42 (dk_at dksX2_behind_0 0 rfl rfl)
theorem dX2_behind_1 : decode cX2_behind 1 = .ok (.lload_n 2, 1) := dk_32 (dk_at dksX2_behind_0 1 rfl rfl)
theorem dX2_behind_2 : decode cX2_behind 2 = .ok (.invokevirtual 204, 3) := dk_182 0 204 (dk_at dksX2_behind_0 2 rfl rfl)
theorem dX2_behind_5 : decode cX2_behind 5 = .ok (.ifCond .ne 5, 3) := dk_154 0 5 (dk_at dksX2_behind_0 5 rfl rfl)
theorem dX2_behind_8 : decode cX2_behind 8 = .ok (.iconst 1, 1) := dk_4 (dk_at dksX2_behind_0 8 rfl rfl)
theorem dX2_behind_9 : decode cX2_behind 9 = .ok (.ireturn, 1) := dk_172 (dk_at dksX2_behind_0 9 rfl rfl)
theorem dX2_behind_10 : decode cX2_behind 10 = .ok (.aload_n 0, 1) := dk_42 (dk_at dksX2_behind_0 10 rfl rfl)
theorem dX2_behind_11 : decode cX2_behind 11 = .ok (.invokevirtual 189, 3) := dk_182 0 189 (dk_at dksX2_behind_0 11 rfl rfl)
theorem dX2_behind_14 : decode cX2_behind 14 = .ok (.aload_n 0, 1) := dk_42 (dk_at dksX2_behind_0 14 rfl rfl)
theorem dX2_behind_15 : decode cX2_behind 15 = .ok (.iload_n 1, 1) := dk_27 (dk_at dksX2_behind_0 15 rfl rfl)
theorem dX2_behind_16 : decode cX2_behind 16 = .ok (.iconst 0, 1) := dk_3 (dk_at dksX2_behind_0 16 rfl rfl)
theorem dX2_behind_17 : decode cX2_behind 17 = .ok (.iconst 4, 1) := dk_7 (dk_at dksX2_behind_0 17 rfl rfl)
theorem dX2_behind_18 : decode cX2_behind 18 = .ok (.invokevirtual 239, 3) := dk_182 0 239 (dk_at dksX2_behind_0 18 rfl rfl)
theorem dX2_behind_21 : decode cX2_behind 21 = .ok (.ireturn, 1) := dk_172 (dk_at dksX2_behind_0 21 rfl rfl)
abbrev cX2_layTables : ByteArray := prog_20_method_73_code
def yX2_layTables : MethodName := ⟨RX2, "layTables", "(I)V"⟩
def dkwX2_layTables_5 : List UInt8 := [180, 0, 16, 28, 17, 2, 193, 96, 29, 79, 42, 3, 181, 1, 31, 177]
abbrev dktX2_layTables_5 : List UInt8 := dkwX2_layTables_5 ++ []
def dkwX2_layTables_4 : List UInt8 := [28, 17, 2, 193, 96, 4, 96, 29, 96, 21, 5, 79, 132, 3, 1, 132, 4, 1, 167, 255, 159, 42]
abbrev dktX2_layTables_4 : List UInt8 := dkwX2_layTables_4 ++ dktX2_layTables_5
def dkwX2_layTables_3 : List UInt8 := [153, 0, 10, 4, 21, 6, 120, 167, 0, 4, 3, 128, 54, 5, 132, 6, 1, 167, 255, 221, 42, 180, 0, 16]
abbrev dktX2_layTables_3 : List UInt8 := dkwX2_layTables_3 ++ dktX2_layTables_4
def dkwX2_layTables_2 : List UInt8 := [54, 5, 3, 54, 6, 21, 6, 16, 16, 162, 0, 34, 21, 5, 42, 27, 21, 4, 21, 6, 182, 1, 56]
abbrev dktX2_layTables_2 : List UInt8 := dkwX2_layTables_2 ++ dktX2_layTables_3
def dkwX2_layTables_1 : List UInt8 := [162, 0, 92, 42, 180, 0, 16, 28, 4, 96, 7, 21, 4, 104, 96, 46, 4, 159, 0, 6, 167, 0, 66, 3]
abbrev dktX2_layTables_1 : List UInt8 := dkwX2_layTables_1 ++ dktX2_layTables_2
def dkwX2_layTables_0 : List UInt8 := [17, 2, 202, 27, 104, 61, 3, 62, 42, 4, 181, 1, 31, 3, 54, 4, 21, 4, 42, 180, 0, 16, 28, 46]
abbrev dktX2_layTables_0 : List UInt8 := dkwX2_layTables_0 ++ dktX2_layTables_1
theorem dksX2_layTables_0 : cX2_layTables.data.toList.drop 0 = dktX2_layTables_0 := by decide +kernel
theorem dksX2_layTables_1 : cX2_layTables.data.toList.drop 24 = dktX2_layTables_1 := dk_seg dksX2_layTables_0 24 rfl rfl
theorem dksX2_layTables_2 : cX2_layTables.data.toList.drop 48 = dktX2_layTables_2 := dk_seg dksX2_layTables_1 24 rfl rfl
theorem dksX2_layTables_3 : cX2_layTables.data.toList.drop 71 = dktX2_layTables_3 := dk_seg dksX2_layTables_2 23 rfl rfl
theorem dksX2_layTables_4 : cX2_layTables.data.toList.drop 95 = dktX2_layTables_4 := dk_seg dksX2_layTables_3 24 rfl rfl
theorem dksX2_layTables_5 : cX2_layTables.data.toList.drop 117 = dktX2_layTables_5 := dk_seg dksX2_layTables_4 22 rfl rfl
theorem dX2_layTables_0 : decode cX2_layTables 0 = .ok (.sipush 714, 3) := dk_17 2 202 (dk_at dksX2_layTables_0 0 rfl rfl)
theorem dX2_layTables_3 : decode cX2_layTables 3 = .ok (.iload_n 1, 1) := dk_27 (dk_at dksX2_layTables_0 3 rfl rfl)
theorem dX2_layTables_4 : decode cX2_layTables 4 = .ok (.imul, 1) := dk_104 (dk_at dksX2_layTables_0 4 rfl rfl)
theorem dX2_layTables_5 : decode cX2_layTables 5 = .ok (.istore_n 2, 1) := dk_61 (dk_at dksX2_layTables_0 5 rfl rfl)
theorem dX2_layTables_6 : decode cX2_layTables 6 = .ok (.iconst 0, 1) := dk_3 (dk_at dksX2_layTables_0 6 rfl rfl)
theorem dX2_layTables_7 : decode cX2_layTables 7 = .ok (.istore_n 3, 1) := dk_62 (dk_at dksX2_layTables_0 7 rfl rfl)
theorem dX2_layTables_8 : decode cX2_layTables 8 = .ok (.aload_n 0, 1) := dk_42 (dk_at dksX2_layTables_0 8 rfl rfl)
theorem dX2_layTables_9 : decode cX2_layTables 9 = .ok (.iconst 1, 1) := dk_4 (dk_at dksX2_layTables_0 9 rfl rfl)
theorem dX2_layTables_10 : decode cX2_layTables 10 = .ok (.putfield 287, 3) := dk_181 1 31 (dk_at dksX2_layTables_0 10 rfl rfl)
theorem dX2_layTables_13 : decode cX2_layTables 13 = .ok (.iconst 0, 1) := dk_3 (dk_at dksX2_layTables_0 13 rfl rfl)
theorem dX2_layTables_14 : decode cX2_layTables 14 = .ok (.istore 4, 2) := dk_54 4 (dk_at dksX2_layTables_0 14 rfl rfl)
theorem dX2_layTables_16 : decode cX2_layTables 16 = .ok (.iload 4, 2) := dk_21 4 (dk_at dksX2_layTables_0 16 rfl rfl)
theorem dX2_layTables_18 : decode cX2_layTables 18 = .ok (.aload_n 0, 1) := dk_42 (dk_at dksX2_layTables_0 18 rfl rfl)
theorem dX2_layTables_19 : decode cX2_layTables 19 = .ok (.getfield 16, 3) := dk_180 0 16 (dk_at dksX2_layTables_0 19 rfl rfl)
theorem dX2_layTables_22 : decode cX2_layTables 22 = .ok (.iload_n 2, 1) := dk_28 (dk_at dksX2_layTables_0 22 rfl rfl)
theorem dX2_layTables_23 : decode cX2_layTables 23 = .ok (.iaload, 1) := dk_46 (dk_at dksX2_layTables_0 23 rfl rfl)
theorem dX2_layTables_24 : decode cX2_layTables 24 = .ok (.if_icmp .ge 92, 3) := dk_162 0 92 (dk_at dksX2_layTables_1 0 rfl rfl)
theorem dX2_layTables_27 : decode cX2_layTables 27 = .ok (.aload_n 0, 1) := dk_42 (dk_at dksX2_layTables_1 3 rfl rfl)
theorem dX2_layTables_28 : decode cX2_layTables 28 = .ok (.getfield 16, 3) := dk_180 0 16 (dk_at dksX2_layTables_1 4 rfl rfl)
theorem dX2_layTables_31 : decode cX2_layTables 31 = .ok (.iload_n 2, 1) := dk_28 (dk_at dksX2_layTables_1 7 rfl rfl)
theorem dX2_layTables_32 : decode cX2_layTables 32 = .ok (.iconst 1, 1) := dk_4 (dk_at dksX2_layTables_1 8 rfl rfl)
theorem dX2_layTables_33 : decode cX2_layTables 33 = .ok (.iadd, 1) := dk_96 (dk_at dksX2_layTables_1 9 rfl rfl)
theorem dX2_layTables_34 : decode cX2_layTables 34 = .ok (.iconst 4, 1) := dk_7 (dk_at dksX2_layTables_1 10 rfl rfl)
theorem dX2_layTables_35 : decode cX2_layTables 35 = .ok (.iload 4, 2) := dk_21 4 (dk_at dksX2_layTables_1 11 rfl rfl)
theorem dX2_layTables_37 : decode cX2_layTables 37 = .ok (.imul, 1) := dk_104 (dk_at dksX2_layTables_1 13 rfl rfl)
theorem dX2_layTables_38 : decode cX2_layTables 38 = .ok (.iadd, 1) := dk_96 (dk_at dksX2_layTables_1 14 rfl rfl)
theorem dX2_layTables_39 : decode cX2_layTables 39 = .ok (.iaload, 1) := dk_46 (dk_at dksX2_layTables_1 15 rfl rfl)
theorem dX2_layTables_40 : decode cX2_layTables 40 = .ok (.iconst 1, 1) := dk_4 (dk_at dksX2_layTables_1 16 rfl rfl)
theorem dX2_layTables_41 : decode cX2_layTables 41 = .ok (.if_icmp .eq 6, 3) := dk_159 0 6 (dk_at dksX2_layTables_1 17 rfl rfl)
theorem dX2_layTables_44 : decode cX2_layTables 44 = .ok (.goto 66, 3) := dk_167 0 66 (dk_at dksX2_layTables_1 20 rfl rfl)
theorem dX2_layTables_47 : decode cX2_layTables 47 = .ok (.iconst 0, 1) := dk_3 (dk_at dksX2_layTables_1 23 rfl rfl)
theorem dX2_layTables_48 : decode cX2_layTables 48 = .ok (.istore 5, 2) := dk_54 5 (dk_at dksX2_layTables_2 0 rfl rfl)
theorem dX2_layTables_50 : decode cX2_layTables 50 = .ok (.iconst 0, 1) := dk_3 (dk_at dksX2_layTables_2 2 rfl rfl)
theorem dX2_layTables_51 : decode cX2_layTables 51 = .ok (.istore 6, 2) := dk_54 6 (dk_at dksX2_layTables_2 3 rfl rfl)
theorem dX2_layTables_53 : decode cX2_layTables 53 = .ok (.iload 6, 2) := dk_21 6 (dk_at dksX2_layTables_2 5 rfl rfl)
theorem dX2_layTables_55 : decode cX2_layTables 55 = .ok (.bipush 16, 2) := dk_16 16 (dk_at dksX2_layTables_2 7 rfl rfl)
theorem dX2_layTables_57 : decode cX2_layTables 57 = .ok (.if_icmp .ge 34, 3) := dk_162 0 34 (dk_at dksX2_layTables_2 9 rfl rfl)
theorem dX2_layTables_60 : decode cX2_layTables 60 = .ok (.iload 5, 2) := dk_21 5 (dk_at dksX2_layTables_2 12 rfl rfl)
theorem dX2_layTables_62 : decode cX2_layTables 62 = .ok (.aload_n 0, 1) := dk_42 (dk_at dksX2_layTables_2 14 rfl rfl)
theorem dX2_layTables_63 : decode cX2_layTables 63 = .ok (.iload_n 1, 1) := dk_27 (dk_at dksX2_layTables_2 15 rfl rfl)
theorem dX2_layTables_64 : decode cX2_layTables 64 = .ok (.iload 4, 2) := dk_21 4 (dk_at dksX2_layTables_2 16 rfl rfl)
theorem dX2_layTables_66 : decode cX2_layTables 66 = .ok (.iload 6, 2) := dk_21 6 (dk_at dksX2_layTables_2 18 rfl rfl)
theorem dX2_layTables_68 : decode cX2_layTables 68 = .ok (.invokevirtual 312, 3) := dk_182 1 56 (dk_at dksX2_layTables_2 20 rfl rfl)
theorem dX2_layTables_71 : decode cX2_layTables 71 = .ok (.ifCond .eq 10, 3) := dk_153 0 10 (dk_at dksX2_layTables_3 0 rfl rfl)
theorem dX2_layTables_74 : decode cX2_layTables 74 = .ok (.iconst 1, 1) := dk_4 (dk_at dksX2_layTables_3 3 rfl rfl)
theorem dX2_layTables_75 : decode cX2_layTables 75 = .ok (.iload 6, 2) := dk_21 6 (dk_at dksX2_layTables_3 4 rfl rfl)
theorem dX2_layTables_77 : decode cX2_layTables 77 = .ok (.ishl, 1) := dk_120 (dk_at dksX2_layTables_3 6 rfl rfl)
theorem dX2_layTables_78 : decode cX2_layTables 78 = .ok (.goto 4, 3) := dk_167 0 4 (dk_at dksX2_layTables_3 7 rfl rfl)
theorem dX2_layTables_81 : decode cX2_layTables 81 = .ok (.iconst 0, 1) := dk_3 (dk_at dksX2_layTables_3 10 rfl rfl)
theorem dX2_layTables_82 : decode cX2_layTables 82 = .ok (.ior, 1) := dk_128 (dk_at dksX2_layTables_3 11 rfl rfl)
theorem dX2_layTables_83 : decode cX2_layTables 83 = .ok (.istore 5, 2) := dk_54 5 (dk_at dksX2_layTables_3 12 rfl rfl)
theorem dX2_layTables_85 : decode cX2_layTables 85 = .ok (.iinc 6 1, 3) := dk_132 6 1 (dk_at dksX2_layTables_3 14 rfl rfl)
theorem dX2_layTables_88 : decode cX2_layTables 88 = .ok (.goto (-35), 3) := dk_167 255 221 (dk_at dksX2_layTables_3 17 rfl rfl)
theorem dX2_layTables_91 : decode cX2_layTables 91 = .ok (.aload_n 0, 1) := dk_42 (dk_at dksX2_layTables_3 20 rfl rfl)
theorem dX2_layTables_92 : decode cX2_layTables 92 = .ok (.getfield 16, 3) := dk_180 0 16 (dk_at dksX2_layTables_3 21 rfl rfl)
theorem dX2_layTables_95 : decode cX2_layTables 95 = .ok (.iload_n 2, 1) := dk_28 (dk_at dksX2_layTables_4 0 rfl rfl)
theorem dX2_layTables_96 : decode cX2_layTables 96 = .ok (.sipush 705, 3) := dk_17 2 193 (dk_at dksX2_layTables_4 1 rfl rfl)
theorem dX2_layTables_99 : decode cX2_layTables 99 = .ok (.iadd, 1) := dk_96 (dk_at dksX2_layTables_4 4 rfl rfl)
theorem dX2_layTables_100 : decode cX2_layTables 100 = .ok (.iconst 1, 1) := dk_4 (dk_at dksX2_layTables_4 5 rfl rfl)
theorem dX2_layTables_101 : decode cX2_layTables 101 = .ok (.iadd, 1) := dk_96 (dk_at dksX2_layTables_4 6 rfl rfl)
theorem dX2_layTables_102 : decode cX2_layTables 102 = .ok (.iload_n 3, 1) := dk_29 (dk_at dksX2_layTables_4 7 rfl rfl)
theorem dX2_layTables_103 : decode cX2_layTables 103 = .ok (.iadd, 1) := dk_96 (dk_at dksX2_layTables_4 8 rfl rfl)
theorem dX2_layTables_104 : decode cX2_layTables 104 = .ok (.iload 5, 2) := dk_21 5 (dk_at dksX2_layTables_4 9 rfl rfl)
theorem dX2_layTables_106 : decode cX2_layTables 106 = .ok (.iastore, 1) := dk_79 (dk_at dksX2_layTables_4 11 rfl rfl)
theorem dX2_layTables_107 : decode cX2_layTables 107 = .ok (.iinc 3 1, 3) := dk_132 3 1 (dk_at dksX2_layTables_4 12 rfl rfl)
theorem dX2_layTables_110 : decode cX2_layTables 110 = .ok (.iinc 4 1, 3) := dk_132 4 1 (dk_at dksX2_layTables_4 15 rfl rfl)
theorem dX2_layTables_113 : decode cX2_layTables 113 = .ok (.goto (-97), 3) := dk_167 255 159 (dk_at dksX2_layTables_4 18 rfl rfl)
theorem dX2_layTables_116 : decode cX2_layTables 116 = .ok (.aload_n 0, 1) := dk_42 (dk_at dksX2_layTables_4 21 rfl rfl)
theorem dX2_layTables_117 : decode cX2_layTables 117 = .ok (.getfield 16, 3) := dk_180 0 16 (dk_at dksX2_layTables_5 0 rfl rfl)
theorem dX2_layTables_120 : decode cX2_layTables 120 = .ok (.iload_n 2, 1) := dk_28 (dk_at dksX2_layTables_5 3 rfl rfl)
theorem dX2_layTables_121 : decode cX2_layTables 121 = .ok (.sipush 705, 3) := dk_17 2 193 (dk_at dksX2_layTables_5 4 rfl rfl)
theorem dX2_layTables_124 : decode cX2_layTables 124 = .ok (.iadd, 1) := dk_96 (dk_at dksX2_layTables_5 7 rfl rfl)
theorem dX2_layTables_125 : decode cX2_layTables 125 = .ok (.iload_n 3, 1) := dk_29 (dk_at dksX2_layTables_5 8 rfl rfl)
theorem dX2_layTables_126 : decode cX2_layTables 126 = .ok (.iastore, 1) := dk_79 (dk_at dksX2_layTables_5 9 rfl rfl)
theorem dX2_layTables_127 : decode cX2_layTables 127 = .ok (.aload_n 0, 1) := dk_42 (dk_at dksX2_layTables_5 10 rfl rfl)
theorem dX2_layTables_128 : decode cX2_layTables 128 = .ok (.iconst 0, 1) := dk_3 (dk_at dksX2_layTables_5 11 rfl rfl)
theorem dX2_layTables_129 : decode cX2_layTables 129 = .ok (.putfield 287, 3) := dk_181 1 31 (dk_at dksX2_layTables_5 12 rfl rfl)
theorem dX2_layTables_132 : decode cX2_layTables 132 = .ok (.return_, 1) := dk_177 (dk_at dksX2_layTables_5 15 rfl rfl)
abbrev cX2_isSo : ByteArray := prog_20_method_72_code
def yX2_isSo : MethodName := ⟨RX2, "isSo", "(III)Z"⟩
def dkwX2_isSo_2 : List UInt8 := [3, 51, 153, 0, 7, 4, 167, 0, 4, 3, 172]
abbrev dktX2_isSo_2 : List UInt8 := dkwX2_isSo_2 ++ []
def dkwX2_isSo_1 : List UInt8 := [79, 132, 4, 1, 167, 255, 231, 42, 27, 28, 182, 1, 53, 20, 1, 25, 148, 155, 0, 16, 42, 180, 0, 39]
abbrev dktX2_isSo_1 : List UInt8 := dkwX2_isSo_1 ++ dktX2_isSo_2
def dkwX2_isSo_0 : List UInt8 := [3, 54, 4, 21, 4, 7, 162, 0, 25, 42, 180, 0, 32, 16, 6, 21, 4, 96, 29, 21, 4, 122, 4, 126]
abbrev dktX2_isSo_0 : List UInt8 := dkwX2_isSo_0 ++ dktX2_isSo_1
theorem dksX2_isSo_0 : cX2_isSo.data.toList.drop 0 = dktX2_isSo_0 := by decide +kernel
theorem dksX2_isSo_1 : cX2_isSo.data.toList.drop 24 = dktX2_isSo_1 := dk_seg dksX2_isSo_0 24 rfl rfl
theorem dksX2_isSo_2 : cX2_isSo.data.toList.drop 48 = dktX2_isSo_2 := dk_seg dksX2_isSo_1 24 rfl rfl
theorem dX2_isSo_0 : decode cX2_isSo 0 = .ok (.iconst 0, 1) := dk_3 (dk_at dksX2_isSo_0 0 rfl rfl)
theorem dX2_isSo_1 : decode cX2_isSo 1 = .ok (.istore 4, 2) := dk_54 4 (dk_at dksX2_isSo_0 1 rfl rfl)
theorem dX2_isSo_3 : decode cX2_isSo 3 = .ok (.iload 4, 2) := dk_21 4 (dk_at dksX2_isSo_0 3 rfl rfl)
theorem dX2_isSo_5 : decode cX2_isSo 5 = .ok (.iconst 4, 1) := dk_7 (dk_at dksX2_isSo_0 5 rfl rfl)
theorem dX2_isSo_6 : decode cX2_isSo 6 = .ok (.if_icmp .ge 25, 3) := dk_162 0 25 (dk_at dksX2_isSo_0 6 rfl rfl)
theorem dX2_isSo_9 : decode cX2_isSo 9 = .ok (.aload_n 0, 1) := dk_42 (dk_at dksX2_isSo_0 9 rfl rfl)
theorem dX2_isSo_10 : decode cX2_isSo 10 = .ok (.getfield 32, 3) := dk_180 0 32 (dk_at dksX2_isSo_0 10 rfl rfl)
theorem dX2_isSo_13 : decode cX2_isSo 13 = .ok (.bipush 6, 2) := dk_16 6 (dk_at dksX2_isSo_0 13 rfl rfl)
theorem dX2_isSo_15 : decode cX2_isSo 15 = .ok (.iload 4, 2) := dk_21 4 (dk_at dksX2_isSo_0 15 rfl rfl)
theorem dX2_isSo_17 : decode cX2_isSo 17 = .ok (.iadd, 1) := dk_96 (dk_at dksX2_isSo_0 17 rfl rfl)
theorem dX2_isSo_18 : decode cX2_isSo 18 = .ok (.iload_n 3, 1) := dk_29 (dk_at dksX2_isSo_0 18 rfl rfl)
theorem dX2_isSo_19 : decode cX2_isSo 19 = .ok (.iload 4, 2) := dk_21 4 (dk_at dksX2_isSo_0 19 rfl rfl)
theorem dX2_isSo_21 : decode cX2_isSo 21 = .ok (.ishr, 1) := dk_122 (dk_at dksX2_isSo_0 21 rfl rfl)
theorem dX2_isSo_22 : decode cX2_isSo 22 = .ok (.iconst 1, 1) := dk_4 (dk_at dksX2_isSo_0 22 rfl rfl)
theorem dX2_isSo_23 : decode cX2_isSo 23 = .ok (.iand, 1) := dk_126 (dk_at dksX2_isSo_0 23 rfl rfl)
theorem dX2_isSo_24 : decode cX2_isSo 24 = .ok (.iastore, 1) := dk_79 (dk_at dksX2_isSo_1 0 rfl rfl)
theorem dX2_isSo_25 : decode cX2_isSo 25 = .ok (.iinc 4 1, 3) := dk_132 4 1 (dk_at dksX2_isSo_1 1 rfl rfl)
theorem dX2_isSo_28 : decode cX2_isSo 28 = .ok (.goto (-25), 3) := dk_167 255 231 (dk_at dksX2_isSo_1 4 rfl rfl)
theorem dX2_isSo_31 : decode cX2_isSo 31 = .ok (.aload_n 0, 1) := dk_42 (dk_at dksX2_isSo_1 7 rfl rfl)
theorem dX2_isSo_32 : decode cX2_isSo 32 = .ok (.iload_n 1, 1) := dk_27 (dk_at dksX2_isSo_1 8 rfl rfl)
theorem dX2_isSo_33 : decode cX2_isSo 33 = .ok (.iload_n 2, 1) := dk_28 (dk_at dksX2_isSo_1 9 rfl rfl)
theorem dX2_isSo_34 : decode cX2_isSo 34 = .ok (.invokevirtual 309, 3) := dk_182 1 53 (dk_at dksX2_isSo_1 10 rfl rfl)
theorem dX2_isSo_37 : decode cX2_isSo 37 = .ok (.ldc2_w 281, 3) := dk_20 1 25 (dk_at dksX2_isSo_1 13 rfl rfl)
theorem dX2_isSo_40 : decode cX2_isSo 40 = .ok (.lcmp, 1) := dk_148 (dk_at dksX2_isSo_1 16 rfl rfl)
theorem dX2_isSo_41 : decode cX2_isSo 41 = .ok (.ifCond .lt 16, 3) := dk_155 0 16 (dk_at dksX2_isSo_1 17 rfl rfl)
theorem dX2_isSo_44 : decode cX2_isSo 44 = .ok (.aload_n 0, 1) := dk_42 (dk_at dksX2_isSo_1 20 rfl rfl)
theorem dX2_isSo_45 : decode cX2_isSo 45 = .ok (.getfield 39, 3) := dk_180 0 39 (dk_at dksX2_isSo_1 21 rfl rfl)
theorem dX2_isSo_48 : decode cX2_isSo 48 = .ok (.iconst 0, 1) := dk_3 (dk_at dksX2_isSo_2 0 rfl rfl)
theorem dX2_isSo_49 : decode cX2_isSo 49 = .ok (.baload, 1) := dk_51 (dk_at dksX2_isSo_2 1 rfl rfl)
theorem dX2_isSo_50 : decode cX2_isSo 50 = .ok (.ifCond .eq 7, 3) := dk_153 0 7 (dk_at dksX2_isSo_2 2 rfl rfl)
theorem dX2_isSo_53 : decode cX2_isSo 53 = .ok (.iconst 1, 1) := dk_4 (dk_at dksX2_isSo_2 5 rfl rfl)
theorem dX2_isSo_54 : decode cX2_isSo 54 = .ok (.goto 4, 3) := dk_167 0 4 (dk_at dksX2_isSo_2 6 rfl rfl)
theorem dX2_isSo_57 : decode cX2_isSo 57 = .ok (.iconst 0, 1) := dk_3 (dk_at dksX2_isSo_2 9 rfl rfl)
theorem dX2_isSo_58 : decode cX2_isSo 58 = .ok (.ireturn, 1) := dk_172 (dk_at dksX2_isSo_2 10 rfl rfl)
abbrev cX2_summedUp : ByteArray := prog_20_method_71_code
def yX2_summedUp : MethodName := ⟨RX2, "summedUp", "(II)J"⟩
def dkwX2_summedUp_18 : List UInt8 := [173]
abbrev dktX2_summedUp_18 : List UInt8 := dkwX2_summedUp_18 ++ []
def dkwX2_summedUp_17 : List UInt8 := [51, 42, 180, 0, 39, 21, 6, 51, 184, 1, 49, 84, 132, 7, 1, 167, 254, 136, 42, 180, 0, 35, 3, 47]
abbrev dktX2_summedUp_17 : List UInt8 := dkwX2_summedUp_17 ++ dktX2_summedUp_18
def dkwX2_summedUp_16 : List UInt8 := [167, 0, 36, 132, 6, 255, 42, 180, 0, 39, 21, 6, 4, 100, 21, 8, 42, 180, 0, 39, 21, 6, 4, 100]
abbrev dktX2_summedUp_16 : List UInt8 := dkwX2_summedUp_16 ++ dktX2_summedUp_17
def dkwX2_summedUp_15 : List UInt8 := [21, 6, 4, 100, 42, 180, 0, 39, 21, 6, 4, 100, 51, 154, 0, 7, 4, 167, 0, 4, 3, 84]
abbrev dktX2_summedUp_15 : List UInt8 := dkwX2_summedUp_15 ++ dktX2_summedUp_16
def dkwX2_summedUp_14 : List UInt8 := [4, 96, 47, 184, 1, 45, 84, 132, 6, 1, 167, 0, 72, 21, 8, 16, 20, 160, 0, 32, 42, 180, 0, 39]
abbrev dktX2_summedUp_14 : List UInt8 := dkwX2_summedUp_14 ++ dktX2_summedUp_15
def dkwX2_summedUp_13 : List UInt8 := [132, 5, 254, 42, 180, 0, 39, 21, 6, 21, 8, 42, 180, 0, 35, 21, 5, 47, 42, 180, 0, 35, 21, 5]
abbrev dktX2_summedUp_13 : List UInt8 := dkwX2_summedUp_13 ++ dktX2_summedUp_14
def dkwX2_summedUp_12 : List UInt8 := [180, 0, 35, 21, 5, 4, 100, 47, 9, 184, 1, 41, 80, 167, 0, 116, 21, 8, 16, 20, 162, 0, 40]
abbrev dktX2_summedUp_12 : List UInt8 := dkwX2_summedUp_12 ++ dktX2_summedUp_13
def dkwX2_summedUp_11 : List UInt8 := [21, 5, 47, 184, 1, 37, 80, 21, 8, 7, 160, 0, 141, 42, 180, 0, 35, 21, 5, 4, 100, 42]
abbrev dktX2_summedUp_11 : List UInt8 := dkwX2_summedUp_11 ++ dktX2_summedUp_12
def dkwX2_summedUp_10 : List UInt8 := [160, 0, 8, 16, 7, 167, 0, 5, 21, 8, 42, 180, 0, 35, 21, 5, 4, 100, 47, 42, 180, 0, 35]
abbrev dktX2_summedUp_10 : List UInt8 := dkwX2_summedUp_10 ++ dktX2_summedUp_11
def dkwX2_summedUp_9 : List UInt8 := [167, 0, 198, 21, 8, 16, 10, 162, 0, 78, 132, 5, 255, 42, 180, 0, 35, 21, 5, 4, 100, 21, 8, 7]
abbrev dktX2_summedUp_9 : List UInt8 := dkwX2_summedUp_9 ++ dktX2_summedUp_10
def dkwX2_summedUp_8 : List UInt8 := [21, 5, 4, 100, 47, 117, 167, 0, 16, 42, 42, 180, 0, 35, 21, 5, 4, 100, 47, 182, 1, 34, 80]
abbrev dktX2_summedUp_8 : List UInt8 := dkwX2_summedUp_8 ++ dktX2_summedUp_9
def dkwX2_summedUp_7 : List UInt8 := [21, 8, 5, 160, 0, 47, 42, 180, 0, 35, 21, 5, 4, 100, 21, 8, 8, 160, 0, 16, 42, 180, 0, 35]
abbrev dktX2_summedUp_7 : List UInt8 := dkwX2_summedUp_7 ++ dktX2_summedUp_8
def dkwX2_summedUp_6 : List UInt8 := [180, 0, 35, 21, 5, 4, 100, 42, 180, 0, 35, 21, 5, 47, 80, 167, 0, 254, 21, 8, 8, 159, 0, 9]
abbrev dktX2_summedUp_6 : List UInt8 := dkwX2_summedUp_6 ++ dktX2_summedUp_7
def dkwX2_summedUp_5 : List UInt8 := [21, 8, 6, 160, 0, 38, 132, 5, 255, 132, 6, 255, 42, 180, 0, 39, 21, 6, 51, 154, 1, 17, 42]
abbrev dktX2_summedUp_5 : List UInt8 := dkwX2_summedUp_5 ++ dktX2_summedUp_6
def dkwX2_summedUp_4 : List UInt8 := [154, 0, 9, 21, 9, 133, 167, 0, 11, 42, 180, 0, 32, 21, 9, 46, 133, 80, 132, 5, 1, 167, 1, 39]
abbrev dktX2_summedUp_4 : List UInt8 := dkwX2_summedUp_4 ++ dktX2_summedUp_5
def dkwX2_summedUp_3 : List UInt8 := [5, 21, 7, 104, 96, 4, 96, 46, 54, 9, 21, 8, 4, 163, 0, 35, 42, 180, 0, 35, 21, 5, 21, 8]
abbrev dktX2_summedUp_3 : List UInt8 := dkwX2_summedUp_3 ++ dktX2_summedUp_4
def dkwX2_summedUp_2 : List UInt8 := [46, 162, 1, 113, 42, 180, 0, 16, 21, 4, 5, 21, 7, 104, 96, 46, 54, 8, 42, 180, 0, 16, 21, 4]
abbrev dktX2_summedUp_2 : List UInt8 := dkwX2_summedUp_2 ++ dktX2_summedUp_3
def dkwX2_summedUp_1 : List UInt8 := [54, 5, 3, 54, 6, 42, 180, 0, 16, 29, 4, 96, 46, 54, 7, 21, 7, 42, 180, 0, 16, 29, 5, 96]
abbrev dktX2_summedUp_1 : List UInt8 := dkwX2_summedUp_1 ++ dktX2_summedUp_2
def dkwX2_summedUp_0 : List UInt8 := [17, 2, 202, 27, 104, 4, 96, 7, 28, 104, 96, 62, 17, 2, 202, 27, 104, 16, 97, 96, 54, 4, 3]
abbrev dktX2_summedUp_0 : List UInt8 := dkwX2_summedUp_0 ++ dktX2_summedUp_1
theorem dksX2_summedUp_0 : cX2_summedUp.data.toList.drop 0 = dktX2_summedUp_0 := by decide +kernel
theorem dksX2_summedUp_1 : cX2_summedUp.data.toList.drop 23 = dktX2_summedUp_1 := dk_seg dksX2_summedUp_0 23 rfl rfl
theorem dksX2_summedUp_2 : cX2_summedUp.data.toList.drop 47 = dktX2_summedUp_2 := dk_seg dksX2_summedUp_1 24 rfl rfl
theorem dksX2_summedUp_3 : cX2_summedUp.data.toList.drop 71 = dktX2_summedUp_3 := dk_seg dksX2_summedUp_2 24 rfl rfl
theorem dksX2_summedUp_4 : cX2_summedUp.data.toList.drop 95 = dktX2_summedUp_4 := dk_seg dksX2_summedUp_3 24 rfl rfl
theorem dksX2_summedUp_5 : cX2_summedUp.data.toList.drop 119 = dktX2_summedUp_5 := dk_seg dksX2_summedUp_4 24 rfl rfl
theorem dksX2_summedUp_6 : cX2_summedUp.data.toList.drop 142 = dktX2_summedUp_6 := dk_seg dksX2_summedUp_5 23 rfl rfl
theorem dksX2_summedUp_7 : cX2_summedUp.data.toList.drop 166 = dktX2_summedUp_7 := dk_seg dksX2_summedUp_6 24 rfl rfl
theorem dksX2_summedUp_8 : cX2_summedUp.data.toList.drop 190 = dktX2_summedUp_8 := dk_seg dksX2_summedUp_7 24 rfl rfl
theorem dksX2_summedUp_9 : cX2_summedUp.data.toList.drop 213 = dktX2_summedUp_9 := dk_seg dksX2_summedUp_8 23 rfl rfl
theorem dksX2_summedUp_10 : cX2_summedUp.data.toList.drop 237 = dktX2_summedUp_10 := dk_seg dksX2_summedUp_9 24 rfl rfl
theorem dksX2_summedUp_11 : cX2_summedUp.data.toList.drop 260 = dktX2_summedUp_11 := dk_seg dksX2_summedUp_10 23 rfl rfl
theorem dksX2_summedUp_12 : cX2_summedUp.data.toList.drop 282 = dktX2_summedUp_12 := dk_seg dksX2_summedUp_11 22 rfl rfl
theorem dksX2_summedUp_13 : cX2_summedUp.data.toList.drop 305 = dktX2_summedUp_13 := dk_seg dksX2_summedUp_12 23 rfl rfl
theorem dksX2_summedUp_14 : cX2_summedUp.data.toList.drop 329 = dktX2_summedUp_14 := dk_seg dksX2_summedUp_13 24 rfl rfl
theorem dksX2_summedUp_15 : cX2_summedUp.data.toList.drop 353 = dktX2_summedUp_15 := dk_seg dksX2_summedUp_14 24 rfl rfl
theorem dksX2_summedUp_16 : cX2_summedUp.data.toList.drop 375 = dktX2_summedUp_16 := dk_seg dksX2_summedUp_15 22 rfl rfl
theorem dksX2_summedUp_17 : cX2_summedUp.data.toList.drop 399 = dktX2_summedUp_17 := dk_seg dksX2_summedUp_16 24 rfl rfl
theorem dksX2_summedUp_18 : cX2_summedUp.data.toList.drop 423 = dktX2_summedUp_18 := dk_seg dksX2_summedUp_17 24 rfl rfl
theorem dX2_summedUp_0 : decode cX2_summedUp 0 = .ok (.sipush 714, 3) := dk_17 2 202 (dk_at dksX2_summedUp_0 0 rfl rfl)
theorem dX2_summedUp_3 : decode cX2_summedUp 3 = .ok (.iload_n 1, 1) := dk_27 (dk_at dksX2_summedUp_0 3 rfl rfl)
theorem dX2_summedUp_4 : decode cX2_summedUp 4 = .ok (.imul, 1) := dk_104 (dk_at dksX2_summedUp_0 4 rfl rfl)
theorem dX2_summedUp_5 : decode cX2_summedUp 5 = .ok (.iconst 1, 1) := dk_4 (dk_at dksX2_summedUp_0 5 rfl rfl)
theorem dX2_summedUp_6 : decode cX2_summedUp 6 = .ok (.iadd, 1) := dk_96 (dk_at dksX2_summedUp_0 6 rfl rfl)
theorem dX2_summedUp_7 : decode cX2_summedUp 7 = .ok (.iconst 4, 1) := dk_7 (dk_at dksX2_summedUp_0 7 rfl rfl)
theorem dX2_summedUp_8 : decode cX2_summedUp 8 = .ok (.iload_n 2, 1) := dk_28 (dk_at dksX2_summedUp_0 8 rfl rfl)
theorem dX2_summedUp_9 : decode cX2_summedUp 9 = .ok (.imul, 1) := dk_104 (dk_at dksX2_summedUp_0 9 rfl rfl)
theorem dX2_summedUp_10 : decode cX2_summedUp 10 = .ok (.iadd, 1) := dk_96 (dk_at dksX2_summedUp_0 10 rfl rfl)
theorem dX2_summedUp_11 : decode cX2_summedUp 11 = .ok (.istore_n 3, 1) := dk_62 (dk_at dksX2_summedUp_0 11 rfl rfl)
theorem dX2_summedUp_12 : decode cX2_summedUp 12 = .ok (.sipush 714, 3) := dk_17 2 202 (dk_at dksX2_summedUp_0 12 rfl rfl)
theorem dX2_summedUp_15 : decode cX2_summedUp 15 = .ok (.iload_n 1, 1) := dk_27 (dk_at dksX2_summedUp_0 15 rfl rfl)
theorem dX2_summedUp_16 : decode cX2_summedUp 16 = .ok (.imul, 1) := dk_104 (dk_at dksX2_summedUp_0 16 rfl rfl)
theorem dX2_summedUp_17 : decode cX2_summedUp 17 = .ok (.bipush 97, 2) := dk_16 97 (dk_at dksX2_summedUp_0 17 rfl rfl)
theorem dX2_summedUp_19 : decode cX2_summedUp 19 = .ok (.iadd, 1) := dk_96 (dk_at dksX2_summedUp_0 19 rfl rfl)
theorem dX2_summedUp_20 : decode cX2_summedUp 20 = .ok (.istore 4, 2) := dk_54 4 (dk_at dksX2_summedUp_0 20 rfl rfl)
theorem dX2_summedUp_22 : decode cX2_summedUp 22 = .ok (.iconst 0, 1) := dk_3 (dk_at dksX2_summedUp_0 22 rfl rfl)
theorem dX2_summedUp_23 : decode cX2_summedUp 23 = .ok (.istore 5, 2) := dk_54 5 (dk_at dksX2_summedUp_1 0 rfl rfl)
theorem dX2_summedUp_25 : decode cX2_summedUp 25 = .ok (.iconst 0, 1) := dk_3 (dk_at dksX2_summedUp_1 2 rfl rfl)
theorem dX2_summedUp_26 : decode cX2_summedUp 26 = .ok (.istore 6, 2) := dk_54 6 (dk_at dksX2_summedUp_1 3 rfl rfl)
theorem dX2_summedUp_28 : decode cX2_summedUp 28 = .ok (.aload_n 0, 1) := dk_42 (dk_at dksX2_summedUp_1 5 rfl rfl)
theorem dX2_summedUp_29 : decode cX2_summedUp 29 = .ok (.getfield 16, 3) := dk_180 0 16 (dk_at dksX2_summedUp_1 6 rfl rfl)
theorem dX2_summedUp_32 : decode cX2_summedUp 32 = .ok (.iload_n 3, 1) := dk_29 (dk_at dksX2_summedUp_1 9 rfl rfl)
theorem dX2_summedUp_33 : decode cX2_summedUp 33 = .ok (.iconst 1, 1) := dk_4 (dk_at dksX2_summedUp_1 10 rfl rfl)
theorem dX2_summedUp_34 : decode cX2_summedUp 34 = .ok (.iadd, 1) := dk_96 (dk_at dksX2_summedUp_1 11 rfl rfl)
theorem dX2_summedUp_35 : decode cX2_summedUp 35 = .ok (.iaload, 1) := dk_46 (dk_at dksX2_summedUp_1 12 rfl rfl)
theorem dX2_summedUp_36 : decode cX2_summedUp 36 = .ok (.istore 7, 2) := dk_54 7 (dk_at dksX2_summedUp_1 13 rfl rfl)
theorem dX2_summedUp_38 : decode cX2_summedUp 38 = .ok (.iload 7, 2) := dk_21 7 (dk_at dksX2_summedUp_1 15 rfl rfl)
theorem dX2_summedUp_40 : decode cX2_summedUp 40 = .ok (.aload_n 0, 1) := dk_42 (dk_at dksX2_summedUp_1 17 rfl rfl)
theorem dX2_summedUp_41 : decode cX2_summedUp 41 = .ok (.getfield 16, 3) := dk_180 0 16 (dk_at dksX2_summedUp_1 18 rfl rfl)
theorem dX2_summedUp_44 : decode cX2_summedUp 44 = .ok (.iload_n 3, 1) := dk_29 (dk_at dksX2_summedUp_1 21 rfl rfl)
theorem dX2_summedUp_45 : decode cX2_summedUp 45 = .ok (.iconst 2, 1) := dk_5 (dk_at dksX2_summedUp_1 22 rfl rfl)
theorem dX2_summedUp_46 : decode cX2_summedUp 46 = .ok (.iadd, 1) := dk_96 (dk_at dksX2_summedUp_1 23 rfl rfl)
theorem dX2_summedUp_47 : decode cX2_summedUp 47 = .ok (.iaload, 1) := dk_46 (dk_at dksX2_summedUp_2 0 rfl rfl)
theorem dX2_summedUp_48 : decode cX2_summedUp 48 = .ok (.if_icmp .ge 369, 3) := dk_162 1 113 (dk_at dksX2_summedUp_2 1 rfl rfl)
theorem dX2_summedUp_51 : decode cX2_summedUp 51 = .ok (.aload_n 0, 1) := dk_42 (dk_at dksX2_summedUp_2 4 rfl rfl)
theorem dX2_summedUp_52 : decode cX2_summedUp 52 = .ok (.getfield 16, 3) := dk_180 0 16 (dk_at dksX2_summedUp_2 5 rfl rfl)
theorem dX2_summedUp_55 : decode cX2_summedUp 55 = .ok (.iload 4, 2) := dk_21 4 (dk_at dksX2_summedUp_2 8 rfl rfl)
theorem dX2_summedUp_57 : decode cX2_summedUp 57 = .ok (.iconst 2, 1) := dk_5 (dk_at dksX2_summedUp_2 10 rfl rfl)
theorem dX2_summedUp_58 : decode cX2_summedUp 58 = .ok (.iload 7, 2) := dk_21 7 (dk_at dksX2_summedUp_2 11 rfl rfl)
theorem dX2_summedUp_60 : decode cX2_summedUp 60 = .ok (.imul, 1) := dk_104 (dk_at dksX2_summedUp_2 13 rfl rfl)
theorem dX2_summedUp_61 : decode cX2_summedUp 61 = .ok (.iadd, 1) := dk_96 (dk_at dksX2_summedUp_2 14 rfl rfl)
theorem dX2_summedUp_62 : decode cX2_summedUp 62 = .ok (.iaload, 1) := dk_46 (dk_at dksX2_summedUp_2 15 rfl rfl)
theorem dX2_summedUp_63 : decode cX2_summedUp 63 = .ok (.istore 8, 2) := dk_54 8 (dk_at dksX2_summedUp_2 16 rfl rfl)
theorem dX2_summedUp_65 : decode cX2_summedUp 65 = .ok (.aload_n 0, 1) := dk_42 (dk_at dksX2_summedUp_2 18 rfl rfl)
theorem dX2_summedUp_66 : decode cX2_summedUp 66 = .ok (.getfield 16, 3) := dk_180 0 16 (dk_at dksX2_summedUp_2 19 rfl rfl)
theorem dX2_summedUp_69 : decode cX2_summedUp 69 = .ok (.iload 4, 2) := dk_21 4 (dk_at dksX2_summedUp_2 22 rfl rfl)
theorem dX2_summedUp_71 : decode cX2_summedUp 71 = .ok (.iconst 2, 1) := dk_5 (dk_at dksX2_summedUp_3 0 rfl rfl)
theorem dX2_summedUp_72 : decode cX2_summedUp 72 = .ok (.iload 7, 2) := dk_21 7 (dk_at dksX2_summedUp_3 1 rfl rfl)
theorem dX2_summedUp_74 : decode cX2_summedUp 74 = .ok (.imul, 1) := dk_104 (dk_at dksX2_summedUp_3 3 rfl rfl)
theorem dX2_summedUp_75 : decode cX2_summedUp 75 = .ok (.iadd, 1) := dk_96 (dk_at dksX2_summedUp_3 4 rfl rfl)
theorem dX2_summedUp_76 : decode cX2_summedUp 76 = .ok (.iconst 1, 1) := dk_4 (dk_at dksX2_summedUp_3 5 rfl rfl)
theorem dX2_summedUp_77 : decode cX2_summedUp 77 = .ok (.iadd, 1) := dk_96 (dk_at dksX2_summedUp_3 6 rfl rfl)
theorem dX2_summedUp_78 : decode cX2_summedUp 78 = .ok (.iaload, 1) := dk_46 (dk_at dksX2_summedUp_3 7 rfl rfl)
theorem dX2_summedUp_79 : decode cX2_summedUp 79 = .ok (.istore 9, 2) := dk_54 9 (dk_at dksX2_summedUp_3 8 rfl rfl)
theorem dX2_summedUp_81 : decode cX2_summedUp 81 = .ok (.iload 8, 2) := dk_21 8 (dk_at dksX2_summedUp_3 10 rfl rfl)
theorem dX2_summedUp_83 : decode cX2_summedUp 83 = .ok (.iconst 1, 1) := dk_4 (dk_at dksX2_summedUp_3 12 rfl rfl)
theorem dX2_summedUp_84 : decode cX2_summedUp 84 = .ok (.if_icmp .gt 35, 3) := dk_163 0 35 (dk_at dksX2_summedUp_3 13 rfl rfl)
theorem dX2_summedUp_87 : decode cX2_summedUp 87 = .ok (.aload_n 0, 1) := dk_42 (dk_at dksX2_summedUp_3 16 rfl rfl)
theorem dX2_summedUp_88 : decode cX2_summedUp 88 = .ok (.getfield 35, 3) := dk_180 0 35 (dk_at dksX2_summedUp_3 17 rfl rfl)
theorem dX2_summedUp_91 : decode cX2_summedUp 91 = .ok (.iload 5, 2) := dk_21 5 (dk_at dksX2_summedUp_3 20 rfl rfl)
theorem dX2_summedUp_93 : decode cX2_summedUp 93 = .ok (.iload 8, 2) := dk_21 8 (dk_at dksX2_summedUp_3 22 rfl rfl)
theorem dX2_summedUp_95 : decode cX2_summedUp 95 = .ok (.ifCond .ne 9, 3) := dk_154 0 9 (dk_at dksX2_summedUp_4 0 rfl rfl)
theorem dX2_summedUp_98 : decode cX2_summedUp 98 = .ok (.iload 9, 2) := dk_21 9 (dk_at dksX2_summedUp_4 3 rfl rfl)
theorem dX2_summedUp_100 : decode cX2_summedUp 100 = .ok (.i2l, 1) := dk_133 (dk_at dksX2_summedUp_4 5 rfl rfl)
theorem dX2_summedUp_101 : decode cX2_summedUp 101 = .ok (.goto 11, 3) := dk_167 0 11 (dk_at dksX2_summedUp_4 6 rfl rfl)
theorem dX2_summedUp_104 : decode cX2_summedUp 104 = .ok (.aload_n 0, 1) := dk_42 (dk_at dksX2_summedUp_4 9 rfl rfl)
theorem dX2_summedUp_105 : decode cX2_summedUp 105 = .ok (.getfield 32, 3) := dk_180 0 32 (dk_at dksX2_summedUp_4 10 rfl rfl)
theorem dX2_summedUp_108 : decode cX2_summedUp 108 = .ok (.iload 9, 2) := dk_21 9 (dk_at dksX2_summedUp_4 13 rfl rfl)
theorem dX2_summedUp_110 : decode cX2_summedUp 110 = .ok (.iaload, 1) := dk_46 (dk_at dksX2_summedUp_4 15 rfl rfl)
theorem dX2_summedUp_111 : decode cX2_summedUp 111 = .ok (.i2l, 1) := dk_133 (dk_at dksX2_summedUp_4 16 rfl rfl)
theorem dX2_summedUp_112 : decode cX2_summedUp 112 = .ok (.lastore, 1) := dk_80 (dk_at dksX2_summedUp_4 17 rfl rfl)
theorem dX2_summedUp_113 : decode cX2_summedUp 113 = .ok (.iinc 5 1, 3) := dk_132 5 1 (dk_at dksX2_summedUp_4 18 rfl rfl)
theorem dX2_summedUp_116 : decode cX2_summedUp 116 = .ok (.goto 295, 3) := dk_167 1 39 (dk_at dksX2_summedUp_4 21 rfl rfl)
theorem dX2_summedUp_119 : decode cX2_summedUp 119 = .ok (.iload 8, 2) := dk_21 8 (dk_at dksX2_summedUp_5 0 rfl rfl)
theorem dX2_summedUp_121 : decode cX2_summedUp 121 = .ok (.iconst 3, 1) := dk_6 (dk_at dksX2_summedUp_5 2 rfl rfl)
theorem dX2_summedUp_122 : decode cX2_summedUp 122 = .ok (.if_icmp .ne 38, 3) := dk_160 0 38 (dk_at dksX2_summedUp_5 3 rfl rfl)
theorem dX2_summedUp_125 : decode cX2_summedUp 125 = .ok (.iinc 5 (-1), 3) := dk_132 5 255 (dk_at dksX2_summedUp_5 6 rfl rfl)
theorem dX2_summedUp_128 : decode cX2_summedUp 128 = .ok (.iinc 6 (-1), 3) := dk_132 6 255 (dk_at dksX2_summedUp_5 9 rfl rfl)
theorem dX2_summedUp_131 : decode cX2_summedUp 131 = .ok (.aload_n 0, 1) := dk_42 (dk_at dksX2_summedUp_5 12 rfl rfl)
theorem dX2_summedUp_132 : decode cX2_summedUp 132 = .ok (.getfield 39, 3) := dk_180 0 39 (dk_at dksX2_summedUp_5 13 rfl rfl)
theorem dX2_summedUp_135 : decode cX2_summedUp 135 = .ok (.iload 6, 2) := dk_21 6 (dk_at dksX2_summedUp_5 16 rfl rfl)
theorem dX2_summedUp_137 : decode cX2_summedUp 137 = .ok (.baload, 1) := dk_51 (dk_at dksX2_summedUp_5 18 rfl rfl)
theorem dX2_summedUp_138 : decode cX2_summedUp 138 = .ok (.ifCond .ne 273, 3) := dk_154 1 17 (dk_at dksX2_summedUp_5 19 rfl rfl)
theorem dX2_summedUp_141 : decode cX2_summedUp 141 = .ok (.aload_n 0, 1) := dk_42 (dk_at dksX2_summedUp_5 22 rfl rfl)
theorem dX2_summedUp_142 : decode cX2_summedUp 142 = .ok (.getfield 35, 3) := dk_180 0 35 (dk_at dksX2_summedUp_6 0 rfl rfl)
theorem dX2_summedUp_145 : decode cX2_summedUp 145 = .ok (.iload 5, 2) := dk_21 5 (dk_at dksX2_summedUp_6 3 rfl rfl)
theorem dX2_summedUp_147 : decode cX2_summedUp 147 = .ok (.iconst 1, 1) := dk_4 (dk_at dksX2_summedUp_6 5 rfl rfl)
theorem dX2_summedUp_148 : decode cX2_summedUp 148 = .ok (.isub, 1) := dk_100 (dk_at dksX2_summedUp_6 6 rfl rfl)
theorem dX2_summedUp_149 : decode cX2_summedUp 149 = .ok (.aload_n 0, 1) := dk_42 (dk_at dksX2_summedUp_6 7 rfl rfl)
theorem dX2_summedUp_150 : decode cX2_summedUp 150 = .ok (.getfield 35, 3) := dk_180 0 35 (dk_at dksX2_summedUp_6 8 rfl rfl)
theorem dX2_summedUp_153 : decode cX2_summedUp 153 = .ok (.iload 5, 2) := dk_21 5 (dk_at dksX2_summedUp_6 11 rfl rfl)
theorem dX2_summedUp_155 : decode cX2_summedUp 155 = .ok (.laload, 1) := dk_47 (dk_at dksX2_summedUp_6 13 rfl rfl)
theorem dX2_summedUp_156 : decode cX2_summedUp 156 = .ok (.lastore, 1) := dk_80 (dk_at dksX2_summedUp_6 14 rfl rfl)
theorem dX2_summedUp_157 : decode cX2_summedUp 157 = .ok (.goto 254, 3) := dk_167 0 254 (dk_at dksX2_summedUp_6 15 rfl rfl)
theorem dX2_summedUp_160 : decode cX2_summedUp 160 = .ok (.iload 8, 2) := dk_21 8 (dk_at dksX2_summedUp_6 18 rfl rfl)
theorem dX2_summedUp_162 : decode cX2_summedUp 162 = .ok (.iconst 5, 1) := dk_8 (dk_at dksX2_summedUp_6 20 rfl rfl)
theorem dX2_summedUp_163 : decode cX2_summedUp 163 = .ok (.if_icmp .eq 9, 3) := dk_159 0 9 (dk_at dksX2_summedUp_6 21 rfl rfl)
theorem dX2_summedUp_166 : decode cX2_summedUp 166 = .ok (.iload 8, 2) := dk_21 8 (dk_at dksX2_summedUp_7 0 rfl rfl)
theorem dX2_summedUp_168 : decode cX2_summedUp 168 = .ok (.iconst 2, 1) := dk_5 (dk_at dksX2_summedUp_7 2 rfl rfl)
theorem dX2_summedUp_169 : decode cX2_summedUp 169 = .ok (.if_icmp .ne 47, 3) := dk_160 0 47 (dk_at dksX2_summedUp_7 3 rfl rfl)
theorem dX2_summedUp_172 : decode cX2_summedUp 172 = .ok (.aload_n 0, 1) := dk_42 (dk_at dksX2_summedUp_7 6 rfl rfl)
theorem dX2_summedUp_173 : decode cX2_summedUp 173 = .ok (.getfield 35, 3) := dk_180 0 35 (dk_at dksX2_summedUp_7 7 rfl rfl)
theorem dX2_summedUp_176 : decode cX2_summedUp 176 = .ok (.iload 5, 2) := dk_21 5 (dk_at dksX2_summedUp_7 10 rfl rfl)
theorem dX2_summedUp_178 : decode cX2_summedUp 178 = .ok (.iconst 1, 1) := dk_4 (dk_at dksX2_summedUp_7 12 rfl rfl)
theorem dX2_summedUp_179 : decode cX2_summedUp 179 = .ok (.isub, 1) := dk_100 (dk_at dksX2_summedUp_7 13 rfl rfl)
theorem dX2_summedUp_180 : decode cX2_summedUp 180 = .ok (.iload 8, 2) := dk_21 8 (dk_at dksX2_summedUp_7 14 rfl rfl)
theorem dX2_summedUp_182 : decode cX2_summedUp 182 = .ok (.iconst 5, 1) := dk_8 (dk_at dksX2_summedUp_7 16 rfl rfl)
theorem dX2_summedUp_183 : decode cX2_summedUp 183 = .ok (.if_icmp .ne 16, 3) := dk_160 0 16 (dk_at dksX2_summedUp_7 17 rfl rfl)
theorem dX2_summedUp_186 : decode cX2_summedUp 186 = .ok (.aload_n 0, 1) := dk_42 (dk_at dksX2_summedUp_7 20 rfl rfl)
theorem dX2_summedUp_187 : decode cX2_summedUp 187 = .ok (.getfield 35, 3) := dk_180 0 35 (dk_at dksX2_summedUp_7 21 rfl rfl)
theorem dX2_summedUp_190 : decode cX2_summedUp 190 = .ok (.iload 5, 2) := dk_21 5 (dk_at dksX2_summedUp_8 0 rfl rfl)
theorem dX2_summedUp_192 : decode cX2_summedUp 192 = .ok (.iconst 1, 1) := dk_4 (dk_at dksX2_summedUp_8 2 rfl rfl)
theorem dX2_summedUp_193 : decode cX2_summedUp 193 = .ok (.isub, 1) := dk_100 (dk_at dksX2_summedUp_8 3 rfl rfl)
theorem dX2_summedUp_194 : decode cX2_summedUp 194 = .ok (.laload, 1) := dk_47 (dk_at dksX2_summedUp_8 4 rfl rfl)
theorem dX2_summedUp_195 : decode cX2_summedUp 195 = .ok (.lneg, 1) := dk_117 (dk_at dksX2_summedUp_8 5 rfl rfl)
theorem dX2_summedUp_196 : decode cX2_summedUp 196 = .ok (.goto 16, 3) := dk_167 0 16 (dk_at dksX2_summedUp_8 6 rfl rfl)
theorem dX2_summedUp_199 : decode cX2_summedUp 199 = .ok (.aload_n 0, 1) := dk_42 (dk_at dksX2_summedUp_8 9 rfl rfl)
theorem dX2_summedUp_200 : decode cX2_summedUp 200 = .ok (.aload_n 0, 1) := dk_42 (dk_at dksX2_summedUp_8 10 rfl rfl)
theorem dX2_summedUp_201 : decode cX2_summedUp 201 = .ok (.getfield 35, 3) := dk_180 0 35 (dk_at dksX2_summedUp_8 11 rfl rfl)
theorem dX2_summedUp_204 : decode cX2_summedUp 204 = .ok (.iload 5, 2) := dk_21 5 (dk_at dksX2_summedUp_8 14 rfl rfl)
theorem dX2_summedUp_206 : decode cX2_summedUp 206 = .ok (.iconst 1, 1) := dk_4 (dk_at dksX2_summedUp_8 16 rfl rfl)
theorem dX2_summedUp_207 : decode cX2_summedUp 207 = .ok (.isub, 1) := dk_100 (dk_at dksX2_summedUp_8 17 rfl rfl)
theorem dX2_summedUp_208 : decode cX2_summedUp 208 = .ok (.laload, 1) := dk_47 (dk_at dksX2_summedUp_8 18 rfl rfl)
theorem dX2_summedUp_209 : decode cX2_summedUp 209 = .ok (.invokevirtual 290, 3) := dk_182 1 34 (dk_at dksX2_summedUp_8 19 rfl rfl)
theorem dX2_summedUp_212 : decode cX2_summedUp 212 = .ok (.lastore, 1) := dk_80 (dk_at dksX2_summedUp_8 22 rfl rfl)
theorem dX2_summedUp_213 : decode cX2_summedUp 213 = .ok (.goto 198, 3) := dk_167 0 198 (dk_at dksX2_summedUp_9 0 rfl rfl)
theorem dX2_summedUp_216 : decode cX2_summedUp 216 = .ok (.iload 8, 2) := dk_21 8 (dk_at dksX2_summedUp_9 3 rfl rfl)
theorem dX2_summedUp_218 : decode cX2_summedUp 218 = .ok (.bipush 10, 2) := dk_16 10 (dk_at dksX2_summedUp_9 5 rfl rfl)
theorem dX2_summedUp_220 : decode cX2_summedUp 220 = .ok (.if_icmp .ge 78, 3) := dk_162 0 78 (dk_at dksX2_summedUp_9 7 rfl rfl)
theorem dX2_summedUp_223 : decode cX2_summedUp 223 = .ok (.iinc 5 (-1), 3) := dk_132 5 255 (dk_at dksX2_summedUp_9 10 rfl rfl)
theorem dX2_summedUp_226 : decode cX2_summedUp 226 = .ok (.aload_n 0, 1) := dk_42 (dk_at dksX2_summedUp_9 13 rfl rfl)
theorem dX2_summedUp_227 : decode cX2_summedUp 227 = .ok (.getfield 35, 3) := dk_180 0 35 (dk_at dksX2_summedUp_9 14 rfl rfl)
theorem dX2_summedUp_230 : decode cX2_summedUp 230 = .ok (.iload 5, 2) := dk_21 5 (dk_at dksX2_summedUp_9 17 rfl rfl)
theorem dX2_summedUp_232 : decode cX2_summedUp 232 = .ok (.iconst 1, 1) := dk_4 (dk_at dksX2_summedUp_9 19 rfl rfl)
theorem dX2_summedUp_233 : decode cX2_summedUp 233 = .ok (.isub, 1) := dk_100 (dk_at dksX2_summedUp_9 20 rfl rfl)
theorem dX2_summedUp_234 : decode cX2_summedUp 234 = .ok (.iload 8, 2) := dk_21 8 (dk_at dksX2_summedUp_9 21 rfl rfl)
theorem dX2_summedUp_236 : decode cX2_summedUp 236 = .ok (.iconst 4, 1) := dk_7 (dk_at dksX2_summedUp_9 23 rfl rfl)
theorem dX2_summedUp_237 : decode cX2_summedUp 237 = .ok (.if_icmp .ne 8, 3) := dk_160 0 8 (dk_at dksX2_summedUp_10 0 rfl rfl)
theorem dX2_summedUp_240 : decode cX2_summedUp 240 = .ok (.bipush 7, 2) := dk_16 7 (dk_at dksX2_summedUp_10 3 rfl rfl)
theorem dX2_summedUp_242 : decode cX2_summedUp 242 = .ok (.goto 5, 3) := dk_167 0 5 (dk_at dksX2_summedUp_10 5 rfl rfl)
theorem dX2_summedUp_245 : decode cX2_summedUp 245 = .ok (.iload 8, 2) := dk_21 8 (dk_at dksX2_summedUp_10 8 rfl rfl)
theorem dX2_summedUp_247 : decode cX2_summedUp 247 = .ok (.aload_n 0, 1) := dk_42 (dk_at dksX2_summedUp_10 10 rfl rfl)
theorem dX2_summedUp_248 : decode cX2_summedUp 248 = .ok (.getfield 35, 3) := dk_180 0 35 (dk_at dksX2_summedUp_10 11 rfl rfl)
theorem dX2_summedUp_251 : decode cX2_summedUp 251 = .ok (.iload 5, 2) := dk_21 5 (dk_at dksX2_summedUp_10 14 rfl rfl)
theorem dX2_summedUp_253 : decode cX2_summedUp 253 = .ok (.iconst 1, 1) := dk_4 (dk_at dksX2_summedUp_10 16 rfl rfl)
theorem dX2_summedUp_254 : decode cX2_summedUp 254 = .ok (.isub, 1) := dk_100 (dk_at dksX2_summedUp_10 17 rfl rfl)
theorem dX2_summedUp_255 : decode cX2_summedUp 255 = .ok (.laload, 1) := dk_47 (dk_at dksX2_summedUp_10 18 rfl rfl)
theorem dX2_summedUp_256 : decode cX2_summedUp 256 = .ok (.aload_n 0, 1) := dk_42 (dk_at dksX2_summedUp_10 19 rfl rfl)
theorem dX2_summedUp_257 : decode cX2_summedUp 257 = .ok (.getfield 35, 3) := dk_180 0 35 (dk_at dksX2_summedUp_10 20 rfl rfl)
theorem dX2_summedUp_260 : decode cX2_summedUp 260 = .ok (.iload 5, 2) := dk_21 5 (dk_at dksX2_summedUp_11 0 rfl rfl)
theorem dX2_summedUp_262 : decode cX2_summedUp 262 = .ok (.laload, 1) := dk_47 (dk_at dksX2_summedUp_11 2 rfl rfl)
theorem dX2_summedUp_263 : decode cX2_summedUp 263 = .ok (.invokestatic 293, 3) := dk_184 1 37 (dk_at dksX2_summedUp_11 3 rfl rfl)
theorem dX2_summedUp_266 : decode cX2_summedUp 266 = .ok (.lastore, 1) := dk_80 (dk_at dksX2_summedUp_11 6 rfl rfl)
theorem dX2_summedUp_267 : decode cX2_summedUp 267 = .ok (.iload 8, 2) := dk_21 8 (dk_at dksX2_summedUp_11 7 rfl rfl)
theorem dX2_summedUp_269 : decode cX2_summedUp 269 = .ok (.iconst 4, 1) := dk_7 (dk_at dksX2_summedUp_11 9 rfl rfl)
theorem dX2_summedUp_270 : decode cX2_summedUp 270 = .ok (.if_icmp .ne 141, 3) := dk_160 0 141 (dk_at dksX2_summedUp_11 10 rfl rfl)
theorem dX2_summedUp_273 : decode cX2_summedUp 273 = .ok (.aload_n 0, 1) := dk_42 (dk_at dksX2_summedUp_11 13 rfl rfl)
theorem dX2_summedUp_274 : decode cX2_summedUp 274 = .ok (.getfield 35, 3) := dk_180 0 35 (dk_at dksX2_summedUp_11 14 rfl rfl)
theorem dX2_summedUp_277 : decode cX2_summedUp 277 = .ok (.iload 5, 2) := dk_21 5 (dk_at dksX2_summedUp_11 17 rfl rfl)
theorem dX2_summedUp_279 : decode cX2_summedUp 279 = .ok (.iconst 1, 1) := dk_4 (dk_at dksX2_summedUp_11 19 rfl rfl)
theorem dX2_summedUp_280 : decode cX2_summedUp 280 = .ok (.isub, 1) := dk_100 (dk_at dksX2_summedUp_11 20 rfl rfl)
theorem dX2_summedUp_281 : decode cX2_summedUp 281 = .ok (.aload_n 0, 1) := dk_42 (dk_at dksX2_summedUp_11 21 rfl rfl)
theorem dX2_summedUp_282 : decode cX2_summedUp 282 = .ok (.getfield 35, 3) := dk_180 0 35 (dk_at dksX2_summedUp_12 0 rfl rfl)
theorem dX2_summedUp_285 : decode cX2_summedUp 285 = .ok (.iload 5, 2) := dk_21 5 (dk_at dksX2_summedUp_12 3 rfl rfl)
theorem dX2_summedUp_287 : decode cX2_summedUp 287 = .ok (.iconst 1, 1) := dk_4 (dk_at dksX2_summedUp_12 5 rfl rfl)
theorem dX2_summedUp_288 : decode cX2_summedUp 288 = .ok (.isub, 1) := dk_100 (dk_at dksX2_summedUp_12 6 rfl rfl)
theorem dX2_summedUp_289 : decode cX2_summedUp 289 = .ok (.laload, 1) := dk_47 (dk_at dksX2_summedUp_12 7 rfl rfl)
theorem dX2_summedUp_290 : decode cX2_summedUp 290 = .ok (.lconst 0, 1) := dk_9 (dk_at dksX2_summedUp_12 8 rfl rfl)
theorem dX2_summedUp_291 : decode cX2_summedUp 291 = .ok (.invokestatic 297, 3) := dk_184 1 41 (dk_at dksX2_summedUp_12 9 rfl rfl)
theorem dX2_summedUp_294 : decode cX2_summedUp 294 = .ok (.lastore, 1) := dk_80 (dk_at dksX2_summedUp_12 12 rfl rfl)
theorem dX2_summedUp_295 : decode cX2_summedUp 295 = .ok (.goto 116, 3) := dk_167 0 116 (dk_at dksX2_summedUp_12 13 rfl rfl)
theorem dX2_summedUp_298 : decode cX2_summedUp 298 = .ok (.iload 8, 2) := dk_21 8 (dk_at dksX2_summedUp_12 16 rfl rfl)
theorem dX2_summedUp_300 : decode cX2_summedUp 300 = .ok (.bipush 20, 2) := dk_16 20 (dk_at dksX2_summedUp_12 18 rfl rfl)
theorem dX2_summedUp_302 : decode cX2_summedUp 302 = .ok (.if_icmp .ge 40, 3) := dk_162 0 40 (dk_at dksX2_summedUp_12 20 rfl rfl)
theorem dX2_summedUp_305 : decode cX2_summedUp 305 = .ok (.iinc 5 (-2), 3) := dk_132 5 254 (dk_at dksX2_summedUp_13 0 rfl rfl)
theorem dX2_summedUp_308 : decode cX2_summedUp 308 = .ok (.aload_n 0, 1) := dk_42 (dk_at dksX2_summedUp_13 3 rfl rfl)
theorem dX2_summedUp_309 : decode cX2_summedUp 309 = .ok (.getfield 39, 3) := dk_180 0 39 (dk_at dksX2_summedUp_13 4 rfl rfl)
theorem dX2_summedUp_312 : decode cX2_summedUp 312 = .ok (.iload 6, 2) := dk_21 6 (dk_at dksX2_summedUp_13 7 rfl rfl)
theorem dX2_summedUp_314 : decode cX2_summedUp 314 = .ok (.iload 8, 2) := dk_21 8 (dk_at dksX2_summedUp_13 9 rfl rfl)
theorem dX2_summedUp_316 : decode cX2_summedUp 316 = .ok (.aload_n 0, 1) := dk_42 (dk_at dksX2_summedUp_13 11 rfl rfl)
theorem dX2_summedUp_317 : decode cX2_summedUp 317 = .ok (.getfield 35, 3) := dk_180 0 35 (dk_at dksX2_summedUp_13 12 rfl rfl)
theorem dX2_summedUp_320 : decode cX2_summedUp 320 = .ok (.iload 5, 2) := dk_21 5 (dk_at dksX2_summedUp_13 15 rfl rfl)
theorem dX2_summedUp_322 : decode cX2_summedUp 322 = .ok (.laload, 1) := dk_47 (dk_at dksX2_summedUp_13 17 rfl rfl)
theorem dX2_summedUp_323 : decode cX2_summedUp 323 = .ok (.aload_n 0, 1) := dk_42 (dk_at dksX2_summedUp_13 18 rfl rfl)
theorem dX2_summedUp_324 : decode cX2_summedUp 324 = .ok (.getfield 35, 3) := dk_180 0 35 (dk_at dksX2_summedUp_13 19 rfl rfl)
theorem dX2_summedUp_327 : decode cX2_summedUp 327 = .ok (.iload 5, 2) := dk_21 5 (dk_at dksX2_summedUp_13 22 rfl rfl)
theorem dX2_summedUp_329 : decode cX2_summedUp 329 = .ok (.iconst 1, 1) := dk_4 (dk_at dksX2_summedUp_14 0 rfl rfl)
theorem dX2_summedUp_330 : decode cX2_summedUp 330 = .ok (.iadd, 1) := dk_96 (dk_at dksX2_summedUp_14 1 rfl rfl)
theorem dX2_summedUp_331 : decode cX2_summedUp 331 = .ok (.laload, 1) := dk_47 (dk_at dksX2_summedUp_14 2 rfl rfl)
theorem dX2_summedUp_332 : decode cX2_summedUp 332 = .ok (.invokestatic 301, 3) := dk_184 1 45 (dk_at dksX2_summedUp_14 3 rfl rfl)
theorem dX2_summedUp_335 : decode cX2_summedUp 335 = .ok (.bastore, 1) := dk_84 (dk_at dksX2_summedUp_14 6 rfl rfl)
theorem dX2_summedUp_336 : decode cX2_summedUp 336 = .ok (.iinc 6 1, 3) := dk_132 6 1 (dk_at dksX2_summedUp_14 7 rfl rfl)
theorem dX2_summedUp_339 : decode cX2_summedUp 339 = .ok (.goto 72, 3) := dk_167 0 72 (dk_at dksX2_summedUp_14 10 rfl rfl)
theorem dX2_summedUp_342 : decode cX2_summedUp 342 = .ok (.iload 8, 2) := dk_21 8 (dk_at dksX2_summedUp_14 13 rfl rfl)
theorem dX2_summedUp_344 : decode cX2_summedUp 344 = .ok (.bipush 20, 2) := dk_16 20 (dk_at dksX2_summedUp_14 15 rfl rfl)
theorem dX2_summedUp_346 : decode cX2_summedUp 346 = .ok (.if_icmp .ne 32, 3) := dk_160 0 32 (dk_at dksX2_summedUp_14 17 rfl rfl)
theorem dX2_summedUp_349 : decode cX2_summedUp 349 = .ok (.aload_n 0, 1) := dk_42 (dk_at dksX2_summedUp_14 20 rfl rfl)
theorem dX2_summedUp_350 : decode cX2_summedUp 350 = .ok (.getfield 39, 3) := dk_180 0 39 (dk_at dksX2_summedUp_14 21 rfl rfl)
theorem dX2_summedUp_353 : decode cX2_summedUp 353 = .ok (.iload 6, 2) := dk_21 6 (dk_at dksX2_summedUp_15 0 rfl rfl)
theorem dX2_summedUp_355 : decode cX2_summedUp 355 = .ok (.iconst 1, 1) := dk_4 (dk_at dksX2_summedUp_15 2 rfl rfl)
theorem dX2_summedUp_356 : decode cX2_summedUp 356 = .ok (.isub, 1) := dk_100 (dk_at dksX2_summedUp_15 3 rfl rfl)
theorem dX2_summedUp_357 : decode cX2_summedUp 357 = .ok (.aload_n 0, 1) := dk_42 (dk_at dksX2_summedUp_15 4 rfl rfl)
theorem dX2_summedUp_358 : decode cX2_summedUp 358 = .ok (.getfield 39, 3) := dk_180 0 39 (dk_at dksX2_summedUp_15 5 rfl rfl)
theorem dX2_summedUp_361 : decode cX2_summedUp 361 = .ok (.iload 6, 2) := dk_21 6 (dk_at dksX2_summedUp_15 8 rfl rfl)
theorem dX2_summedUp_363 : decode cX2_summedUp 363 = .ok (.iconst 1, 1) := dk_4 (dk_at dksX2_summedUp_15 10 rfl rfl)
theorem dX2_summedUp_364 : decode cX2_summedUp 364 = .ok (.isub, 1) := dk_100 (dk_at dksX2_summedUp_15 11 rfl rfl)
theorem dX2_summedUp_365 : decode cX2_summedUp 365 = .ok (.baload, 1) := dk_51 (dk_at dksX2_summedUp_15 12 rfl rfl)
theorem dX2_summedUp_366 : decode cX2_summedUp 366 = .ok (.ifCond .ne 7, 3) := dk_154 0 7 (dk_at dksX2_summedUp_15 13 rfl rfl)
theorem dX2_summedUp_369 : decode cX2_summedUp 369 = .ok (.iconst 1, 1) := dk_4 (dk_at dksX2_summedUp_15 16 rfl rfl)
theorem dX2_summedUp_370 : decode cX2_summedUp 370 = .ok (.goto 4, 3) := dk_167 0 4 (dk_at dksX2_summedUp_15 17 rfl rfl)
theorem dX2_summedUp_373 : decode cX2_summedUp 373 = .ok (.iconst 0, 1) := dk_3 (dk_at dksX2_summedUp_15 20 rfl rfl)
theorem dX2_summedUp_374 : decode cX2_summedUp 374 = .ok (.bastore, 1) := dk_84 (dk_at dksX2_summedUp_15 21 rfl rfl)
theorem dX2_summedUp_375 : decode cX2_summedUp 375 = .ok (.goto 36, 3) := dk_167 0 36 (dk_at dksX2_summedUp_16 0 rfl rfl)
theorem dX2_summedUp_378 : decode cX2_summedUp 378 = .ok (.iinc 6 (-1), 3) := dk_132 6 255 (dk_at dksX2_summedUp_16 3 rfl rfl)
theorem dX2_summedUp_381 : decode cX2_summedUp 381 = .ok (.aload_n 0, 1) := dk_42 (dk_at dksX2_summedUp_16 6 rfl rfl)
theorem dX2_summedUp_382 : decode cX2_summedUp 382 = .ok (.getfield 39, 3) := dk_180 0 39 (dk_at dksX2_summedUp_16 7 rfl rfl)
theorem dX2_summedUp_385 : decode cX2_summedUp 385 = .ok (.iload 6, 2) := dk_21 6 (dk_at dksX2_summedUp_16 10 rfl rfl)
theorem dX2_summedUp_387 : decode cX2_summedUp 387 = .ok (.iconst 1, 1) := dk_4 (dk_at dksX2_summedUp_16 12 rfl rfl)
theorem dX2_summedUp_388 : decode cX2_summedUp 388 = .ok (.isub, 1) := dk_100 (dk_at dksX2_summedUp_16 13 rfl rfl)
theorem dX2_summedUp_389 : decode cX2_summedUp 389 = .ok (.iload 8, 2) := dk_21 8 (dk_at dksX2_summedUp_16 14 rfl rfl)
theorem dX2_summedUp_391 : decode cX2_summedUp 391 = .ok (.aload_n 0, 1) := dk_42 (dk_at dksX2_summedUp_16 16 rfl rfl)
theorem dX2_summedUp_392 : decode cX2_summedUp 392 = .ok (.getfield 39, 3) := dk_180 0 39 (dk_at dksX2_summedUp_16 17 rfl rfl)
theorem dX2_summedUp_395 : decode cX2_summedUp 395 = .ok (.iload 6, 2) := dk_21 6 (dk_at dksX2_summedUp_16 20 rfl rfl)
theorem dX2_summedUp_397 : decode cX2_summedUp 397 = .ok (.iconst 1, 1) := dk_4 (dk_at dksX2_summedUp_16 22 rfl rfl)
theorem dX2_summedUp_398 : decode cX2_summedUp 398 = .ok (.isub, 1) := dk_100 (dk_at dksX2_summedUp_16 23 rfl rfl)
theorem dX2_summedUp_399 : decode cX2_summedUp 399 = .ok (.baload, 1) := dk_51 (dk_at dksX2_summedUp_17 0 rfl rfl)
theorem dX2_summedUp_400 : decode cX2_summedUp 400 = .ok (.aload_n 0, 1) := dk_42 (dk_at dksX2_summedUp_17 1 rfl rfl)
theorem dX2_summedUp_401 : decode cX2_summedUp 401 = .ok (.getfield 39, 3) := dk_180 0 39 (dk_at dksX2_summedUp_17 2 rfl rfl)
theorem dX2_summedUp_404 : decode cX2_summedUp 404 = .ok (.iload 6, 2) := dk_21 6 (dk_at dksX2_summedUp_17 5 rfl rfl)
theorem dX2_summedUp_406 : decode cX2_summedUp 406 = .ok (.baload, 1) := dk_51 (dk_at dksX2_summedUp_17 7 rfl rfl)
theorem dX2_summedUp_407 : decode cX2_summedUp 407 = .ok (.invokestatic 305, 3) := dk_184 1 49 (dk_at dksX2_summedUp_17 8 rfl rfl)
theorem dX2_summedUp_410 : decode cX2_summedUp 410 = .ok (.bastore, 1) := dk_84 (dk_at dksX2_summedUp_17 11 rfl rfl)
theorem dX2_summedUp_411 : decode cX2_summedUp 411 = .ok (.iinc 7 1, 3) := dk_132 7 1 (dk_at dksX2_summedUp_17 12 rfl rfl)
theorem dX2_summedUp_414 : decode cX2_summedUp 414 = .ok (.goto (-376), 3) := dk_167 254 136 (dk_at dksX2_summedUp_17 15 rfl rfl)
theorem dX2_summedUp_417 : decode cX2_summedUp 417 = .ok (.aload_n 0, 1) := dk_42 (dk_at dksX2_summedUp_17 18 rfl rfl)
theorem dX2_summedUp_418 : decode cX2_summedUp 418 = .ok (.getfield 35, 3) := dk_180 0 35 (dk_at dksX2_summedUp_17 19 rfl rfl)
theorem dX2_summedUp_421 : decode cX2_summedUp 421 = .ok (.iconst 0, 1) := dk_3 (dk_at dksX2_summedUp_17 22 rfl rfl)
theorem dX2_summedUp_422 : decode cX2_summedUp 422 = .ok (.laload, 1) := dk_47 (dk_at dksX2_summedUp_17 23 rfl rfl)
theorem dX2_summedUp_423 : decode cX2_summedUp 423 = .ok (.lreturn, 1) := dk_173 (dk_at dksX2_summedUp_18 0 rfl rfl)
abbrev cX2_heldOf : ByteArray := prog_20_method_68_code
def yX2_heldOf : MethodName := ⟨RX2, "heldOf", "(J)J"⟩
def dkwX2_heldOf_1 : List UInt8 := [180, 0, 7, 16, 7, 46, 31, 136, 184, 0, 87, 153, 0, 7, 10, 167, 0, 4, 9, 173]
abbrev dktX2_heldOf_1 : List UInt8 := dkwX2_heldOf_1 ++ []
def dkwX2_heldOf_0 : List UInt8 := [42, 180, 1, 31, 154, 0, 38, 31, 9, 148, 155, 0, 32, 31, 42, 182, 0, 79, 133, 148, 156, 0, 22, 42]
abbrev dktX2_heldOf_0 : List UInt8 := dkwX2_heldOf_0 ++ dktX2_heldOf_1
theorem dksX2_heldOf_0 : cX2_heldOf.data.toList.drop 0 = dktX2_heldOf_0 := by decide +kernel
theorem dksX2_heldOf_1 : cX2_heldOf.data.toList.drop 24 = dktX2_heldOf_1 := dk_seg dksX2_heldOf_0 24 rfl rfl
theorem dX2_heldOf_0 : decode cX2_heldOf 0 = .ok (.aload_n 0, 1) := dk_42 (dk_at dksX2_heldOf_0 0 rfl rfl)
theorem dX2_heldOf_1 : decode cX2_heldOf 1 = .ok (.getfield 287, 3) := dk_180 1 31 (dk_at dksX2_heldOf_0 1 rfl rfl)
theorem dX2_heldOf_4 : decode cX2_heldOf 4 = .ok (.ifCond .ne 38, 3) := dk_154 0 38 (dk_at dksX2_heldOf_0 4 rfl rfl)
theorem dX2_heldOf_7 : decode cX2_heldOf 7 = .ok (.lload_n 1, 1) := dk_31 (dk_at dksX2_heldOf_0 7 rfl rfl)
theorem dX2_heldOf_8 : decode cX2_heldOf 8 = .ok (.lconst 0, 1) := dk_9 (dk_at dksX2_heldOf_0 8 rfl rfl)
theorem dX2_heldOf_9 : decode cX2_heldOf 9 = .ok (.lcmp, 1) := dk_148 (dk_at dksX2_heldOf_0 9 rfl rfl)
theorem dX2_heldOf_10 : decode cX2_heldOf 10 = .ok (.ifCond .lt 32, 3) := dk_155 0 32 (dk_at dksX2_heldOf_0 10 rfl rfl)
theorem dX2_heldOf_13 : decode cX2_heldOf 13 = .ok (.lload_n 1, 1) := dk_31 (dk_at dksX2_heldOf_0 13 rfl rfl)
theorem dX2_heldOf_14 : decode cX2_heldOf 14 = .ok (.aload_n 0, 1) := dk_42 (dk_at dksX2_heldOf_0 14 rfl rfl)
theorem dX2_heldOf_15 : decode cX2_heldOf 15 = .ok (.invokevirtual 79, 3) := dk_182 0 79 (dk_at dksX2_heldOf_0 15 rfl rfl)
theorem dX2_heldOf_18 : decode cX2_heldOf 18 = .ok (.i2l, 1) := dk_133 (dk_at dksX2_heldOf_0 18 rfl rfl)
theorem dX2_heldOf_19 : decode cX2_heldOf 19 = .ok (.lcmp, 1) := dk_148 (dk_at dksX2_heldOf_0 19 rfl rfl)
theorem dX2_heldOf_20 : decode cX2_heldOf 20 = .ok (.ifCond .ge 22, 3) := dk_156 0 22 (dk_at dksX2_heldOf_0 20 rfl rfl)
theorem dX2_heldOf_23 : decode cX2_heldOf 23 = .ok (.aload_n 0, 1) := dk_42 (dk_at dksX2_heldOf_0 23 rfl rfl)
theorem dX2_heldOf_24 : decode cX2_heldOf 24 = .ok (.getfield 7, 3) := dk_180 0 7 (dk_at dksX2_heldOf_1 0 rfl rfl)
theorem dX2_heldOf_27 : decode cX2_heldOf 27 = .ok (.bipush 7, 2) := dk_16 7 (dk_at dksX2_heldOf_1 3 rfl rfl)
theorem dX2_heldOf_29 : decode cX2_heldOf 29 = .ok (.iaload, 1) := dk_46 (dk_at dksX2_heldOf_1 5 rfl rfl)
theorem dX2_heldOf_30 : decode cX2_heldOf 30 = .ok (.lload_n 1, 1) := dk_31 (dk_at dksX2_heldOf_1 6 rfl rfl)
theorem dX2_heldOf_31 : decode cX2_heldOf 31 = .ok (.l2i, 1) := dk_136 (dk_at dksX2_heldOf_1 7 rfl rfl)
theorem dX2_heldOf_32 : decode cX2_heldOf 32 = .ok (.invokestatic 87, 3) := dk_184 0 87 (dk_at dksX2_heldOf_1 8 rfl rfl)
theorem dX2_heldOf_35 : decode cX2_heldOf 35 = .ok (.ifCond .eq 7, 3) := dk_153 0 7 (dk_at dksX2_heldOf_1 11 rfl rfl)
theorem dX2_heldOf_38 : decode cX2_heldOf 38 = .ok (.lconst 1, 1) := dk_10 (dk_at dksX2_heldOf_1 14 rfl rfl)
theorem dX2_heldOf_39 : decode cX2_heldOf 39 = .ok (.goto 4, 3) := dk_167 0 4 (dk_at dksX2_heldOf_1 15 rfl rfl)
theorem dX2_heldOf_42 : decode cX2_heldOf 42 = .ok (.lconst 0, 1) := dk_9 (dk_at dksX2_heldOf_1 18 rfl rfl)
theorem dX2_heldOf_43 : decode cX2_heldOf 43 = .ok (.lreturn, 1) := dk_173 (dk_at dksX2_heldOf_1 19 rfl rfl)
abbrev cX2_claims : ByteArray := prog_20_method_9_code
def yX2_claims : MethodName := ⟨RX2, "claims", "()I"⟩
def dkwX2_claims_1 : List UInt8 := [180, 0, 7, 5, 46, 104, 17, 2, 193, 96, 46, 172]
abbrev dktX2_claims_1 : List UInt8 := dkwX2_claims_1 ++ []
def dkwX2_claims_0 : List UInt8 := [42, 180, 0, 7, 5, 46, 2, 160, 0, 7, 3, 167, 0, 22, 42, 180, 0, 16, 17, 2, 202, 42]
abbrev dktX2_claims_0 : List UInt8 := dkwX2_claims_0 ++ dktX2_claims_1
theorem dksX2_claims_0 : cX2_claims.data.toList.drop 0 = dktX2_claims_0 := by decide +kernel
theorem dksX2_claims_1 : cX2_claims.data.toList.drop 22 = dktX2_claims_1 := dk_seg dksX2_claims_0 22 rfl rfl
theorem dX2_claims_0 : decode cX2_claims 0 = .ok (.aload_n 0, 1) := dk_42 (dk_at dksX2_claims_0 0 rfl rfl)
theorem dX2_claims_1 : decode cX2_claims 1 = .ok (.getfield 7, 3) := dk_180 0 7 (dk_at dksX2_claims_0 1 rfl rfl)
theorem dX2_claims_4 : decode cX2_claims 4 = .ok (.iconst 2, 1) := dk_5 (dk_at dksX2_claims_0 4 rfl rfl)
theorem dX2_claims_5 : decode cX2_claims 5 = .ok (.iaload, 1) := dk_46 (dk_at dksX2_claims_0 5 rfl rfl)
theorem dX2_claims_6 : decode cX2_claims 6 = .ok (.iconst (-1), 1) := dk_2 (dk_at dksX2_claims_0 6 rfl rfl)
theorem dX2_claims_7 : decode cX2_claims 7 = .ok (.if_icmp .ne 7, 3) := dk_160 0 7 (dk_at dksX2_claims_0 7 rfl rfl)
theorem dX2_claims_10 : decode cX2_claims 10 = .ok (.iconst 0, 1) := dk_3 (dk_at dksX2_claims_0 10 rfl rfl)
theorem dX2_claims_11 : decode cX2_claims 11 = .ok (.goto 22, 3) := dk_167 0 22 (dk_at dksX2_claims_0 11 rfl rfl)
theorem dX2_claims_14 : decode cX2_claims 14 = .ok (.aload_n 0, 1) := dk_42 (dk_at dksX2_claims_0 14 rfl rfl)
theorem dX2_claims_15 : decode cX2_claims 15 = .ok (.getfield 16, 3) := dk_180 0 16 (dk_at dksX2_claims_0 15 rfl rfl)
theorem dX2_claims_18 : decode cX2_claims 18 = .ok (.sipush 714, 3) := dk_17 2 202 (dk_at dksX2_claims_0 18 rfl rfl)
theorem dX2_claims_21 : decode cX2_claims 21 = .ok (.aload_n 0, 1) := dk_42 (dk_at dksX2_claims_0 21 rfl rfl)
theorem dX2_claims_22 : decode cX2_claims 22 = .ok (.getfield 7, 3) := dk_180 0 7 (dk_at dksX2_claims_1 0 rfl rfl)
theorem dX2_claims_25 : decode cX2_claims 25 = .ok (.iconst 2, 1) := dk_5 (dk_at dksX2_claims_1 3 rfl rfl)
theorem dX2_claims_26 : decode cX2_claims 26 = .ok (.iaload, 1) := dk_46 (dk_at dksX2_claims_1 4 rfl rfl)
theorem dX2_claims_27 : decode cX2_claims 27 = .ok (.imul, 1) := dk_104 (dk_at dksX2_claims_1 5 rfl rfl)
theorem dX2_claims_28 : decode cX2_claims 28 = .ok (.sipush 705, 3) := dk_17 2 193 (dk_at dksX2_claims_1 6 rfl rfl)
theorem dX2_claims_31 : decode cX2_claims 31 = .ok (.iadd, 1) := dk_96 (dk_at dksX2_claims_1 9 rfl rfl)
theorem dX2_claims_32 : decode cX2_claims 32 = .ok (.iaload, 1) := dk_46 (dk_at dksX2_claims_1 10 rfl rfl)
theorem dX2_claims_33 : decode cX2_claims 33 = .ok (.ireturn, 1) := dk_172 (dk_at dksX2_claims_1 11 rfl rfl)
abbrev cX2_has : ByteArray := prog_20_method_5_code
def yX2_has : MethodName := ⟨RX2, "has", "(II)Z"⟩
def dkwX2_has_0 : List UInt8 := [26, 27, 122, 4, 126, 4, 160, 0, 7, 4, 167, 0, 4, 3, 172]
abbrev dktX2_has_0 : List UInt8 := dkwX2_has_0 ++ []
theorem dksX2_has_0 : cX2_has.data.toList.drop 0 = dktX2_has_0 := by decide +kernel
theorem dX2_has_0 : decode cX2_has 0 = .ok (.iload_n 0, 1) := dk_26 (dk_at dksX2_has_0 0 rfl rfl)
theorem dX2_has_1 : decode cX2_has 1 = .ok (.iload_n 1, 1) := dk_27 (dk_at dksX2_has_0 1 rfl rfl)
theorem dX2_has_2 : decode cX2_has 2 = .ok (.ishr, 1) := dk_122 (dk_at dksX2_has_0 2 rfl rfl)
theorem dX2_has_3 : decode cX2_has 3 = .ok (.iconst 1, 1) := dk_4 (dk_at dksX2_has_0 3 rfl rfl)
theorem dX2_has_4 : decode cX2_has 4 = .ok (.iand, 1) := dk_126 (dk_at dksX2_has_0 4 rfl rfl)
theorem dX2_has_5 : decode cX2_has 5 = .ok (.iconst 1, 1) := dk_4 (dk_at dksX2_has_0 5 rfl rfl)
theorem dX2_has_6 : decode cX2_has 6 = .ok (.if_icmp .ne 7, 3) := dk_160 0 7 (dk_at dksX2_has_0 6 rfl rfl)
theorem dX2_has_9 : decode cX2_has 9 = .ok (.iconst 1, 1) := dk_4 (dk_at dksX2_has_0 9 rfl rfl)
theorem dX2_has_10 : decode cX2_has 10 = .ok (.goto 4, 3) := dk_167 0 4 (dk_at dksX2_has_0 10 rfl rfl)
theorem dX2_has_13 : decode cX2_has 13 = .ok (.iconst 0, 1) := dk_3 (dk_at dksX2_has_0 13 rfl rfl)
theorem dX2_has_14 : decode cX2_has 14 = .ok (.ireturn, 1) := dk_172 (dk_at dksX2_has_0 14 rfl rfl)
abbrev cX2_two : ByteArray := prog_20_method_66_code
def yX2_two : MethodName := ⟨RX2, "two", "(IJJ)J"⟩
def dkwX2_two_3 : List UInt8 := [154, 0, 7, 9, 167, 0, 9, 31, 33, 109, 184, 1, 27, 173]
abbrev dktX2_two_3 : List UInt8 := dkwX2_two_3 ++ []
def dkwX2_two_2 : List UInt8 := [31, 33, 97, 184, 1, 27, 173, 31, 33, 101, 184, 1, 27, 173, 31, 33, 105, 184, 1, 27, 173, 33, 9, 148]
abbrev dktX2_two_2 : List UInt8 := dkwX2_two_2 ++ dktX2_two_3
def dkwX2_two_1 : List UInt8 := [170, 0, 0, 0, 0, 0, 48, 0, 0, 0, 6, 0, 0, 0, 8, 0, 0, 0, 27, 0, 0, 0, 34, 0, 0, 0, 41]
abbrev dktX2_two_1 : List UInt8 := dkwX2_two_1 ++ dktX2_two_2
def dkwX2_two_0 : List UInt8 := [26]
abbrev dktX2_two_0 : List UInt8 := dkwX2_two_0 ++ dktX2_two_1
theorem dksX2_two_0 : cX2_two.data.toList.drop 0 = dktX2_two_0 := by decide +kernel
theorem dksX2_two_1 : cX2_two.data.toList.drop 1 = dktX2_two_1 := dk_seg dksX2_two_0 1 rfl rfl
theorem dksX2_two_2 : cX2_two.data.toList.drop 28 = dktX2_two_2 := dk_seg dksX2_two_1 27 rfl rfl
theorem dksX2_two_3 : cX2_two.data.toList.drop 52 = dktX2_two_3 := dk_seg dksX2_two_2 24 rfl rfl
theorem dX2_two_0 : decode cX2_two 0 = .ok (.iload_n 0, 1) := dk_26 (dk_at dksX2_two_0 0 rfl rfl)
theorem dX2_two_1 : decode cX2_two 1 = .ok (.tableswitch 48 6 8 #[27, 34, 41], 27) := by decide +kernel
theorem dX2_two_28 : decode cX2_two 28 = .ok (.lload_n 1, 1) := dk_31 (dk_at dksX2_two_2 0 rfl rfl)
theorem dX2_two_29 : decode cX2_two 29 = .ok (.lload_n 3, 1) := dk_33 (dk_at dksX2_two_2 1 rfl rfl)
theorem dX2_two_30 : decode cX2_two 30 = .ok (.ladd, 1) := dk_97 (dk_at dksX2_two_2 2 rfl rfl)
theorem dX2_two_31 : decode cX2_two 31 = .ok (.invokestatic 283, 3) := dk_184 1 27 (dk_at dksX2_two_2 3 rfl rfl)
theorem dX2_two_34 : decode cX2_two 34 = .ok (.lreturn, 1) := dk_173 (dk_at dksX2_two_2 6 rfl rfl)
theorem dX2_two_35 : decode cX2_two 35 = .ok (.lload_n 1, 1) := dk_31 (dk_at dksX2_two_2 7 rfl rfl)
theorem dX2_two_36 : decode cX2_two 36 = .ok (.lload_n 3, 1) := dk_33 (dk_at dksX2_two_2 8 rfl rfl)
theorem dX2_two_37 : decode cX2_two 37 = .ok (.lsub, 1) := dk_101 (dk_at dksX2_two_2 9 rfl rfl)
theorem dX2_two_38 : decode cX2_two 38 = .ok (.invokestatic 283, 3) := dk_184 1 27 (dk_at dksX2_two_2 10 rfl rfl)
theorem dX2_two_41 : decode cX2_two 41 = .ok (.lreturn, 1) := dk_173 (dk_at dksX2_two_2 13 rfl rfl)
theorem dX2_two_42 : decode cX2_two 42 = .ok (.lload_n 1, 1) := dk_31 (dk_at dksX2_two_2 14 rfl rfl)
theorem dX2_two_43 : decode cX2_two 43 = .ok (.lload_n 3, 1) := dk_33 (dk_at dksX2_two_2 15 rfl rfl)
theorem dX2_two_44 : decode cX2_two 44 = .ok (.lmul, 1) := dk_105 (dk_at dksX2_two_2 16 rfl rfl)
theorem dX2_two_45 : decode cX2_two 45 = .ok (.invokestatic 283, 3) := dk_184 1 27 (dk_at dksX2_two_2 17 rfl rfl)
theorem dX2_two_48 : decode cX2_two 48 = .ok (.lreturn, 1) := dk_173 (dk_at dksX2_two_2 20 rfl rfl)
theorem dX2_two_49 : decode cX2_two 49 = .ok (.lload_n 3, 1) := dk_33 (dk_at dksX2_two_2 21 rfl rfl)
theorem dX2_two_50 : decode cX2_two 50 = .ok (.lconst 0, 1) := dk_9 (dk_at dksX2_two_2 22 rfl rfl)
theorem dX2_two_51 : decode cX2_two 51 = .ok (.lcmp, 1) := dk_148 (dk_at dksX2_two_2 23 rfl rfl)
theorem dX2_two_52 : decode cX2_two 52 = .ok (.ifCond .ne 7, 3) := dk_154 0 7 (dk_at dksX2_two_3 0 rfl rfl)
theorem dX2_two_55 : decode cX2_two 55 = .ok (.lconst 0, 1) := dk_9 (dk_at dksX2_two_3 3 rfl rfl)
theorem dX2_two_56 : decode cX2_two 56 = .ok (.goto 9, 3) := dk_167 0 9 (dk_at dksX2_two_3 4 rfl rfl)
theorem dX2_two_59 : decode cX2_two 59 = .ok (.lload_n 1, 1) := dk_31 (dk_at dksX2_two_3 7 rfl rfl)
theorem dX2_two_60 : decode cX2_two 60 = .ok (.lload_n 3, 1) := dk_33 (dk_at dksX2_two_3 8 rfl rfl)
theorem dX2_two_61 : decode cX2_two 61 = .ok (.ldiv, 1) := dk_109 (dk_at dksX2_two_3 9 rfl rfl)
theorem dX2_two_62 : decode cX2_two 62 = .ok (.invokestatic 283, 3) := dk_184 1 27 (dk_at dksX2_two_3 10 rfl rfl)
theorem dX2_two_65 : decode cX2_two 65 = .ok (.lreturn, 1) := dk_173 (dk_at dksX2_two_3 13 rfl rfl)
abbrev cX2_clip : ByteArray := prog_20_method_65_code
def yX2_clip : MethodName := ⟨RX2, "clip", "(J)J"⟩
def dkwX2_clip_1 : List UInt8 := [20, 1, 25, 167, 0, 4, 30, 173]
abbrev dktX2_clip_1 : List UInt8 := dkwX2_clip_1 ++ []
def dkwX2_clip_0 : List UInt8 := [30, 20, 1, 23, 148, 158, 0, 9, 20, 1, 23, 167, 0, 18, 30, 20, 1, 25, 148, 156, 0, 9]
abbrev dktX2_clip_0 : List UInt8 := dkwX2_clip_0 ++ dktX2_clip_1
theorem dksX2_clip_0 : cX2_clip.data.toList.drop 0 = dktX2_clip_0 := by decide +kernel
theorem dksX2_clip_1 : cX2_clip.data.toList.drop 22 = dktX2_clip_1 := dk_seg dksX2_clip_0 22 rfl rfl
theorem dX2_clip_0 : decode cX2_clip 0 = .ok (.lload_n 0, 1) := dk_30 (dk_at dksX2_clip_0 0 rfl rfl)
theorem dX2_clip_1 : decode cX2_clip 1 = .ok (.ldc2_w 279, 3) := dk_20 1 23 (dk_at dksX2_clip_0 1 rfl rfl)
theorem dX2_clip_4 : decode cX2_clip 4 = .ok (.lcmp, 1) := dk_148 (dk_at dksX2_clip_0 4 rfl rfl)
theorem dX2_clip_5 : decode cX2_clip 5 = .ok (.ifCond .le 9, 3) := dk_158 0 9 (dk_at dksX2_clip_0 5 rfl rfl)
theorem dX2_clip_8 : decode cX2_clip 8 = .ok (.ldc2_w 279, 3) := dk_20 1 23 (dk_at dksX2_clip_0 8 rfl rfl)
theorem dX2_clip_11 : decode cX2_clip 11 = .ok (.goto 18, 3) := dk_167 0 18 (dk_at dksX2_clip_0 11 rfl rfl)
theorem dX2_clip_14 : decode cX2_clip 14 = .ok (.lload_n 0, 1) := dk_30 (dk_at dksX2_clip_0 14 rfl rfl)
theorem dX2_clip_15 : decode cX2_clip 15 = .ok (.ldc2_w 281, 3) := dk_20 1 25 (dk_at dksX2_clip_0 15 rfl rfl)
theorem dX2_clip_18 : decode cX2_clip 18 = .ok (.lcmp, 1) := dk_148 (dk_at dksX2_clip_0 18 rfl rfl)
theorem dX2_clip_19 : decode cX2_clip 19 = .ok (.ifCond .ge 9, 3) := dk_156 0 9 (dk_at dksX2_clip_0 19 rfl rfl)
theorem dX2_clip_22 : decode cX2_clip 22 = .ok (.ldc2_w 281, 3) := dk_20 1 25 (dk_at dksX2_clip_1 0 rfl rfl)
theorem dX2_clip_25 : decode cX2_clip 25 = .ok (.goto 4, 3) := dk_167 0 4 (dk_at dksX2_clip_1 3 rfl rfl)
theorem dX2_clip_28 : decode cX2_clip 28 = .ok (.lload_n 0, 1) := dk_30 (dk_at dksX2_clip_1 6 rfl rfl)
theorem dX2_clip_29 : decode cX2_clip 29 = .ok (.lreturn, 1) := dk_173 (dk_at dksX2_clip_1 7 rfl rfl)
abbrev cX2_gapOf : ByteArray := prog_20_method_69_code
def yX2_gapOf : MethodName := ⟨RX2, "gapOf", "(JJ)J"⟩
def dkwX2_gapOf_0 : List UInt8 := [30, 32, 148, 156, 0, 9, 32, 30, 101, 167, 0, 6, 30, 32, 101, 173]
abbrev dktX2_gapOf_0 : List UInt8 := dkwX2_gapOf_0 ++ []
theorem dksX2_gapOf_0 : cX2_gapOf.data.toList.drop 0 = dktX2_gapOf_0 := by decide +kernel
theorem dX2_gapOf_0 : decode cX2_gapOf 0 = .ok (.lload_n 0, 1) := dk_30 (dk_at dksX2_gapOf_0 0 rfl rfl)
theorem dX2_gapOf_1 : decode cX2_gapOf 1 = .ok (.lload_n 2, 1) := dk_32 (dk_at dksX2_gapOf_0 1 rfl rfl)
theorem dX2_gapOf_2 : decode cX2_gapOf 2 = .ok (.lcmp, 1) := dk_148 (dk_at dksX2_gapOf_0 2 rfl rfl)
theorem dX2_gapOf_3 : decode cX2_gapOf 3 = .ok (.ifCond .ge 9, 3) := dk_156 0 9 (dk_at dksX2_gapOf_0 3 rfl rfl)
theorem dX2_gapOf_6 : decode cX2_gapOf 6 = .ok (.lload_n 2, 1) := dk_32 (dk_at dksX2_gapOf_0 6 rfl rfl)
theorem dX2_gapOf_7 : decode cX2_gapOf 7 = .ok (.lload_n 0, 1) := dk_30 (dk_at dksX2_gapOf_0 7 rfl rfl)
theorem dX2_gapOf_8 : decode cX2_gapOf 8 = .ok (.lsub, 1) := dk_101 (dk_at dksX2_gapOf_0 8 rfl rfl)
theorem dX2_gapOf_9 : decode cX2_gapOf 9 = .ok (.goto 6, 3) := dk_167 0 6 (dk_at dksX2_gapOf_0 9 rfl rfl)
theorem dX2_gapOf_12 : decode cX2_gapOf 12 = .ok (.lload_n 0, 1) := dk_30 (dk_at dksX2_gapOf_0 12 rfl rfl)
theorem dX2_gapOf_13 : decode cX2_gapOf 13 = .ok (.lload_n 2, 1) := dk_32 (dk_at dksX2_gapOf_0 13 rfl rfl)
theorem dX2_gapOf_14 : decode cX2_gapOf 14 = .ok (.lsub, 1) := dk_101 (dk_at dksX2_gapOf_0 14 rfl rfl)
theorem dX2_gapOf_15 : decode cX2_gapOf 15 = .ok (.lreturn, 1) := dk_173 (dk_at dksX2_gapOf_0 15 rfl rfl)
abbrev cX2_isAsked : ByteArray := prog_20_method_67_code
def yX2_isAsked : MethodName := ⟨RX2, "isAsked", "(IJJ)Z"⟩
def dkwX2_isAsked_4 : List UInt8 := [167, 0, 18, 3, 167, 0, 14, 31, 33, 148, 153, 0, 7, 4, 167, 0, 4, 3, 172]
abbrev dktX2_isAsked_4 : List UInt8 := dkwX2_isAsked_4 ++ []
def dkwX2_isAsked_3 : List UInt8 := [155, 0, 7, 4, 167, 0, 38, 3, 167, 0, 34, 26, 16, 14, 160, 0, 17, 31, 33, 148, 154, 0, 7, 4]
abbrev dktX2_isAsked_3 : List UInt8 := dkwX2_isAsked_3 ++ dktX2_isAsked_4
def dkwX2_isAsked_2 : List UInt8 := [33, 148, 158, 0, 7, 4, 167, 0, 58, 3, 167, 0, 54, 26, 16, 13, 160, 0, 17, 31, 33, 148]
abbrev dktX2_isAsked_2 : List UInt8 := dkwX2_isAsked_2 ++ dktX2_isAsked_3
def dkwX2_isAsked_1 : List UInt8 := [160, 0, 17, 31, 33, 148, 157, 0, 7, 4, 167, 0, 78, 3, 167, 0, 74, 26, 16, 12, 160, 0, 17, 31]
abbrev dktX2_isAsked_1 : List UInt8 := dkwX2_isAsked_1 ++ dktX2_isAsked_2
def dkwX2_isAsked_0 : List UInt8 := [26, 16, 10, 160, 0, 17, 31, 33, 148, 156, 0, 7, 4, 167, 0, 98, 3, 167, 0, 94, 26, 16, 11]
abbrev dktX2_isAsked_0 : List UInt8 := dkwX2_isAsked_0 ++ dktX2_isAsked_1
theorem dksX2_isAsked_0 : cX2_isAsked.data.toList.drop 0 = dktX2_isAsked_0 := by decide +kernel
theorem dksX2_isAsked_1 : cX2_isAsked.data.toList.drop 23 = dktX2_isAsked_1 := dk_seg dksX2_isAsked_0 23 rfl rfl
theorem dksX2_isAsked_2 : cX2_isAsked.data.toList.drop 47 = dktX2_isAsked_2 := dk_seg dksX2_isAsked_1 24 rfl rfl
theorem dksX2_isAsked_3 : cX2_isAsked.data.toList.drop 69 = dktX2_isAsked_3 := dk_seg dksX2_isAsked_2 22 rfl rfl
theorem dksX2_isAsked_4 : cX2_isAsked.data.toList.drop 93 = dktX2_isAsked_4 := dk_seg dksX2_isAsked_3 24 rfl rfl
theorem dX2_isAsked_0 : decode cX2_isAsked 0 = .ok (.iload_n 0, 1) := dk_26 (dk_at dksX2_isAsked_0 0 rfl rfl)
theorem dX2_isAsked_1 : decode cX2_isAsked 1 = .ok (.bipush 10, 2) := dk_16 10 (dk_at dksX2_isAsked_0 1 rfl rfl)
theorem dX2_isAsked_3 : decode cX2_isAsked 3 = .ok (.if_icmp .ne 17, 3) := dk_160 0 17 (dk_at dksX2_isAsked_0 3 rfl rfl)
theorem dX2_isAsked_6 : decode cX2_isAsked 6 = .ok (.lload_n 1, 1) := dk_31 (dk_at dksX2_isAsked_0 6 rfl rfl)
theorem dX2_isAsked_7 : decode cX2_isAsked 7 = .ok (.lload_n 3, 1) := dk_33 (dk_at dksX2_isAsked_0 7 rfl rfl)
theorem dX2_isAsked_8 : decode cX2_isAsked 8 = .ok (.lcmp, 1) := dk_148 (dk_at dksX2_isAsked_0 8 rfl rfl)
theorem dX2_isAsked_9 : decode cX2_isAsked 9 = .ok (.ifCond .ge 7, 3) := dk_156 0 7 (dk_at dksX2_isAsked_0 9 rfl rfl)
theorem dX2_isAsked_12 : decode cX2_isAsked 12 = .ok (.iconst 1, 1) := dk_4 (dk_at dksX2_isAsked_0 12 rfl rfl)
theorem dX2_isAsked_13 : decode cX2_isAsked 13 = .ok (.goto 98, 3) := dk_167 0 98 (dk_at dksX2_isAsked_0 13 rfl rfl)
theorem dX2_isAsked_16 : decode cX2_isAsked 16 = .ok (.iconst 0, 1) := dk_3 (dk_at dksX2_isAsked_0 16 rfl rfl)
theorem dX2_isAsked_17 : decode cX2_isAsked 17 = .ok (.goto 94, 3) := dk_167 0 94 (dk_at dksX2_isAsked_0 17 rfl rfl)
theorem dX2_isAsked_20 : decode cX2_isAsked 20 = .ok (.iload_n 0, 1) := dk_26 (dk_at dksX2_isAsked_0 20 rfl rfl)
theorem dX2_isAsked_21 : decode cX2_isAsked 21 = .ok (.bipush 11, 2) := dk_16 11 (dk_at dksX2_isAsked_0 21 rfl rfl)
theorem dX2_isAsked_23 : decode cX2_isAsked 23 = .ok (.if_icmp .ne 17, 3) := dk_160 0 17 (dk_at dksX2_isAsked_1 0 rfl rfl)
theorem dX2_isAsked_26 : decode cX2_isAsked 26 = .ok (.lload_n 1, 1) := dk_31 (dk_at dksX2_isAsked_1 3 rfl rfl)
theorem dX2_isAsked_27 : decode cX2_isAsked 27 = .ok (.lload_n 3, 1) := dk_33 (dk_at dksX2_isAsked_1 4 rfl rfl)
theorem dX2_isAsked_28 : decode cX2_isAsked 28 = .ok (.lcmp, 1) := dk_148 (dk_at dksX2_isAsked_1 5 rfl rfl)
theorem dX2_isAsked_29 : decode cX2_isAsked 29 = .ok (.ifCond .gt 7, 3) := dk_157 0 7 (dk_at dksX2_isAsked_1 6 rfl rfl)
theorem dX2_isAsked_32 : decode cX2_isAsked 32 = .ok (.iconst 1, 1) := dk_4 (dk_at dksX2_isAsked_1 9 rfl rfl)
theorem dX2_isAsked_33 : decode cX2_isAsked 33 = .ok (.goto 78, 3) := dk_167 0 78 (dk_at dksX2_isAsked_1 10 rfl rfl)
theorem dX2_isAsked_36 : decode cX2_isAsked 36 = .ok (.iconst 0, 1) := dk_3 (dk_at dksX2_isAsked_1 13 rfl rfl)
theorem dX2_isAsked_37 : decode cX2_isAsked 37 = .ok (.goto 74, 3) := dk_167 0 74 (dk_at dksX2_isAsked_1 14 rfl rfl)
theorem dX2_isAsked_40 : decode cX2_isAsked 40 = .ok (.iload_n 0, 1) := dk_26 (dk_at dksX2_isAsked_1 17 rfl rfl)
theorem dX2_isAsked_41 : decode cX2_isAsked 41 = .ok (.bipush 12, 2) := dk_16 12 (dk_at dksX2_isAsked_1 18 rfl rfl)
theorem dX2_isAsked_43 : decode cX2_isAsked 43 = .ok (.if_icmp .ne 17, 3) := dk_160 0 17 (dk_at dksX2_isAsked_1 20 rfl rfl)
theorem dX2_isAsked_46 : decode cX2_isAsked 46 = .ok (.lload_n 1, 1) := dk_31 (dk_at dksX2_isAsked_1 23 rfl rfl)
theorem dX2_isAsked_47 : decode cX2_isAsked 47 = .ok (.lload_n 3, 1) := dk_33 (dk_at dksX2_isAsked_2 0 rfl rfl)
theorem dX2_isAsked_48 : decode cX2_isAsked 48 = .ok (.lcmp, 1) := dk_148 (dk_at dksX2_isAsked_2 1 rfl rfl)
theorem dX2_isAsked_49 : decode cX2_isAsked 49 = .ok (.ifCond .le 7, 3) := dk_158 0 7 (dk_at dksX2_isAsked_2 2 rfl rfl)
theorem dX2_isAsked_52 : decode cX2_isAsked 52 = .ok (.iconst 1, 1) := dk_4 (dk_at dksX2_isAsked_2 5 rfl rfl)
theorem dX2_isAsked_53 : decode cX2_isAsked 53 = .ok (.goto 58, 3) := dk_167 0 58 (dk_at dksX2_isAsked_2 6 rfl rfl)
theorem dX2_isAsked_56 : decode cX2_isAsked 56 = .ok (.iconst 0, 1) := dk_3 (dk_at dksX2_isAsked_2 9 rfl rfl)
theorem dX2_isAsked_57 : decode cX2_isAsked 57 = .ok (.goto 54, 3) := dk_167 0 54 (dk_at dksX2_isAsked_2 10 rfl rfl)
theorem dX2_isAsked_60 : decode cX2_isAsked 60 = .ok (.iload_n 0, 1) := dk_26 (dk_at dksX2_isAsked_2 13 rfl rfl)
theorem dX2_isAsked_61 : decode cX2_isAsked 61 = .ok (.bipush 13, 2) := dk_16 13 (dk_at dksX2_isAsked_2 14 rfl rfl)
theorem dX2_isAsked_63 : decode cX2_isAsked 63 = .ok (.if_icmp .ne 17, 3) := dk_160 0 17 (dk_at dksX2_isAsked_2 16 rfl rfl)
theorem dX2_isAsked_66 : decode cX2_isAsked 66 = .ok (.lload_n 1, 1) := dk_31 (dk_at dksX2_isAsked_2 19 rfl rfl)
theorem dX2_isAsked_67 : decode cX2_isAsked 67 = .ok (.lload_n 3, 1) := dk_33 (dk_at dksX2_isAsked_2 20 rfl rfl)
theorem dX2_isAsked_68 : decode cX2_isAsked 68 = .ok (.lcmp, 1) := dk_148 (dk_at dksX2_isAsked_2 21 rfl rfl)
theorem dX2_isAsked_69 : decode cX2_isAsked 69 = .ok (.ifCond .lt 7, 3) := dk_155 0 7 (dk_at dksX2_isAsked_3 0 rfl rfl)
theorem dX2_isAsked_72 : decode cX2_isAsked 72 = .ok (.iconst 1, 1) := dk_4 (dk_at dksX2_isAsked_3 3 rfl rfl)
theorem dX2_isAsked_73 : decode cX2_isAsked 73 = .ok (.goto 38, 3) := dk_167 0 38 (dk_at dksX2_isAsked_3 4 rfl rfl)
theorem dX2_isAsked_76 : decode cX2_isAsked 76 = .ok (.iconst 0, 1) := dk_3 (dk_at dksX2_isAsked_3 7 rfl rfl)
theorem dX2_isAsked_77 : decode cX2_isAsked 77 = .ok (.goto 34, 3) := dk_167 0 34 (dk_at dksX2_isAsked_3 8 rfl rfl)
theorem dX2_isAsked_80 : decode cX2_isAsked 80 = .ok (.iload_n 0, 1) := dk_26 (dk_at dksX2_isAsked_3 11 rfl rfl)
theorem dX2_isAsked_81 : decode cX2_isAsked 81 = .ok (.bipush 14, 2) := dk_16 14 (dk_at dksX2_isAsked_3 12 rfl rfl)
theorem dX2_isAsked_83 : decode cX2_isAsked 83 = .ok (.if_icmp .ne 17, 3) := dk_160 0 17 (dk_at dksX2_isAsked_3 14 rfl rfl)
theorem dX2_isAsked_86 : decode cX2_isAsked 86 = .ok (.lload_n 1, 1) := dk_31 (dk_at dksX2_isAsked_3 17 rfl rfl)
theorem dX2_isAsked_87 : decode cX2_isAsked 87 = .ok (.lload_n 3, 1) := dk_33 (dk_at dksX2_isAsked_3 18 rfl rfl)
theorem dX2_isAsked_88 : decode cX2_isAsked 88 = .ok (.lcmp, 1) := dk_148 (dk_at dksX2_isAsked_3 19 rfl rfl)
theorem dX2_isAsked_89 : decode cX2_isAsked 89 = .ok (.ifCond .ne 7, 3) := dk_154 0 7 (dk_at dksX2_isAsked_3 20 rfl rfl)
theorem dX2_isAsked_92 : decode cX2_isAsked 92 = .ok (.iconst 1, 1) := dk_4 (dk_at dksX2_isAsked_3 23 rfl rfl)
theorem dX2_isAsked_93 : decode cX2_isAsked 93 = .ok (.goto 18, 3) := dk_167 0 18 (dk_at dksX2_isAsked_4 0 rfl rfl)
theorem dX2_isAsked_96 : decode cX2_isAsked 96 = .ok (.iconst 0, 1) := dk_3 (dk_at dksX2_isAsked_4 3 rfl rfl)
theorem dX2_isAsked_97 : decode cX2_isAsked 97 = .ok (.goto 14, 3) := dk_167 0 14 (dk_at dksX2_isAsked_4 4 rfl rfl)
theorem dX2_isAsked_100 : decode cX2_isAsked 100 = .ok (.lload_n 1, 1) := dk_31 (dk_at dksX2_isAsked_4 7 rfl rfl)
theorem dX2_isAsked_101 : decode cX2_isAsked 101 = .ok (.lload_n 3, 1) := dk_33 (dk_at dksX2_isAsked_4 8 rfl rfl)
theorem dX2_isAsked_102 : decode cX2_isAsked 102 = .ok (.lcmp, 1) := dk_148 (dk_at dksX2_isAsked_4 9 rfl rfl)
theorem dX2_isAsked_103 : decode cX2_isAsked 103 = .ok (.ifCond .eq 7, 3) := dk_153 0 7 (dk_at dksX2_isAsked_4 10 rfl rfl)
theorem dX2_isAsked_106 : decode cX2_isAsked 106 = .ok (.iconst 1, 1) := dk_4 (dk_at dksX2_isAsked_4 13 rfl rfl)
theorem dX2_isAsked_107 : decode cX2_isAsked 107 = .ok (.goto 4, 3) := dk_167 0 4 (dk_at dksX2_isAsked_4 14 rfl rfl)
theorem dX2_isAsked_110 : decode cX2_isAsked 110 = .ok (.iconst 0, 1) := dk_3 (dk_at dksX2_isAsked_4 17 rfl rfl)
theorem dX2_isAsked_111 : decode cX2_isAsked 111 = .ok (.ireturn, 1) := dk_172 (dk_at dksX2_isAsked_4 18 rfl rfl)
abbrev cX2_joined : ByteArray := prog_20_method_70_code
def yX2_joined : MethodName := ⟨RX2, "joined", "(IZZ)Z"⟩
def dkwX2_joined_1 : List UInt8 := [154, 0, 7, 28, 153, 0, 7, 4, 167, 0, 4, 3, 172]
abbrev dktX2_joined_1 : List UInt8 := dkwX2_joined_1 ++ []
def dkwX2_joined_0 : List UInt8 := [26, 16, 21, 160, 0, 19, 27, 153, 0, 11, 28, 153, 0, 7, 4, 167, 0, 20, 3, 167, 0, 16, 27]
abbrev dktX2_joined_0 : List UInt8 := dkwX2_joined_0 ++ dktX2_joined_1
theorem dksX2_joined_0 : cX2_joined.data.toList.drop 0 = dktX2_joined_0 := by decide +kernel
theorem dksX2_joined_1 : cX2_joined.data.toList.drop 23 = dktX2_joined_1 := dk_seg dksX2_joined_0 23 rfl rfl
theorem dX2_joined_0 : decode cX2_joined 0 = .ok (.iload_n 0, 1) := dk_26 (dk_at dksX2_joined_0 0 rfl rfl)
theorem dX2_joined_1 : decode cX2_joined 1 = .ok (.bipush 21, 2) := dk_16 21 (dk_at dksX2_joined_0 1 rfl rfl)
theorem dX2_joined_3 : decode cX2_joined 3 = .ok (.if_icmp .ne 19, 3) := dk_160 0 19 (dk_at dksX2_joined_0 3 rfl rfl)
theorem dX2_joined_6 : decode cX2_joined 6 = .ok (.iload_n 1, 1) := dk_27 (dk_at dksX2_joined_0 6 rfl rfl)
theorem dX2_joined_7 : decode cX2_joined 7 = .ok (.ifCond .eq 11, 3) := dk_153 0 11 (dk_at dksX2_joined_0 7 rfl rfl)
theorem dX2_joined_10 : decode cX2_joined 10 = .ok (.iload_n 2, 1) := dk_28 (dk_at dksX2_joined_0 10 rfl rfl)
theorem dX2_joined_11 : decode cX2_joined 11 = .ok (.ifCond .eq 7, 3) := dk_153 0 7 (dk_at dksX2_joined_0 11 rfl rfl)
theorem dX2_joined_14 : decode cX2_joined 14 = .ok (.iconst 1, 1) := dk_4 (dk_at dksX2_joined_0 14 rfl rfl)
theorem dX2_joined_15 : decode cX2_joined 15 = .ok (.goto 20, 3) := dk_167 0 20 (dk_at dksX2_joined_0 15 rfl rfl)
theorem dX2_joined_18 : decode cX2_joined 18 = .ok (.iconst 0, 1) := dk_3 (dk_at dksX2_joined_0 18 rfl rfl)
theorem dX2_joined_19 : decode cX2_joined 19 = .ok (.goto 16, 3) := dk_167 0 16 (dk_at dksX2_joined_0 19 rfl rfl)
theorem dX2_joined_22 : decode cX2_joined 22 = .ok (.iload_n 1, 1) := dk_27 (dk_at dksX2_joined_0 22 rfl rfl)
theorem dX2_joined_23 : decode cX2_joined 23 = .ok (.ifCond .ne 7, 3) := dk_154 0 7 (dk_at dksX2_joined_1 0 rfl rfl)
theorem dX2_joined_26 : decode cX2_joined 26 = .ok (.iload_n 2, 1) := dk_28 (dk_at dksX2_joined_1 3 rfl rfl)
theorem dX2_joined_27 : decode cX2_joined 27 = .ok (.ifCond .eq 7, 3) := dk_153 0 7 (dk_at dksX2_joined_1 4 rfl rfl)
theorem dX2_joined_30 : decode cX2_joined 30 = .ok (.iconst 1, 1) := dk_4 (dk_at dksX2_joined_1 7 rfl rfl)
theorem dX2_joined_31 : decode cX2_joined 31 = .ok (.goto 4, 3) := dk_167 0 4 (dk_at dksX2_joined_1 8 rfl rfl)
theorem dX2_joined_34 : decode cX2_joined 34 = .ok (.iconst 0, 1) := dk_3 (dk_at dksX2_joined_1 11 rfl rfl)
theorem dX2_joined_35 : decode cX2_joined 35 = .ok (.ireturn, 1) := dk_172 (dk_at dksX2_joined_1 12 rfl rfl)
abbrev cX2_fault : ByteArray := prog_20_method_63_code
def yX2_fault : MethodName := ⟨RX2, "fault", "(I)I"⟩
def dkwX2_fault_1 : List UInt8 := [172]
abbrev dktX2_fault_1 : List UInt8 := dkwX2_fault_1 ++ []
def dkwX2_fault_0 : List UInt8 := [27, 154, 0, 10, 42, 180, 0, 22, 167, 0, 16, 27, 4, 160, 0, 10, 42, 180, 0, 26, 167, 0, 4, 2]
abbrev dktX2_fault_0 : List UInt8 := dkwX2_fault_0 ++ dktX2_fault_1
theorem dksX2_fault_0 : cX2_fault.data.toList.drop 0 = dktX2_fault_0 := by decide +kernel
theorem dksX2_fault_1 : cX2_fault.data.toList.drop 24 = dktX2_fault_1 := dk_seg dksX2_fault_0 24 rfl rfl
theorem dX2_fault_0 : decode cX2_fault 0 = .ok (.iload_n 1, 1) := dk_27 (dk_at dksX2_fault_0 0 rfl rfl)
theorem dX2_fault_1 : decode cX2_fault 1 = .ok (.ifCond .ne 10, 3) := dk_154 0 10 (dk_at dksX2_fault_0 1 rfl rfl)
theorem dX2_fault_4 : decode cX2_fault 4 = .ok (.aload_n 0, 1) := dk_42 (dk_at dksX2_fault_0 4 rfl rfl)
theorem dX2_fault_5 : decode cX2_fault 5 = .ok (.getfield 22, 3) := dk_180 0 22 (dk_at dksX2_fault_0 5 rfl rfl)
theorem dX2_fault_8 : decode cX2_fault 8 = .ok (.goto 16, 3) := dk_167 0 16 (dk_at dksX2_fault_0 8 rfl rfl)
theorem dX2_fault_11 : decode cX2_fault 11 = .ok (.iload_n 1, 1) := dk_27 (dk_at dksX2_fault_0 11 rfl rfl)
theorem dX2_fault_12 : decode cX2_fault 12 = .ok (.iconst 1, 1) := dk_4 (dk_at dksX2_fault_0 12 rfl rfl)
theorem dX2_fault_13 : decode cX2_fault 13 = .ok (.if_icmp .ne 10, 3) := dk_160 0 10 (dk_at dksX2_fault_0 13 rfl rfl)
theorem dX2_fault_16 : decode cX2_fault 16 = .ok (.aload_n 0, 1) := dk_42 (dk_at dksX2_fault_0 16 rfl rfl)
theorem dX2_fault_17 : decode cX2_fault 17 = .ok (.getfield 26, 3) := dk_180 0 26 (dk_at dksX2_fault_0 17 rfl rfl)
theorem dX2_fault_20 : decode cX2_fault 20 = .ok (.goto 4, 3) := dk_167 0 4 (dk_at dksX2_fault_0 20 rfl rfl)
theorem dX2_fault_23 : decode cX2_fault 23 = .ok (.iconst (-1), 1) := dk_2 (dk_at dksX2_fault_0 23 rfl rfl)
theorem dX2_fault_24 : decode cX2_fault 24 = .ok (.ireturn, 1) := dk_172 (dk_at dksX2_fault_1 0 rfl rfl)
abbrev cX2_by : ByteArray := prog_20_method_64_code
def yX2_by : MethodName := ⟨RX2, "by", "(I)Z"⟩
def dkwX2_by_1 : List UInt8 := [79, 4, 172]
abbrev dktX2_by_1 : List UInt8 := dkwX2_by_1 ++ []
def dkwX2_by_0 : List UInt8 := [27, 2, 42, 180, 0, 7, 4, 46, 4, 100, 184, 0, 75, 154, 0, 5, 3, 172, 42, 180, 0, 7, 5, 27]
abbrev dktX2_by_0 : List UInt8 := dkwX2_by_0 ++ dktX2_by_1
theorem dksX2_by_0 : cX2_by.data.toList.drop 0 = dktX2_by_0 := by decide +kernel
theorem dksX2_by_1 : cX2_by.data.toList.drop 24 = dktX2_by_1 := dk_seg dksX2_by_0 24 rfl rfl
theorem dX2_by_0 : decode cX2_by 0 = .ok (.iload_n 1, 1) := dk_27 (dk_at dksX2_by_0 0 rfl rfl)
theorem dX2_by_1 : decode cX2_by 1 = .ok (.iconst (-1), 1) := dk_2 (dk_at dksX2_by_0 1 rfl rfl)
theorem dX2_by_2 : decode cX2_by 2 = .ok (.aload_n 0, 1) := dk_42 (dk_at dksX2_by_0 2 rfl rfl)
theorem dX2_by_3 : decode cX2_by 3 = .ok (.getfield 7, 3) := dk_180 0 7 (dk_at dksX2_by_0 3 rfl rfl)
theorem dX2_by_6 : decode cX2_by 6 = .ok (.iconst 1, 1) := dk_4 (dk_at dksX2_by_0 6 rfl rfl)
theorem dX2_by_7 : decode cX2_by 7 = .ok (.iaload, 1) := dk_46 (dk_at dksX2_by_0 7 rfl rfl)
theorem dX2_by_8 : decode cX2_by 8 = .ok (.iconst 1, 1) := dk_4 (dk_at dksX2_by_0 8 rfl rfl)
theorem dX2_by_9 : decode cX2_by 9 = .ok (.isub, 1) := dk_100 (dk_at dksX2_by_0 9 rfl rfl)
theorem dX2_by_10 : decode cX2_by 10 = .ok (.invokestatic 75, 3) := dk_184 0 75 (dk_at dksX2_by_0 10 rfl rfl)
theorem dX2_by_13 : decode cX2_by 13 = .ok (.ifCond .ne 5, 3) := dk_154 0 5 (dk_at dksX2_by_0 13 rfl rfl)
theorem dX2_by_16 : decode cX2_by 16 = .ok (.iconst 0, 1) := dk_3 (dk_at dksX2_by_0 16 rfl rfl)
theorem dX2_by_17 : decode cX2_by 17 = .ok (.ireturn, 1) := dk_172 (dk_at dksX2_by_0 17 rfl rfl)
theorem dX2_by_18 : decode cX2_by 18 = .ok (.aload_n 0, 1) := dk_42 (dk_at dksX2_by_0 18 rfl rfl)
theorem dX2_by_19 : decode cX2_by 19 = .ok (.getfield 7, 3) := dk_180 0 7 (dk_at dksX2_by_0 19 rfl rfl)
theorem dX2_by_22 : decode cX2_by 22 = .ok (.iconst 2, 1) := dk_5 (dk_at dksX2_by_0 22 rfl rfl)
theorem dX2_by_23 : decode cX2_by 23 = .ok (.iload_n 1, 1) := dk_27 (dk_at dksX2_by_0 23 rfl rfl)
theorem dX2_by_24 : decode cX2_by 24 = .ok (.iastore, 1) := dk_79 (dk_at dksX2_by_1 0 rfl rfl)
theorem dX2_by_25 : decode cX2_by 25 = .ok (.iconst 1, 1) := dk_4 (dk_at dksX2_by_1 1 rfl rfl)
theorem dX2_by_26 : decode cX2_by 26 = .ok (.ireturn, 1) := dk_172 (dk_at dksX2_by_1 2 rfl rfl)
abbrev cX2_undo : ByteArray := prog_20_method_85_code
def yX2_undo : MethodName := ⟨RX2, "undo", "()I"⟩
def dkwX2_undo_4 : List UInt8 := [132, 2, 1, 167, 255, 226, 42, 180, 0, 7, 6, 46, 172]
abbrev dktX2_undo_4 : List UInt8 := dkwX2_undo_4 ++ []
def dkwX2_undo_3 : List UInt8 := [162, 0, 30, 42, 180, 0, 7, 17, 5, 66, 28, 96, 42, 180, 0, 7, 27, 16, 22, 96, 28, 96, 46, 79]
abbrev dktX2_undo_3 : List UInt8 := dkwX2_undo_3 ++ dktX2_undo_4
def dkwX2_undo_2 : List UInt8 := [28, 96, 42, 180, 0, 7, 27, 28, 96, 46, 79, 132, 2, 1, 167, 255, 231, 3, 61, 28, 16, 20]
abbrev dktX2_undo_2 : List UInt8 := dkwX2_undo_2 ++ dktX2_undo_3
def dkwX2_undo_1 : List UInt8 := [16, 42, 42, 180, 0, 7, 6, 46, 104, 96, 60, 3, 61, 28, 16, 22, 162, 0, 25, 42, 180, 0, 7, 8]
abbrev dktX2_undo_1 : List UInt8 := dkwX2_undo_1 ++ dktX2_undo_2
def dkwX2_undo_0 : List UInt8 := [42, 180, 0, 7, 6, 46, 154, 0, 5, 2, 172, 42, 180, 0, 7, 6, 92, 46, 4, 100, 79, 16, 86]
abbrev dktX2_undo_0 : List UInt8 := dkwX2_undo_0 ++ dktX2_undo_1
theorem dksX2_undo_0 : cX2_undo.data.toList.drop 0 = dktX2_undo_0 := by decide +kernel
theorem dksX2_undo_1 : cX2_undo.data.toList.drop 23 = dktX2_undo_1 := dk_seg dksX2_undo_0 23 rfl rfl
theorem dksX2_undo_2 : cX2_undo.data.toList.drop 47 = dktX2_undo_2 := dk_seg dksX2_undo_1 24 rfl rfl
theorem dksX2_undo_3 : cX2_undo.data.toList.drop 69 = dktX2_undo_3 := dk_seg dksX2_undo_2 22 rfl rfl
theorem dksX2_undo_4 : cX2_undo.data.toList.drop 93 = dktX2_undo_4 := dk_seg dksX2_undo_3 24 rfl rfl
theorem dX2_undo_0 : decode cX2_undo 0 = .ok (.aload_n 0, 1) := dk_42 (dk_at dksX2_undo_0 0 rfl rfl)
theorem dX2_undo_1 : decode cX2_undo 1 = .ok (.getfield 7, 3) := dk_180 0 7 (dk_at dksX2_undo_0 1 rfl rfl)
theorem dX2_undo_4 : decode cX2_undo 4 = .ok (.iconst 3, 1) := dk_6 (dk_at dksX2_undo_0 4 rfl rfl)
theorem dX2_undo_5 : decode cX2_undo 5 = .ok (.iaload, 1) := dk_46 (dk_at dksX2_undo_0 5 rfl rfl)
theorem dX2_undo_6 : decode cX2_undo 6 = .ok (.ifCond .ne 5, 3) := dk_154 0 5 (dk_at dksX2_undo_0 6 rfl rfl)
theorem dX2_undo_9 : decode cX2_undo 9 = .ok (.iconst (-1), 1) := dk_2 (dk_at dksX2_undo_0 9 rfl rfl)
theorem dX2_undo_10 : decode cX2_undo 10 = .ok (.ireturn, 1) := dk_172 (dk_at dksX2_undo_0 10 rfl rfl)
theorem dX2_undo_11 : decode cX2_undo 11 = .ok (.aload_n 0, 1) := dk_42 (dk_at dksX2_undo_0 11 rfl rfl)
theorem dX2_undo_12 : decode cX2_undo 12 = .ok (.getfield 7, 3) := dk_180 0 7 (dk_at dksX2_undo_0 12 rfl rfl)
theorem dX2_undo_15 : decode cX2_undo 15 = .ok (.iconst 3, 1) := dk_6 (dk_at dksX2_undo_0 15 rfl rfl)
theorem dX2_undo_16 : decode cX2_undo 16 = .ok (.dup2, 1) := dk_92 (dk_at dksX2_undo_0 16 rfl rfl)
theorem dX2_undo_17 : decode cX2_undo 17 = .ok (.iaload, 1) := dk_46 (dk_at dksX2_undo_0 17 rfl rfl)
theorem dX2_undo_18 : decode cX2_undo 18 = .ok (.iconst 1, 1) := dk_4 (dk_at dksX2_undo_0 18 rfl rfl)
theorem dX2_undo_19 : decode cX2_undo 19 = .ok (.isub, 1) := dk_100 (dk_at dksX2_undo_0 19 rfl rfl)
theorem dX2_undo_20 : decode cX2_undo 20 = .ok (.iastore, 1) := dk_79 (dk_at dksX2_undo_0 20 rfl rfl)
theorem dX2_undo_21 : decode cX2_undo 21 = .ok (.bipush 86, 2) := dk_16 86 (dk_at dksX2_undo_0 21 rfl rfl)
theorem dX2_undo_23 : decode cX2_undo 23 = .ok (.bipush 42, 2) := dk_16 42 (dk_at dksX2_undo_1 0 rfl rfl)
theorem dX2_undo_25 : decode cX2_undo 25 = .ok (.aload_n 0, 1) := dk_42 (dk_at dksX2_undo_1 2 rfl rfl)
theorem dX2_undo_26 : decode cX2_undo 26 = .ok (.getfield 7, 3) := dk_180 0 7 (dk_at dksX2_undo_1 3 rfl rfl)
theorem dX2_undo_29 : decode cX2_undo 29 = .ok (.iconst 3, 1) := dk_6 (dk_at dksX2_undo_1 6 rfl rfl)
theorem dX2_undo_30 : decode cX2_undo 30 = .ok (.iaload, 1) := dk_46 (dk_at dksX2_undo_1 7 rfl rfl)
theorem dX2_undo_31 : decode cX2_undo 31 = .ok (.imul, 1) := dk_104 (dk_at dksX2_undo_1 8 rfl rfl)
theorem dX2_undo_32 : decode cX2_undo 32 = .ok (.iadd, 1) := dk_96 (dk_at dksX2_undo_1 9 rfl rfl)
theorem dX2_undo_33 : decode cX2_undo 33 = .ok (.istore_n 1, 1) := dk_60 (dk_at dksX2_undo_1 10 rfl rfl)
theorem dX2_undo_34 : decode cX2_undo 34 = .ok (.iconst 0, 1) := dk_3 (dk_at dksX2_undo_1 11 rfl rfl)
theorem dX2_undo_35 : decode cX2_undo 35 = .ok (.istore_n 2, 1) := dk_61 (dk_at dksX2_undo_1 12 rfl rfl)
theorem dX2_undo_36 : decode cX2_undo 36 = .ok (.iload_n 2, 1) := dk_28 (dk_at dksX2_undo_1 13 rfl rfl)
theorem dX2_undo_37 : decode cX2_undo 37 = .ok (.bipush 22, 2) := dk_16 22 (dk_at dksX2_undo_1 14 rfl rfl)
theorem dX2_undo_39 : decode cX2_undo 39 = .ok (.if_icmp .ge 25, 3) := dk_162 0 25 (dk_at dksX2_undo_1 16 rfl rfl)
theorem dX2_undo_42 : decode cX2_undo 42 = .ok (.aload_n 0, 1) := dk_42 (dk_at dksX2_undo_1 19 rfl rfl)
theorem dX2_undo_43 : decode cX2_undo 43 = .ok (.getfield 7, 3) := dk_180 0 7 (dk_at dksX2_undo_1 20 rfl rfl)
theorem dX2_undo_46 : decode cX2_undo 46 = .ok (.iconst 5, 1) := dk_8 (dk_at dksX2_undo_1 23 rfl rfl)
theorem dX2_undo_47 : decode cX2_undo 47 = .ok (.iload_n 2, 1) := dk_28 (dk_at dksX2_undo_2 0 rfl rfl)
theorem dX2_undo_48 : decode cX2_undo 48 = .ok (.iadd, 1) := dk_96 (dk_at dksX2_undo_2 1 rfl rfl)
theorem dX2_undo_49 : decode cX2_undo 49 = .ok (.aload_n 0, 1) := dk_42 (dk_at dksX2_undo_2 2 rfl rfl)
theorem dX2_undo_50 : decode cX2_undo 50 = .ok (.getfield 7, 3) := dk_180 0 7 (dk_at dksX2_undo_2 3 rfl rfl)
theorem dX2_undo_53 : decode cX2_undo 53 = .ok (.iload_n 1, 1) := dk_27 (dk_at dksX2_undo_2 6 rfl rfl)
theorem dX2_undo_54 : decode cX2_undo 54 = .ok (.iload_n 2, 1) := dk_28 (dk_at dksX2_undo_2 7 rfl rfl)
theorem dX2_undo_55 : decode cX2_undo 55 = .ok (.iadd, 1) := dk_96 (dk_at dksX2_undo_2 8 rfl rfl)
theorem dX2_undo_56 : decode cX2_undo 56 = .ok (.iaload, 1) := dk_46 (dk_at dksX2_undo_2 9 rfl rfl)
theorem dX2_undo_57 : decode cX2_undo 57 = .ok (.iastore, 1) := dk_79 (dk_at dksX2_undo_2 10 rfl rfl)
theorem dX2_undo_58 : decode cX2_undo 58 = .ok (.iinc 2 1, 3) := dk_132 2 1 (dk_at dksX2_undo_2 11 rfl rfl)
theorem dX2_undo_61 : decode cX2_undo 61 = .ok (.goto (-25), 3) := dk_167 255 231 (dk_at dksX2_undo_2 14 rfl rfl)
theorem dX2_undo_64 : decode cX2_undo 64 = .ok (.iconst 0, 1) := dk_3 (dk_at dksX2_undo_2 17 rfl rfl)
theorem dX2_undo_65 : decode cX2_undo 65 = .ok (.istore_n 2, 1) := dk_61 (dk_at dksX2_undo_2 18 rfl rfl)
theorem dX2_undo_66 : decode cX2_undo 66 = .ok (.iload_n 2, 1) := dk_28 (dk_at dksX2_undo_2 19 rfl rfl)
theorem dX2_undo_67 : decode cX2_undo 67 = .ok (.bipush 20, 2) := dk_16 20 (dk_at dksX2_undo_2 20 rfl rfl)
theorem dX2_undo_69 : decode cX2_undo 69 = .ok (.if_icmp .ge 30, 3) := dk_162 0 30 (dk_at dksX2_undo_3 0 rfl rfl)
theorem dX2_undo_72 : decode cX2_undo 72 = .ok (.aload_n 0, 1) := dk_42 (dk_at dksX2_undo_3 3 rfl rfl)
theorem dX2_undo_73 : decode cX2_undo 73 = .ok (.getfield 7, 3) := dk_180 0 7 (dk_at dksX2_undo_3 4 rfl rfl)
theorem dX2_undo_76 : decode cX2_undo 76 = .ok (.sipush 1346, 3) := dk_17 5 66 (dk_at dksX2_undo_3 7 rfl rfl)
theorem dX2_undo_79 : decode cX2_undo 79 = .ok (.iload_n 2, 1) := dk_28 (dk_at dksX2_undo_3 10 rfl rfl)
theorem dX2_undo_80 : decode cX2_undo 80 = .ok (.iadd, 1) := dk_96 (dk_at dksX2_undo_3 11 rfl rfl)
theorem dX2_undo_81 : decode cX2_undo 81 = .ok (.aload_n 0, 1) := dk_42 (dk_at dksX2_undo_3 12 rfl rfl)
theorem dX2_undo_82 : decode cX2_undo 82 = .ok (.getfield 7, 3) := dk_180 0 7 (dk_at dksX2_undo_3 13 rfl rfl)
theorem dX2_undo_85 : decode cX2_undo 85 = .ok (.iload_n 1, 1) := dk_27 (dk_at dksX2_undo_3 16 rfl rfl)
theorem dX2_undo_86 : decode cX2_undo 86 = .ok (.bipush 22, 2) := dk_16 22 (dk_at dksX2_undo_3 17 rfl rfl)
theorem dX2_undo_88 : decode cX2_undo 88 = .ok (.iadd, 1) := dk_96 (dk_at dksX2_undo_3 19 rfl rfl)
theorem dX2_undo_89 : decode cX2_undo 89 = .ok (.iload_n 2, 1) := dk_28 (dk_at dksX2_undo_3 20 rfl rfl)
theorem dX2_undo_90 : decode cX2_undo 90 = .ok (.iadd, 1) := dk_96 (dk_at dksX2_undo_3 21 rfl rfl)
theorem dX2_undo_91 : decode cX2_undo 91 = .ok (.iaload, 1) := dk_46 (dk_at dksX2_undo_3 22 rfl rfl)
theorem dX2_undo_92 : decode cX2_undo 92 = .ok (.iastore, 1) := dk_79 (dk_at dksX2_undo_3 23 rfl rfl)
theorem dX2_undo_93 : decode cX2_undo 93 = .ok (.iinc 2 1, 3) := dk_132 2 1 (dk_at dksX2_undo_4 0 rfl rfl)
theorem dX2_undo_96 : decode cX2_undo 96 = .ok (.goto (-30), 3) := dk_167 255 226 (dk_at dksX2_undo_4 3 rfl rfl)
theorem dX2_undo_99 : decode cX2_undo 99 = .ok (.aload_n 0, 1) := dk_42 (dk_at dksX2_undo_4 6 rfl rfl)
theorem dX2_undo_100 : decode cX2_undo 100 = .ok (.getfield 7, 3) := dk_180 0 7 (dk_at dksX2_undo_4 7 rfl rfl)
theorem dX2_undo_103 : decode cX2_undo 103 = .ok (.iconst 3, 1) := dk_6 (dk_at dksX2_undo_4 10 rfl rfl)
theorem dX2_undo_104 : decode cX2_undo 104 = .ok (.iaload, 1) := dk_46 (dk_at dksX2_undo_4 11 rfl rfl)
theorem dX2_undo_105 : decode cX2_undo 105 = .ok (.ireturn, 1) := dk_172 (dk_at dksX2_undo_4 12 rfl rfl)
abbrev cX2_say : ByteArray := prog_20_method_86_code
def yX2_say : MethodName := ⟨RX2, "say", "(I)Z"⟩
def dkwX2_say_1 : List UInt8 := [120, 128, 79, 4, 172]
abbrev dktX2_say_1 : List UInt8 := dkwX2_say_1 ++ []
def dkwX2_say_0 : List UInt8 := [42, 27, 182, 1, 90, 154, 0, 5, 3, 172, 42, 182, 1, 112, 42, 180, 0, 7, 16, 7, 92, 46, 4, 27]
abbrev dktX2_say_0 : List UInt8 := dkwX2_say_0 ++ dktX2_say_1
theorem dksX2_say_0 : cX2_say.data.toList.drop 0 = dktX2_say_0 := by decide +kernel
theorem dksX2_say_1 : cX2_say.data.toList.drop 24 = dktX2_say_1 := dk_seg dksX2_say_0 24 rfl rfl
theorem dX2_say_0 : decode cX2_say 0 = .ok (.aload_n 0, 1) := dk_42 (dk_at dksX2_say_0 0 rfl rfl)
theorem dX2_say_1 : decode cX2_say 1 = .ok (.iload_n 1, 1) := dk_27 (dk_at dksX2_say_0 1 rfl rfl)
theorem dX2_say_2 : decode cX2_say 2 = .ok (.invokevirtual 346, 3) := dk_182 1 90 (dk_at dksX2_say_0 2 rfl rfl)
theorem dX2_say_5 : decode cX2_say 5 = .ok (.ifCond .ne 5, 3) := dk_154 0 5 (dk_at dksX2_say_0 5 rfl rfl)
theorem dX2_say_8 : decode cX2_say 8 = .ok (.iconst 0, 1) := dk_3 (dk_at dksX2_say_0 8 rfl rfl)
theorem dX2_say_9 : decode cX2_say 9 = .ok (.ireturn, 1) := dk_172 (dk_at dksX2_say_0 9 rfl rfl)
theorem dX2_say_10 : decode cX2_say 10 = .ok (.aload_n 0, 1) := dk_42 (dk_at dksX2_say_0 10 rfl rfl)
theorem dX2_say_11 : decode cX2_say 11 = .ok (.invokevirtual 368, 3) := dk_182 1 112 (dk_at dksX2_say_0 11 rfl rfl)
theorem dX2_say_14 : decode cX2_say 14 = .ok (.aload_n 0, 1) := dk_42 (dk_at dksX2_say_0 14 rfl rfl)
theorem dX2_say_15 : decode cX2_say 15 = .ok (.getfield 7, 3) := dk_180 0 7 (dk_at dksX2_say_0 15 rfl rfl)
theorem dX2_say_18 : decode cX2_say 18 = .ok (.bipush 7, 2) := dk_16 7 (dk_at dksX2_say_0 18 rfl rfl)
theorem dX2_say_20 : decode cX2_say 20 = .ok (.dup2, 1) := dk_92 (dk_at dksX2_say_0 20 rfl rfl)
theorem dX2_say_21 : decode cX2_say 21 = .ok (.iaload, 1) := dk_46 (dk_at dksX2_say_0 21 rfl rfl)
theorem dX2_say_22 : decode cX2_say 22 = .ok (.iconst 1, 1) := dk_4 (dk_at dksX2_say_0 22 rfl rfl)
theorem dX2_say_23 : decode cX2_say 23 = .ok (.iload_n 1, 1) := dk_27 (dk_at dksX2_say_0 23 rfl rfl)
theorem dX2_say_24 : decode cX2_say 24 = .ok (.ishl, 1) := dk_120 (dk_at dksX2_say_1 0 rfl rfl)
theorem dX2_say_25 : decode cX2_say 25 = .ok (.ior, 1) := dk_128 (dk_at dksX2_say_1 1 rfl rfl)
theorem dX2_say_26 : decode cX2_say 26 = .ok (.iastore, 1) := dk_79 (dk_at dksX2_say_1 2 rfl rfl)
theorem dX2_say_27 : decode cX2_say 27 = .ok (.iconst 1, 1) := dk_4 (dk_at dksX2_say_1 3 rfl rfl)
theorem dX2_say_28 : decode cX2_say 28 = .ok (.ireturn, 1) := dk_172 (dk_at dksX2_say_1 4 rfl rfl)
abbrev cX2_canSay : ByteArray := prog_20_method_78_code
def yX2_canSay : MethodName := ⟨RX2, "canSay", "(I)Z"⟩
def dkwX2_canSay_2 : List UInt8 := [153, 0, 7, 4, 167, 0, 4, 3, 172]
abbrev dktX2_canSay_2 : List UInt8 := dkwX2_canSay_2 ++ []
def dkwX2_canSay_1 : List UInt8 := [180, 0, 7, 16, 9, 27, 96, 46, 154, 0, 22, 42, 42, 182, 1, 81, 4, 27, 120, 128, 182, 1, 84]
abbrev dktX2_canSay_1 : List UInt8 := dkwX2_canSay_1 ++ dktX2_canSay_2
def dkwX2_canSay_0 : List UInt8 := [42, 27, 182, 1, 78, 153, 0, 48, 42, 180, 0, 7, 16, 7, 46, 27, 184, 0, 87, 154, 0, 34, 42]
abbrev dktX2_canSay_0 : List UInt8 := dkwX2_canSay_0 ++ dktX2_canSay_1
theorem dksX2_canSay_0 : cX2_canSay.data.toList.drop 0 = dktX2_canSay_0 := by decide +kernel
theorem dksX2_canSay_1 : cX2_canSay.data.toList.drop 23 = dktX2_canSay_1 := dk_seg dksX2_canSay_0 23 rfl rfl
theorem dksX2_canSay_2 : cX2_canSay.data.toList.drop 46 = dktX2_canSay_2 := dk_seg dksX2_canSay_1 23 rfl rfl
theorem dX2_canSay_0 : decode cX2_canSay 0 = .ok (.aload_n 0, 1) := dk_42 (dk_at dksX2_canSay_0 0 rfl rfl)
theorem dX2_canSay_1 : decode cX2_canSay 1 = .ok (.iload_n 1, 1) := dk_27 (dk_at dksX2_canSay_0 1 rfl rfl)
theorem dX2_canSay_2 : decode cX2_canSay 2 = .ok (.invokevirtual 334, 3) := dk_182 1 78 (dk_at dksX2_canSay_0 2 rfl rfl)
theorem dX2_canSay_5 : decode cX2_canSay 5 = .ok (.ifCond .eq 48, 3) := dk_153 0 48 (dk_at dksX2_canSay_0 5 rfl rfl)
theorem dX2_canSay_8 : decode cX2_canSay 8 = .ok (.aload_n 0, 1) := dk_42 (dk_at dksX2_canSay_0 8 rfl rfl)
theorem dX2_canSay_9 : decode cX2_canSay 9 = .ok (.getfield 7, 3) := dk_180 0 7 (dk_at dksX2_canSay_0 9 rfl rfl)
theorem dX2_canSay_12 : decode cX2_canSay 12 = .ok (.bipush 7, 2) := dk_16 7 (dk_at dksX2_canSay_0 12 rfl rfl)
theorem dX2_canSay_14 : decode cX2_canSay 14 = .ok (.iaload, 1) := dk_46 (dk_at dksX2_canSay_0 14 rfl rfl)
theorem dX2_canSay_15 : decode cX2_canSay 15 = .ok (.iload_n 1, 1) := dk_27 (dk_at dksX2_canSay_0 15 rfl rfl)
theorem dX2_canSay_16 : decode cX2_canSay 16 = .ok (.invokestatic 87, 3) := dk_184 0 87 (dk_at dksX2_canSay_0 16 rfl rfl)
theorem dX2_canSay_19 : decode cX2_canSay 19 = .ok (.ifCond .ne 34, 3) := dk_154 0 34 (dk_at dksX2_canSay_0 19 rfl rfl)
theorem dX2_canSay_22 : decode cX2_canSay 22 = .ok (.aload_n 0, 1) := dk_42 (dk_at dksX2_canSay_0 22 rfl rfl)
theorem dX2_canSay_23 : decode cX2_canSay 23 = .ok (.getfield 7, 3) := dk_180 0 7 (dk_at dksX2_canSay_1 0 rfl rfl)
theorem dX2_canSay_26 : decode cX2_canSay 26 = .ok (.bipush 9, 2) := dk_16 9 (dk_at dksX2_canSay_1 3 rfl rfl)
theorem dX2_canSay_28 : decode cX2_canSay 28 = .ok (.iload_n 1, 1) := dk_27 (dk_at dksX2_canSay_1 5 rfl rfl)
theorem dX2_canSay_29 : decode cX2_canSay 29 = .ok (.iadd, 1) := dk_96 (dk_at dksX2_canSay_1 6 rfl rfl)
theorem dX2_canSay_30 : decode cX2_canSay 30 = .ok (.iaload, 1) := dk_46 (dk_at dksX2_canSay_1 7 rfl rfl)
theorem dX2_canSay_31 : decode cX2_canSay 31 = .ok (.ifCond .ne 22, 3) := dk_154 0 22 (dk_at dksX2_canSay_1 8 rfl rfl)
theorem dX2_canSay_34 : decode cX2_canSay 34 = .ok (.aload_n 0, 1) := dk_42 (dk_at dksX2_canSay_1 11 rfl rfl)
theorem dX2_canSay_35 : decode cX2_canSay 35 = .ok (.aload_n 0, 1) := dk_42 (dk_at dksX2_canSay_1 12 rfl rfl)
theorem dX2_canSay_36 : decode cX2_canSay 36 = .ok (.invokevirtual 337, 3) := dk_182 1 81 (dk_at dksX2_canSay_1 13 rfl rfl)
theorem dX2_canSay_39 : decode cX2_canSay 39 = .ok (.iconst 1, 1) := dk_4 (dk_at dksX2_canSay_1 16 rfl rfl)
theorem dX2_canSay_40 : decode cX2_canSay 40 = .ok (.iload_n 1, 1) := dk_27 (dk_at dksX2_canSay_1 17 rfl rfl)
theorem dX2_canSay_41 : decode cX2_canSay 41 = .ok (.ishl, 1) := dk_120 (dk_at dksX2_canSay_1 18 rfl rfl)
theorem dX2_canSay_42 : decode cX2_canSay 42 = .ok (.ior, 1) := dk_128 (dk_at dksX2_canSay_1 19 rfl rfl)
theorem dX2_canSay_43 : decode cX2_canSay 43 = .ok (.invokevirtual 340, 3) := dk_182 1 84 (dk_at dksX2_canSay_1 20 rfl rfl)
theorem dX2_canSay_46 : decode cX2_canSay 46 = .ok (.ifCond .eq 7, 3) := dk_153 0 7 (dk_at dksX2_canSay_2 0 rfl rfl)
theorem dX2_canSay_49 : decode cX2_canSay 49 = .ok (.iconst 1, 1) := dk_4 (dk_at dksX2_canSay_2 3 rfl rfl)
theorem dX2_canSay_50 : decode cX2_canSay 50 = .ok (.goto 4, 3) := dk_167 0 4 (dk_at dksX2_canSay_2 4 rfl rfl)
theorem dX2_canSay_53 : decode cX2_canSay 53 = .ok (.iconst 0, 1) := dk_3 (dk_at dksX2_canSay_2 7 rfl rfl)
theorem dX2_canSay_54 : decode cX2_canSay 54 = .ok (.ireturn, 1) := dk_172 (dk_at dksX2_canSay_2 8 rfl rfl)
abbrev cX2_isClaim : ByteArray := prog_20_method_11_code
def yX2_isClaim : MethodName := ⟨RX2, "isClaim", "(I)Z"⟩
def dkwX2_isClaim_0 : List UInt8 := [27, 3, 42, 182, 0, 79, 4, 100, 184, 0, 75, 172]
abbrev dktX2_isClaim_0 : List UInt8 := dkwX2_isClaim_0 ++ []
theorem dksX2_isClaim_0 : cX2_isClaim.data.toList.drop 0 = dktX2_isClaim_0 := by decide +kernel
theorem dX2_isClaim_0 : decode cX2_isClaim 0 = .ok (.iload_n 1, 1) := dk_27 (dk_at dksX2_isClaim_0 0 rfl rfl)
theorem dX2_isClaim_1 : decode cX2_isClaim 1 = .ok (.iconst 0, 1) := dk_3 (dk_at dksX2_isClaim_0 1 rfl rfl)
theorem dX2_isClaim_2 : decode cX2_isClaim 2 = .ok (.aload_n 0, 1) := dk_42 (dk_at dksX2_isClaim_0 2 rfl rfl)
theorem dX2_isClaim_3 : decode cX2_isClaim 3 = .ok (.invokevirtual 79, 3) := dk_182 0 79 (dk_at dksX2_isClaim_0 3 rfl rfl)
theorem dX2_isClaim_6 : decode cX2_isClaim 6 = .ok (.iconst 1, 1) := dk_4 (dk_at dksX2_isClaim_0 6 rfl rfl)
theorem dX2_isClaim_7 : decode cX2_isClaim 7 = .ok (.isub, 1) := dk_100 (dk_at dksX2_isClaim_0 7 rfl rfl)
theorem dX2_isClaim_8 : decode cX2_isClaim 8 = .ok (.invokestatic 75, 3) := dk_184 0 75 (dk_at dksX2_isClaim_0 8 rfl rfl)
theorem dX2_isClaim_11 : decode cX2_isClaim 11 = .ok (.ireturn, 1) := dk_172 (dk_at dksX2_isClaim_0 11 rfl rfl)
abbrev cX2_heldNow : ByteArray := prog_20_method_15_code
def yX2_heldNow : MethodName := ⟨RX2, "heldNow", "()I"⟩
def dkwX2_heldNow_0 : List UInt8 := [42, 180, 0, 7, 16, 7, 46, 42, 182, 0, 83, 126, 172]
abbrev dktX2_heldNow_0 : List UInt8 := dkwX2_heldNow_0 ++ []
theorem dksX2_heldNow_0 : cX2_heldNow.data.toList.drop 0 = dktX2_heldNow_0 := by decide +kernel
theorem dX2_heldNow_0 : decode cX2_heldNow 0 = .ok (.aload_n 0, 1) := dk_42 (dk_at dksX2_heldNow_0 0 rfl rfl)
theorem dX2_heldNow_1 : decode cX2_heldNow 1 = .ok (.getfield 7, 3) := dk_180 0 7 (dk_at dksX2_heldNow_0 1 rfl rfl)
theorem dX2_heldNow_4 : decode cX2_heldNow 4 = .ok (.bipush 7, 2) := dk_16 7 (dk_at dksX2_heldNow_0 4 rfl rfl)
theorem dX2_heldNow_6 : decode cX2_heldNow 6 = .ok (.iaload, 1) := dk_46 (dk_at dksX2_heldNow_0 6 rfl rfl)
theorem dX2_heldNow_7 : decode cX2_heldNow 7 = .ok (.aload_n 0, 1) := dk_42 (dk_at dksX2_heldNow_0 7 rfl rfl)
theorem dX2_heldNow_8 : decode cX2_heldNow 8 = .ok (.invokevirtual 83, 3) := dk_182 0 83 (dk_at dksX2_heldNow_0 8 rfl rfl)
theorem dX2_heldNow_11 : decode cX2_heldNow 11 = .ok (.iand, 1) := dk_126 (dk_at dksX2_heldNow_0 11 rfl rfl)
theorem dX2_heldNow_12 : decode cX2_heldNow 12 = .ok (.ireturn, 1) := dk_172 (dk_at dksX2_heldNow_0 12 rfl rfl)
abbrev cX2_every : ByteArray := prog_20_method_10_code
def yX2_every : MethodName := ⟨RX2, "every", "()I"⟩
def dkwX2_every_0 : List UInt8 := [4, 42, 182, 0, 79, 120, 4, 100, 172]
abbrev dktX2_every_0 : List UInt8 := dkwX2_every_0 ++ []
theorem dksX2_every_0 : cX2_every.data.toList.drop 0 = dktX2_every_0 := by decide +kernel
theorem dX2_every_0 : decode cX2_every 0 = .ok (.iconst 1, 1) := dk_4 (dk_at dksX2_every_0 0 rfl rfl)
theorem dX2_every_1 : decode cX2_every 1 = .ok (.aload_n 0, 1) := dk_42 (dk_at dksX2_every_0 1 rfl rfl)
theorem dX2_every_2 : decode cX2_every 2 = .ok (.invokevirtual 79, 3) := dk_182 0 79 (dk_at dksX2_every_0 2 rfl rfl)
theorem dX2_every_5 : decode cX2_every 5 = .ok (.ishl, 1) := dk_120 (dk_at dksX2_every_0 5 rfl rfl)
theorem dX2_every_6 : decode cX2_every 6 = .ok (.iconst 1, 1) := dk_4 (dk_at dksX2_every_0 6 rfl rfl)
theorem dX2_every_7 : decode cX2_every 7 = .ok (.isub, 1) := dk_100 (dk_at dksX2_every_0 7 rfl rfl)
theorem dX2_every_8 : decode cX2_every 8 = .ok (.ireturn, 1) := dk_172 (dk_at dksX2_every_0 8 rfl rfl)
abbrev cX2_worldsOf : ByteArray := prog_20_method_14_code
def yX2_worldsOf : MethodName := ⟨RX2, "worldsOf", "(I)I"⟩
def dkwX2_worldsOf_1 : List UInt8 := [182, 0, 91, 126, 61, 132, 3, 1, 167, 255, 229, 28, 172]
abbrev dktX2_worldsOf_1 : List UInt8 := dkwX2_worldsOf_1 ++ []
def dkwX2_worldsOf_0 : List UInt8 := [18, 86, 61, 3, 62, 29, 42, 182, 0, 79, 162, 0, 25, 27, 29, 184, 0, 87, 153, 0, 11, 28, 42, 29]
abbrev dktX2_worldsOf_0 : List UInt8 := dkwX2_worldsOf_0 ++ dktX2_worldsOf_1
theorem dksX2_worldsOf_0 : cX2_worldsOf.data.toList.drop 0 = dktX2_worldsOf_0 := by decide +kernel
theorem dksX2_worldsOf_1 : cX2_worldsOf.data.toList.drop 24 = dktX2_worldsOf_1 := dk_seg dksX2_worldsOf_0 24 rfl rfl
theorem dX2_worldsOf_0 : decode cX2_worldsOf 0 = .ok (.ldc 86, 2) := dk_18 86 (dk_at dksX2_worldsOf_0 0 rfl rfl)
theorem dX2_worldsOf_2 : decode cX2_worldsOf 2 = .ok (.istore_n 2, 1) := dk_61 (dk_at dksX2_worldsOf_0 2 rfl rfl)
theorem dX2_worldsOf_3 : decode cX2_worldsOf 3 = .ok (.iconst 0, 1) := dk_3 (dk_at dksX2_worldsOf_0 3 rfl rfl)
theorem dX2_worldsOf_4 : decode cX2_worldsOf 4 = .ok (.istore_n 3, 1) := dk_62 (dk_at dksX2_worldsOf_0 4 rfl rfl)
theorem dX2_worldsOf_5 : decode cX2_worldsOf 5 = .ok (.iload_n 3, 1) := dk_29 (dk_at dksX2_worldsOf_0 5 rfl rfl)
theorem dX2_worldsOf_6 : decode cX2_worldsOf 6 = .ok (.aload_n 0, 1) := dk_42 (dk_at dksX2_worldsOf_0 6 rfl rfl)
theorem dX2_worldsOf_7 : decode cX2_worldsOf 7 = .ok (.invokevirtual 79, 3) := dk_182 0 79 (dk_at dksX2_worldsOf_0 7 rfl rfl)
theorem dX2_worldsOf_10 : decode cX2_worldsOf 10 = .ok (.if_icmp .ge 25, 3) := dk_162 0 25 (dk_at dksX2_worldsOf_0 10 rfl rfl)
theorem dX2_worldsOf_13 : decode cX2_worldsOf 13 = .ok (.iload_n 1, 1) := dk_27 (dk_at dksX2_worldsOf_0 13 rfl rfl)
theorem dX2_worldsOf_14 : decode cX2_worldsOf 14 = .ok (.iload_n 3, 1) := dk_29 (dk_at dksX2_worldsOf_0 14 rfl rfl)
theorem dX2_worldsOf_15 : decode cX2_worldsOf 15 = .ok (.invokestatic 87, 3) := dk_184 0 87 (dk_at dksX2_worldsOf_0 15 rfl rfl)
theorem dX2_worldsOf_18 : decode cX2_worldsOf 18 = .ok (.ifCond .eq 11, 3) := dk_153 0 11 (dk_at dksX2_worldsOf_0 18 rfl rfl)
theorem dX2_worldsOf_21 : decode cX2_worldsOf 21 = .ok (.iload_n 2, 1) := dk_28 (dk_at dksX2_worldsOf_0 21 rfl rfl)
theorem dX2_worldsOf_22 : decode cX2_worldsOf 22 = .ok (.aload_n 0, 1) := dk_42 (dk_at dksX2_worldsOf_0 22 rfl rfl)
theorem dX2_worldsOf_23 : decode cX2_worldsOf 23 = .ok (.iload_n 3, 1) := dk_29 (dk_at dksX2_worldsOf_0 23 rfl rfl)
theorem dX2_worldsOf_24 : decode cX2_worldsOf 24 = .ok (.invokevirtual 91, 3) := dk_182 0 91 (dk_at dksX2_worldsOf_1 0 rfl rfl)
theorem dX2_worldsOf_27 : decode cX2_worldsOf 27 = .ok (.iand, 1) := dk_126 (dk_at dksX2_worldsOf_1 3 rfl rfl)
theorem dX2_worldsOf_28 : decode cX2_worldsOf 28 = .ok (.istore_n 2, 1) := dk_61 (dk_at dksX2_worldsOf_1 4 rfl rfl)
theorem dX2_worldsOf_29 : decode cX2_worldsOf 29 = .ok (.iinc 3 1, 3) := dk_132 3 1 (dk_at dksX2_worldsOf_1 5 rfl rfl)
theorem dX2_worldsOf_32 : decode cX2_worldsOf 32 = .ok (.goto (-27), 3) := dk_167 255 229 (dk_at dksX2_worldsOf_1 8 rfl rfl)
theorem dX2_worldsOf_35 : decode cX2_worldsOf 35 = .ok (.iload_n 2, 1) := dk_28 (dk_at dksX2_worldsOf_1 11 rfl rfl)
theorem dX2_worldsOf_36 : decode cX2_worldsOf 36 = .ok (.ireturn, 1) := dk_172 (dk_at dksX2_worldsOf_1 12 rfl rfl)
abbrev cX2_tableOf : ByteArray := prog_20_method_13_code
def yX2_tableOf : MethodName := ⟨RX2, "tableOf", "(I)I"⟩
def dkwX2_tableOf_0 : List UInt8 := [42, 180, 0, 16, 17, 2, 202, 42, 180, 0, 7, 5, 46, 104, 17, 2, 193, 96, 4, 96, 27, 96, 46, 172]
abbrev dktX2_tableOf_0 : List UInt8 := dkwX2_tableOf_0 ++ []
theorem dksX2_tableOf_0 : cX2_tableOf.data.toList.drop 0 = dktX2_tableOf_0 := by decide +kernel
theorem dX2_tableOf_0 : decode cX2_tableOf 0 = .ok (.aload_n 0, 1) := dk_42 (dk_at dksX2_tableOf_0 0 rfl rfl)
theorem dX2_tableOf_1 : decode cX2_tableOf 1 = .ok (.getfield 16, 3) := dk_180 0 16 (dk_at dksX2_tableOf_0 1 rfl rfl)
theorem dX2_tableOf_4 : decode cX2_tableOf 4 = .ok (.sipush 714, 3) := dk_17 2 202 (dk_at dksX2_tableOf_0 4 rfl rfl)
theorem dX2_tableOf_7 : decode cX2_tableOf 7 = .ok (.aload_n 0, 1) := dk_42 (dk_at dksX2_tableOf_0 7 rfl rfl)
theorem dX2_tableOf_8 : decode cX2_tableOf 8 = .ok (.getfield 7, 3) := dk_180 0 7 (dk_at dksX2_tableOf_0 8 rfl rfl)
theorem dX2_tableOf_11 : decode cX2_tableOf 11 = .ok (.iconst 2, 1) := dk_5 (dk_at dksX2_tableOf_0 11 rfl rfl)
theorem dX2_tableOf_12 : decode cX2_tableOf 12 = .ok (.iaload, 1) := dk_46 (dk_at dksX2_tableOf_0 12 rfl rfl)
theorem dX2_tableOf_13 : decode cX2_tableOf 13 = .ok (.imul, 1) := dk_104 (dk_at dksX2_tableOf_0 13 rfl rfl)
theorem dX2_tableOf_14 : decode cX2_tableOf 14 = .ok (.sipush 705, 3) := dk_17 2 193 (dk_at dksX2_tableOf_0 14 rfl rfl)
theorem dX2_tableOf_17 : decode cX2_tableOf 17 = .ok (.iadd, 1) := dk_96 (dk_at dksX2_tableOf_0 17 rfl rfl)
theorem dX2_tableOf_18 : decode cX2_tableOf 18 = .ok (.iconst 1, 1) := dk_4 (dk_at dksX2_tableOf_0 18 rfl rfl)
theorem dX2_tableOf_19 : decode cX2_tableOf 19 = .ok (.iadd, 1) := dk_96 (dk_at dksX2_tableOf_0 19 rfl rfl)
theorem dX2_tableOf_20 : decode cX2_tableOf 20 = .ok (.iload_n 1, 1) := dk_27 (dk_at dksX2_tableOf_0 20 rfl rfl)
theorem dX2_tableOf_21 : decode cX2_tableOf 21 = .ok (.iadd, 1) := dk_96 (dk_at dksX2_tableOf_0 21 rfl rfl)
theorem dX2_tableOf_22 : decode cX2_tableOf 22 = .ok (.iaload, 1) := dk_46 (dk_at dksX2_tableOf_0 22 rfl rfl)
theorem dX2_tableOf_23 : decode cX2_tableOf 23 = .ok (.ireturn, 1) := dk_172 (dk_at dksX2_tableOf_0 23 rfl rfl)
abbrev cX2_keep : ByteArray := prog_20_method_84_code
def yX2_keep : MethodName := ⟨RX2, "keep", "()V"⟩
def dkwX2_keep_6 : List UInt8 := [4, 96, 79, 177]
abbrev dktX2_keep_6 : List UInt8 := dkwX2_keep_6 ++ []
def dkwX2_keep_5 : List UInt8 := [42, 180, 0, 7, 17, 5, 66, 28, 96, 46, 79, 132, 2, 1, 167, 255, 226, 42, 180, 0, 7, 6, 92, 46]
abbrev dktX2_keep_5 : List UInt8 := dkwX2_keep_5 ++ dktX2_keep_6
def dkwX2_keep_4 : List UInt8 := [132, 2, 1, 167, 255, 231, 3, 61, 28, 16, 20, 162, 0, 30, 42, 180, 0, 7, 27, 16, 22, 96, 28, 96]
abbrev dktX2_keep_4 : List UInt8 := dkwX2_keep_4 ++ dktX2_keep_5
def dkwX2_keep_3 : List UInt8 := [28, 16, 22, 162, 0, 25, 42, 180, 0, 7, 27, 28, 96, 42, 180, 0, 7, 8, 28, 96, 46, 79]
abbrev dktX2_keep_3 : List UInt8 := dkwX2_keep_3 ++ dktX2_keep_4
def dkwX2_keep_2 : List UInt8 := [180, 0, 7, 6, 92, 46, 4, 100, 79, 16, 86, 16, 42, 42, 180, 0, 7, 6, 46, 104, 96, 60, 3, 61]
abbrev dktX2_keep_2 : List UInt8 := dkwX2_keep_2 ++ dktX2_keep_3
def dkwX2_keep_1 : List UInt8 := [16, 86, 27, 96, 42, 180, 0, 7, 17, 0, 128, 27, 96, 46, 79, 132, 1, 1, 167, 255, 227, 42]
abbrev dktX2_keep_1 : List UInt8 := dkwX2_keep_1 ++ dktX2_keep_2
def dkwX2_keep_0 : List UInt8 := [42, 180, 0, 7, 6, 46, 16, 30, 160, 0, 47, 3, 60, 27, 17, 4, 194, 162, 0, 28, 42, 180, 0, 7]
abbrev dktX2_keep_0 : List UInt8 := dkwX2_keep_0 ++ dktX2_keep_1
theorem dksX2_keep_0 : cX2_keep.data.toList.drop 0 = dktX2_keep_0 := by decide +kernel
theorem dksX2_keep_1 : cX2_keep.data.toList.drop 24 = dktX2_keep_1 := dk_seg dksX2_keep_0 24 rfl rfl
theorem dksX2_keep_2 : cX2_keep.data.toList.drop 46 = dktX2_keep_2 := dk_seg dksX2_keep_1 22 rfl rfl
theorem dksX2_keep_3 : cX2_keep.data.toList.drop 70 = dktX2_keep_3 := dk_seg dksX2_keep_2 24 rfl rfl
theorem dksX2_keep_4 : cX2_keep.data.toList.drop 92 = dktX2_keep_4 := dk_seg dksX2_keep_3 22 rfl rfl
theorem dksX2_keep_5 : cX2_keep.data.toList.drop 116 = dktX2_keep_5 := dk_seg dksX2_keep_4 24 rfl rfl
theorem dksX2_keep_6 : cX2_keep.data.toList.drop 140 = dktX2_keep_6 := dk_seg dksX2_keep_5 24 rfl rfl
theorem dX2_keep_0 : decode cX2_keep 0 = .ok (.aload_n 0, 1) := dk_42 (dk_at dksX2_keep_0 0 rfl rfl)
theorem dX2_keep_1 : decode cX2_keep 1 = .ok (.getfield 7, 3) := dk_180 0 7 (dk_at dksX2_keep_0 1 rfl rfl)
theorem dX2_keep_4 : decode cX2_keep 4 = .ok (.iconst 3, 1) := dk_6 (dk_at dksX2_keep_0 4 rfl rfl)
theorem dX2_keep_5 : decode cX2_keep 5 = .ok (.iaload, 1) := dk_46 (dk_at dksX2_keep_0 5 rfl rfl)
theorem dX2_keep_6 : decode cX2_keep 6 = .ok (.bipush 30, 2) := dk_16 30 (dk_at dksX2_keep_0 6 rfl rfl)
theorem dX2_keep_8 : decode cX2_keep 8 = .ok (.if_icmp .ne 47, 3) := dk_160 0 47 (dk_at dksX2_keep_0 8 rfl rfl)
theorem dX2_keep_11 : decode cX2_keep 11 = .ok (.iconst 0, 1) := dk_3 (dk_at dksX2_keep_0 11 rfl rfl)
theorem dX2_keep_12 : decode cX2_keep 12 = .ok (.istore_n 1, 1) := dk_60 (dk_at dksX2_keep_0 12 rfl rfl)
theorem dX2_keep_13 : decode cX2_keep 13 = .ok (.iload_n 1, 1) := dk_27 (dk_at dksX2_keep_0 13 rfl rfl)
theorem dX2_keep_14 : decode cX2_keep 14 = .ok (.sipush 1218, 3) := dk_17 4 194 (dk_at dksX2_keep_0 14 rfl rfl)
theorem dX2_keep_17 : decode cX2_keep 17 = .ok (.if_icmp .ge 28, 3) := dk_162 0 28 (dk_at dksX2_keep_0 17 rfl rfl)
theorem dX2_keep_20 : decode cX2_keep 20 = .ok (.aload_n 0, 1) := dk_42 (dk_at dksX2_keep_0 20 rfl rfl)
theorem dX2_keep_21 : decode cX2_keep 21 = .ok (.getfield 7, 3) := dk_180 0 7 (dk_at dksX2_keep_0 21 rfl rfl)
theorem dX2_keep_24 : decode cX2_keep 24 = .ok (.bipush 86, 2) := dk_16 86 (dk_at dksX2_keep_1 0 rfl rfl)
theorem dX2_keep_26 : decode cX2_keep 26 = .ok (.iload_n 1, 1) := dk_27 (dk_at dksX2_keep_1 2 rfl rfl)
theorem dX2_keep_27 : decode cX2_keep 27 = .ok (.iadd, 1) := dk_96 (dk_at dksX2_keep_1 3 rfl rfl)
theorem dX2_keep_28 : decode cX2_keep 28 = .ok (.aload_n 0, 1) := dk_42 (dk_at dksX2_keep_1 4 rfl rfl)
theorem dX2_keep_29 : decode cX2_keep 29 = .ok (.getfield 7, 3) := dk_180 0 7 (dk_at dksX2_keep_1 5 rfl rfl)
theorem dX2_keep_32 : decode cX2_keep 32 = .ok (.sipush 128, 3) := dk_17 0 128 (dk_at dksX2_keep_1 8 rfl rfl)
theorem dX2_keep_35 : decode cX2_keep 35 = .ok (.iload_n 1, 1) := dk_27 (dk_at dksX2_keep_1 11 rfl rfl)
theorem dX2_keep_36 : decode cX2_keep 36 = .ok (.iadd, 1) := dk_96 (dk_at dksX2_keep_1 12 rfl rfl)
theorem dX2_keep_37 : decode cX2_keep 37 = .ok (.iaload, 1) := dk_46 (dk_at dksX2_keep_1 13 rfl rfl)
theorem dX2_keep_38 : decode cX2_keep 38 = .ok (.iastore, 1) := dk_79 (dk_at dksX2_keep_1 14 rfl rfl)
theorem dX2_keep_39 : decode cX2_keep 39 = .ok (.iinc 1 1, 3) := dk_132 1 1 (dk_at dksX2_keep_1 15 rfl rfl)
theorem dX2_keep_42 : decode cX2_keep 42 = .ok (.goto (-29), 3) := dk_167 255 227 (dk_at dksX2_keep_1 18 rfl rfl)
theorem dX2_keep_45 : decode cX2_keep 45 = .ok (.aload_n 0, 1) := dk_42 (dk_at dksX2_keep_1 21 rfl rfl)
theorem dX2_keep_46 : decode cX2_keep 46 = .ok (.getfield 7, 3) := dk_180 0 7 (dk_at dksX2_keep_2 0 rfl rfl)
theorem dX2_keep_49 : decode cX2_keep 49 = .ok (.iconst 3, 1) := dk_6 (dk_at dksX2_keep_2 3 rfl rfl)
theorem dX2_keep_50 : decode cX2_keep 50 = .ok (.dup2, 1) := dk_92 (dk_at dksX2_keep_2 4 rfl rfl)
theorem dX2_keep_51 : decode cX2_keep 51 = .ok (.iaload, 1) := dk_46 (dk_at dksX2_keep_2 5 rfl rfl)
theorem dX2_keep_52 : decode cX2_keep 52 = .ok (.iconst 1, 1) := dk_4 (dk_at dksX2_keep_2 6 rfl rfl)
theorem dX2_keep_53 : decode cX2_keep 53 = .ok (.isub, 1) := dk_100 (dk_at dksX2_keep_2 7 rfl rfl)
theorem dX2_keep_54 : decode cX2_keep 54 = .ok (.iastore, 1) := dk_79 (dk_at dksX2_keep_2 8 rfl rfl)
theorem dX2_keep_55 : decode cX2_keep 55 = .ok (.bipush 86, 2) := dk_16 86 (dk_at dksX2_keep_2 9 rfl rfl)
theorem dX2_keep_57 : decode cX2_keep 57 = .ok (.bipush 42, 2) := dk_16 42 (dk_at dksX2_keep_2 11 rfl rfl)
theorem dX2_keep_59 : decode cX2_keep 59 = .ok (.aload_n 0, 1) := dk_42 (dk_at dksX2_keep_2 13 rfl rfl)
theorem dX2_keep_60 : decode cX2_keep 60 = .ok (.getfield 7, 3) := dk_180 0 7 (dk_at dksX2_keep_2 14 rfl rfl)
theorem dX2_keep_63 : decode cX2_keep 63 = .ok (.iconst 3, 1) := dk_6 (dk_at dksX2_keep_2 17 rfl rfl)
theorem dX2_keep_64 : decode cX2_keep 64 = .ok (.iaload, 1) := dk_46 (dk_at dksX2_keep_2 18 rfl rfl)
theorem dX2_keep_65 : decode cX2_keep 65 = .ok (.imul, 1) := dk_104 (dk_at dksX2_keep_2 19 rfl rfl)
theorem dX2_keep_66 : decode cX2_keep 66 = .ok (.iadd, 1) := dk_96 (dk_at dksX2_keep_2 20 rfl rfl)
theorem dX2_keep_67 : decode cX2_keep 67 = .ok (.istore_n 1, 1) := dk_60 (dk_at dksX2_keep_2 21 rfl rfl)
theorem dX2_keep_68 : decode cX2_keep 68 = .ok (.iconst 0, 1) := dk_3 (dk_at dksX2_keep_2 22 rfl rfl)
theorem dX2_keep_69 : decode cX2_keep 69 = .ok (.istore_n 2, 1) := dk_61 (dk_at dksX2_keep_2 23 rfl rfl)
theorem dX2_keep_70 : decode cX2_keep 70 = .ok (.iload_n 2, 1) := dk_28 (dk_at dksX2_keep_3 0 rfl rfl)
theorem dX2_keep_71 : decode cX2_keep 71 = .ok (.bipush 22, 2) := dk_16 22 (dk_at dksX2_keep_3 1 rfl rfl)
theorem dX2_keep_73 : decode cX2_keep 73 = .ok (.if_icmp .ge 25, 3) := dk_162 0 25 (dk_at dksX2_keep_3 3 rfl rfl)
theorem dX2_keep_76 : decode cX2_keep 76 = .ok (.aload_n 0, 1) := dk_42 (dk_at dksX2_keep_3 6 rfl rfl)
theorem dX2_keep_77 : decode cX2_keep 77 = .ok (.getfield 7, 3) := dk_180 0 7 (dk_at dksX2_keep_3 7 rfl rfl)
theorem dX2_keep_80 : decode cX2_keep 80 = .ok (.iload_n 1, 1) := dk_27 (dk_at dksX2_keep_3 10 rfl rfl)
theorem dX2_keep_81 : decode cX2_keep 81 = .ok (.iload_n 2, 1) := dk_28 (dk_at dksX2_keep_3 11 rfl rfl)
theorem dX2_keep_82 : decode cX2_keep 82 = .ok (.iadd, 1) := dk_96 (dk_at dksX2_keep_3 12 rfl rfl)
theorem dX2_keep_83 : decode cX2_keep 83 = .ok (.aload_n 0, 1) := dk_42 (dk_at dksX2_keep_3 13 rfl rfl)
theorem dX2_keep_84 : decode cX2_keep 84 = .ok (.getfield 7, 3) := dk_180 0 7 (dk_at dksX2_keep_3 14 rfl rfl)
theorem dX2_keep_87 : decode cX2_keep 87 = .ok (.iconst 5, 1) := dk_8 (dk_at dksX2_keep_3 17 rfl rfl)
theorem dX2_keep_88 : decode cX2_keep 88 = .ok (.iload_n 2, 1) := dk_28 (dk_at dksX2_keep_3 18 rfl rfl)
theorem dX2_keep_89 : decode cX2_keep 89 = .ok (.iadd, 1) := dk_96 (dk_at dksX2_keep_3 19 rfl rfl)
theorem dX2_keep_90 : decode cX2_keep 90 = .ok (.iaload, 1) := dk_46 (dk_at dksX2_keep_3 20 rfl rfl)
theorem dX2_keep_91 : decode cX2_keep 91 = .ok (.iastore, 1) := dk_79 (dk_at dksX2_keep_3 21 rfl rfl)
theorem dX2_keep_92 : decode cX2_keep 92 = .ok (.iinc 2 1, 3) := dk_132 2 1 (dk_at dksX2_keep_4 0 rfl rfl)
theorem dX2_keep_95 : decode cX2_keep 95 = .ok (.goto (-25), 3) := dk_167 255 231 (dk_at dksX2_keep_4 3 rfl rfl)
theorem dX2_keep_98 : decode cX2_keep 98 = .ok (.iconst 0, 1) := dk_3 (dk_at dksX2_keep_4 6 rfl rfl)
theorem dX2_keep_99 : decode cX2_keep 99 = .ok (.istore_n 2, 1) := dk_61 (dk_at dksX2_keep_4 7 rfl rfl)
theorem dX2_keep_100 : decode cX2_keep 100 = .ok (.iload_n 2, 1) := dk_28 (dk_at dksX2_keep_4 8 rfl rfl)
theorem dX2_keep_101 : decode cX2_keep 101 = .ok (.bipush 20, 2) := dk_16 20 (dk_at dksX2_keep_4 9 rfl rfl)
theorem dX2_keep_103 : decode cX2_keep 103 = .ok (.if_icmp .ge 30, 3) := dk_162 0 30 (dk_at dksX2_keep_4 11 rfl rfl)
theorem dX2_keep_106 : decode cX2_keep 106 = .ok (.aload_n 0, 1) := dk_42 (dk_at dksX2_keep_4 14 rfl rfl)
theorem dX2_keep_107 : decode cX2_keep 107 = .ok (.getfield 7, 3) := dk_180 0 7 (dk_at dksX2_keep_4 15 rfl rfl)
theorem dX2_keep_110 : decode cX2_keep 110 = .ok (.iload_n 1, 1) := dk_27 (dk_at dksX2_keep_4 18 rfl rfl)
theorem dX2_keep_111 : decode cX2_keep 111 = .ok (.bipush 22, 2) := dk_16 22 (dk_at dksX2_keep_4 19 rfl rfl)
theorem dX2_keep_113 : decode cX2_keep 113 = .ok (.iadd, 1) := dk_96 (dk_at dksX2_keep_4 21 rfl rfl)
theorem dX2_keep_114 : decode cX2_keep 114 = .ok (.iload_n 2, 1) := dk_28 (dk_at dksX2_keep_4 22 rfl rfl)
theorem dX2_keep_115 : decode cX2_keep 115 = .ok (.iadd, 1) := dk_96 (dk_at dksX2_keep_4 23 rfl rfl)
theorem dX2_keep_116 : decode cX2_keep 116 = .ok (.aload_n 0, 1) := dk_42 (dk_at dksX2_keep_5 0 rfl rfl)
theorem dX2_keep_117 : decode cX2_keep 117 = .ok (.getfield 7, 3) := dk_180 0 7 (dk_at dksX2_keep_5 1 rfl rfl)
theorem dX2_keep_120 : decode cX2_keep 120 = .ok (.sipush 1346, 3) := dk_17 5 66 (dk_at dksX2_keep_5 4 rfl rfl)
theorem dX2_keep_123 : decode cX2_keep 123 = .ok (.iload_n 2, 1) := dk_28 (dk_at dksX2_keep_5 7 rfl rfl)
theorem dX2_keep_124 : decode cX2_keep 124 = .ok (.iadd, 1) := dk_96 (dk_at dksX2_keep_5 8 rfl rfl)
theorem dX2_keep_125 : decode cX2_keep 125 = .ok (.iaload, 1) := dk_46 (dk_at dksX2_keep_5 9 rfl rfl)
theorem dX2_keep_126 : decode cX2_keep 126 = .ok (.iastore, 1) := dk_79 (dk_at dksX2_keep_5 10 rfl rfl)
theorem dX2_keep_127 : decode cX2_keep 127 = .ok (.iinc 2 1, 3) := dk_132 2 1 (dk_at dksX2_keep_5 11 rfl rfl)
theorem dX2_keep_130 : decode cX2_keep 130 = .ok (.goto (-30), 3) := dk_167 255 226 (dk_at dksX2_keep_5 14 rfl rfl)
theorem dX2_keep_133 : decode cX2_keep 133 = .ok (.aload_n 0, 1) := dk_42 (dk_at dksX2_keep_5 17 rfl rfl)
theorem dX2_keep_134 : decode cX2_keep 134 = .ok (.getfield 7, 3) := dk_180 0 7 (dk_at dksX2_keep_5 18 rfl rfl)
theorem dX2_keep_137 : decode cX2_keep 137 = .ok (.iconst 3, 1) := dk_6 (dk_at dksX2_keep_5 21 rfl rfl)
theorem dX2_keep_138 : decode cX2_keep 138 = .ok (.dup2, 1) := dk_92 (dk_at dksX2_keep_5 22 rfl rfl)
theorem dX2_keep_139 : decode cX2_keep 139 = .ok (.iaload, 1) := dk_46 (dk_at dksX2_keep_5 23 rfl rfl)
theorem dX2_keep_140 : decode cX2_keep 140 = .ok (.iconst 1, 1) := dk_4 (dk_at dksX2_keep_6 0 rfl rfl)
theorem dX2_keep_141 : decode cX2_keep 141 = .ok (.iadd, 1) := dk_96 (dk_at dksX2_keep_6 1 rfl rfl)
theorem dX2_keep_142 : decode cX2_keep 142 = .ok (.iastore, 1) := dk_79 (dk_at dksX2_keep_6 2 rfl rfl)
theorem dX2_keep_143 : decode cX2_keep 143 = .ok (.return_, 1) := dk_177 (dk_at dksX2_keep_6 3 rfl rfl)
abbrev cX2_retract : ByteArray := prog_20_method_87_code
def yX2_retract : MethodName := ⟨RX2, "retract", "(I)Z"⟩
def dkwX2_retract_1 : List UInt8 := [120, 2, 130, 126, 79, 4, 172]
abbrev dktX2_retract_1 : List UInt8 := dkwX2_retract_1 ++ []
def dkwX2_retract_0 : List UInt8 := [42, 27, 182, 1, 115, 154, 0, 5, 3, 172, 42, 182, 1, 112, 42, 180, 0, 7, 16, 7, 92, 46, 4, 27]
abbrev dktX2_retract_0 : List UInt8 := dkwX2_retract_0 ++ dktX2_retract_1
theorem dksX2_retract_0 : cX2_retract.data.toList.drop 0 = dktX2_retract_0 := by decide +kernel
theorem dksX2_retract_1 : cX2_retract.data.toList.drop 24 = dktX2_retract_1 := dk_seg dksX2_retract_0 24 rfl rfl
theorem dX2_retract_0 : decode cX2_retract 0 = .ok (.aload_n 0, 1) := dk_42 (dk_at dksX2_retract_0 0 rfl rfl)
theorem dX2_retract_1 : decode cX2_retract 1 = .ok (.iload_n 1, 1) := dk_27 (dk_at dksX2_retract_0 1 rfl rfl)
theorem dX2_retract_2 : decode cX2_retract 2 = .ok (.invokevirtual 371, 3) := dk_182 1 115 (dk_at dksX2_retract_0 2 rfl rfl)
theorem dX2_retract_5 : decode cX2_retract 5 = .ok (.ifCond .ne 5, 3) := dk_154 0 5 (dk_at dksX2_retract_0 5 rfl rfl)
theorem dX2_retract_8 : decode cX2_retract 8 = .ok (.iconst 0, 1) := dk_3 (dk_at dksX2_retract_0 8 rfl rfl)
theorem dX2_retract_9 : decode cX2_retract 9 = .ok (.ireturn, 1) := dk_172 (dk_at dksX2_retract_0 9 rfl rfl)
theorem dX2_retract_10 : decode cX2_retract 10 = .ok (.aload_n 0, 1) := dk_42 (dk_at dksX2_retract_0 10 rfl rfl)
theorem dX2_retract_11 : decode cX2_retract 11 = .ok (.invokevirtual 368, 3) := dk_182 1 112 (dk_at dksX2_retract_0 11 rfl rfl)
theorem dX2_retract_14 : decode cX2_retract 14 = .ok (.aload_n 0, 1) := dk_42 (dk_at dksX2_retract_0 14 rfl rfl)
theorem dX2_retract_15 : decode cX2_retract 15 = .ok (.getfield 7, 3) := dk_180 0 7 (dk_at dksX2_retract_0 15 rfl rfl)
theorem dX2_retract_18 : decode cX2_retract 18 = .ok (.bipush 7, 2) := dk_16 7 (dk_at dksX2_retract_0 18 rfl rfl)
theorem dX2_retract_20 : decode cX2_retract 20 = .ok (.dup2, 1) := dk_92 (dk_at dksX2_retract_0 20 rfl rfl)
theorem dX2_retract_21 : decode cX2_retract 21 = .ok (.iaload, 1) := dk_46 (dk_at dksX2_retract_0 21 rfl rfl)
theorem dX2_retract_22 : decode cX2_retract 22 = .ok (.iconst 1, 1) := dk_4 (dk_at dksX2_retract_0 22 rfl rfl)
theorem dX2_retract_23 : decode cX2_retract 23 = .ok (.iload_n 1, 1) := dk_27 (dk_at dksX2_retract_0 23 rfl rfl)
theorem dX2_retract_24 : decode cX2_retract 24 = .ok (.ishl, 1) := dk_120 (dk_at dksX2_retract_1 0 rfl rfl)
theorem dX2_retract_25 : decode cX2_retract 25 = .ok (.iconst (-1), 1) := dk_2 (dk_at dksX2_retract_1 1 rfl rfl)
theorem dX2_retract_26 : decode cX2_retract 26 = .ok (.ixor, 1) := dk_130 (dk_at dksX2_retract_1 2 rfl rfl)
theorem dX2_retract_27 : decode cX2_retract 27 = .ok (.iand, 1) := dk_126 (dk_at dksX2_retract_1 3 rfl rfl)
theorem dX2_retract_28 : decode cX2_retract 28 = .ok (.iastore, 1) := dk_79 (dk_at dksX2_retract_1 4 rfl rfl)
theorem dX2_retract_29 : decode cX2_retract 29 = .ok (.iconst 1, 1) := dk_4 (dk_at dksX2_retract_1 5 rfl rfl)
theorem dX2_retract_30 : decode cX2_retract 30 = .ok (.ireturn, 1) := dk_172 (dk_at dksX2_retract_1 6 rfl rfl)
abbrev cX2_canRetract : ByteArray := prog_20_method_79_code
def yX2_canRetract : MethodName := ⟨RX2, "canRetract", "(I)Z"⟩
def dkwX2_canRetract_1 : List UInt8 := [167, 0, 4, 3, 172]
abbrev dktX2_canRetract_1 : List UInt8 := dkwX2_canRetract_1 ++ []
def dkwX2_canRetract_0 : List UInt8 := [42, 27, 182, 1, 78, 153, 0, 21, 42, 180, 0, 7, 16, 7, 46, 27, 184, 0, 87, 153, 0, 7, 4]
abbrev dktX2_canRetract_0 : List UInt8 := dkwX2_canRetract_0 ++ dktX2_canRetract_1
theorem dksX2_canRetract_0 : cX2_canRetract.data.toList.drop 0 = dktX2_canRetract_0 := by decide +kernel
theorem dksX2_canRetract_1 : cX2_canRetract.data.toList.drop 23 = dktX2_canRetract_1 := dk_seg dksX2_canRetract_0 23 rfl rfl
theorem dX2_canRetract_0 : decode cX2_canRetract 0 = .ok (.aload_n 0, 1) := dk_42 (dk_at dksX2_canRetract_0 0 rfl rfl)
theorem dX2_canRetract_1 : decode cX2_canRetract 1 = .ok (.iload_n 1, 1) := dk_27 (dk_at dksX2_canRetract_0 1 rfl rfl)
theorem dX2_canRetract_2 : decode cX2_canRetract 2 = .ok (.invokevirtual 334, 3) := dk_182 1 78 (dk_at dksX2_canRetract_0 2 rfl rfl)
theorem dX2_canRetract_5 : decode cX2_canRetract 5 = .ok (.ifCond .eq 21, 3) := dk_153 0 21 (dk_at dksX2_canRetract_0 5 rfl rfl)
theorem dX2_canRetract_8 : decode cX2_canRetract 8 = .ok (.aload_n 0, 1) := dk_42 (dk_at dksX2_canRetract_0 8 rfl rfl)
theorem dX2_canRetract_9 : decode cX2_canRetract 9 = .ok (.getfield 7, 3) := dk_180 0 7 (dk_at dksX2_canRetract_0 9 rfl rfl)
theorem dX2_canRetract_12 : decode cX2_canRetract 12 = .ok (.bipush 7, 2) := dk_16 7 (dk_at dksX2_canRetract_0 12 rfl rfl)
theorem dX2_canRetract_14 : decode cX2_canRetract 14 = .ok (.iaload, 1) := dk_46 (dk_at dksX2_canRetract_0 14 rfl rfl)
theorem dX2_canRetract_15 : decode cX2_canRetract 15 = .ok (.iload_n 1, 1) := dk_27 (dk_at dksX2_canRetract_0 15 rfl rfl)
theorem dX2_canRetract_16 : decode cX2_canRetract 16 = .ok (.invokestatic 87, 3) := dk_184 0 87 (dk_at dksX2_canRetract_0 16 rfl rfl)
theorem dX2_canRetract_19 : decode cX2_canRetract 19 = .ok (.ifCond .eq 7, 3) := dk_153 0 7 (dk_at dksX2_canRetract_0 19 rfl rfl)
theorem dX2_canRetract_22 : decode cX2_canRetract 22 = .ok (.iconst 1, 1) := dk_4 (dk_at dksX2_canRetract_0 22 rfl rfl)
theorem dX2_canRetract_23 : decode cX2_canRetract 23 = .ok (.goto 4, 3) := dk_167 0 4 (dk_at dksX2_canRetract_1 0 rfl rfl)
theorem dX2_canRetract_26 : decode cX2_canRetract 26 = .ok (.iconst 0, 1) := dk_3 (dk_at dksX2_canRetract_1 3 rfl rfl)
theorem dX2_canRetract_27 : decode cX2_canRetract 27 = .ok (.ireturn, 1) := dk_172 (dk_at dksX2_canRetract_1 4 rfl rfl)
abbrev cX2_pardon : ByteArray := prog_20_method_88_code
def yX2_pardon : MethodName := ⟨RX2, "pardon", "(I)Z"⟩
def dkwX2_pardon_1 : List UInt8 := [4, 172]
abbrev dktX2_pardon_1 : List UInt8 := dkwX2_pardon_1 ++ []
def dkwX2_pardon_0 : List UInt8 := [42, 27, 182, 1, 118, 154, 0, 5, 3, 172, 42, 182, 1, 112, 42, 180, 0, 7, 16, 9, 27, 96, 3, 79]
abbrev dktX2_pardon_0 : List UInt8 := dkwX2_pardon_0 ++ dktX2_pardon_1
theorem dksX2_pardon_0 : cX2_pardon.data.toList.drop 0 = dktX2_pardon_0 := by decide +kernel
theorem dksX2_pardon_1 : cX2_pardon.data.toList.drop 24 = dktX2_pardon_1 := dk_seg dksX2_pardon_0 24 rfl rfl
theorem dX2_pardon_0 : decode cX2_pardon 0 = .ok (.aload_n 0, 1) := dk_42 (dk_at dksX2_pardon_0 0 rfl rfl)
theorem dX2_pardon_1 : decode cX2_pardon 1 = .ok (.iload_n 1, 1) := dk_27 (dk_at dksX2_pardon_0 1 rfl rfl)
theorem dX2_pardon_2 : decode cX2_pardon 2 = .ok (.invokevirtual 374, 3) := dk_182 1 118 (dk_at dksX2_pardon_0 2 rfl rfl)
theorem dX2_pardon_5 : decode cX2_pardon 5 = .ok (.ifCond .ne 5, 3) := dk_154 0 5 (dk_at dksX2_pardon_0 5 rfl rfl)
theorem dX2_pardon_8 : decode cX2_pardon 8 = .ok (.iconst 0, 1) := dk_3 (dk_at dksX2_pardon_0 8 rfl rfl)
theorem dX2_pardon_9 : decode cX2_pardon 9 = .ok (.ireturn, 1) := dk_172 (dk_at dksX2_pardon_0 9 rfl rfl)
theorem dX2_pardon_10 : decode cX2_pardon 10 = .ok (.aload_n 0, 1) := dk_42 (dk_at dksX2_pardon_0 10 rfl rfl)
theorem dX2_pardon_11 : decode cX2_pardon 11 = .ok (.invokevirtual 368, 3) := dk_182 1 112 (dk_at dksX2_pardon_0 11 rfl rfl)
theorem dX2_pardon_14 : decode cX2_pardon 14 = .ok (.aload_n 0, 1) := dk_42 (dk_at dksX2_pardon_0 14 rfl rfl)
theorem dX2_pardon_15 : decode cX2_pardon 15 = .ok (.getfield 7, 3) := dk_180 0 7 (dk_at dksX2_pardon_0 15 rfl rfl)
theorem dX2_pardon_18 : decode cX2_pardon 18 = .ok (.bipush 9, 2) := dk_16 9 (dk_at dksX2_pardon_0 18 rfl rfl)
theorem dX2_pardon_20 : decode cX2_pardon 20 = .ok (.iload_n 1, 1) := dk_27 (dk_at dksX2_pardon_0 20 rfl rfl)
theorem dX2_pardon_21 : decode cX2_pardon 21 = .ok (.iadd, 1) := dk_96 (dk_at dksX2_pardon_0 21 rfl rfl)
theorem dX2_pardon_22 : decode cX2_pardon 22 = .ok (.iconst 0, 1) := dk_3 (dk_at dksX2_pardon_0 22 rfl rfl)
theorem dX2_pardon_23 : decode cX2_pardon 23 = .ok (.iastore, 1) := dk_79 (dk_at dksX2_pardon_0 23 rfl rfl)
theorem dX2_pardon_24 : decode cX2_pardon 24 = .ok (.iconst 1, 1) := dk_4 (dk_at dksX2_pardon_1 0 rfl rfl)
theorem dX2_pardon_25 : decode cX2_pardon 25 = .ok (.ireturn, 1) := dk_172 (dk_at dksX2_pardon_1 1 rfl rfl)
abbrev cX2_canPardon : ByteArray := prog_20_method_80_code
def yX2_canPardon : MethodName := ⟨RX2, "canPardon", "(I)Z"⟩
def dkwX2_canPardon_1 : List UInt8 := [3, 172]
abbrev dktX2_canPardon_1 : List UInt8 := dkwX2_canPardon_1 ++ []
def dkwX2_canPardon_0 : List UInt8 := [42, 27, 182, 1, 78, 153, 0, 19, 42, 180, 0, 7, 16, 9, 27, 96, 46, 153, 0, 7, 4, 167, 0, 4]
abbrev dktX2_canPardon_0 : List UInt8 := dkwX2_canPardon_0 ++ dktX2_canPardon_1
theorem dksX2_canPardon_0 : cX2_canPardon.data.toList.drop 0 = dktX2_canPardon_0 := by decide +kernel
theorem dksX2_canPardon_1 : cX2_canPardon.data.toList.drop 24 = dktX2_canPardon_1 := dk_seg dksX2_canPardon_0 24 rfl rfl
theorem dX2_canPardon_0 : decode cX2_canPardon 0 = .ok (.aload_n 0, 1) := dk_42 (dk_at dksX2_canPardon_0 0 rfl rfl)
theorem dX2_canPardon_1 : decode cX2_canPardon 1 = .ok (.iload_n 1, 1) := dk_27 (dk_at dksX2_canPardon_0 1 rfl rfl)
theorem dX2_canPardon_2 : decode cX2_canPardon 2 = .ok (.invokevirtual 334, 3) := dk_182 1 78 (dk_at dksX2_canPardon_0 2 rfl rfl)
theorem dX2_canPardon_5 : decode cX2_canPardon 5 = .ok (.ifCond .eq 19, 3) := dk_153 0 19 (dk_at dksX2_canPardon_0 5 rfl rfl)
theorem dX2_canPardon_8 : decode cX2_canPardon 8 = .ok (.aload_n 0, 1) := dk_42 (dk_at dksX2_canPardon_0 8 rfl rfl)
theorem dX2_canPardon_9 : decode cX2_canPardon 9 = .ok (.getfield 7, 3) := dk_180 0 7 (dk_at dksX2_canPardon_0 9 rfl rfl)
theorem dX2_canPardon_12 : decode cX2_canPardon 12 = .ok (.bipush 9, 2) := dk_16 9 (dk_at dksX2_canPardon_0 12 rfl rfl)
theorem dX2_canPardon_14 : decode cX2_canPardon 14 = .ok (.iload_n 1, 1) := dk_27 (dk_at dksX2_canPardon_0 14 rfl rfl)
theorem dX2_canPardon_15 : decode cX2_canPardon 15 = .ok (.iadd, 1) := dk_96 (dk_at dksX2_canPardon_0 15 rfl rfl)
theorem dX2_canPardon_16 : decode cX2_canPardon 16 = .ok (.iaload, 1) := dk_46 (dk_at dksX2_canPardon_0 16 rfl rfl)
theorem dX2_canPardon_17 : decode cX2_canPardon 17 = .ok (.ifCond .eq 7, 3) := dk_153 0 7 (dk_at dksX2_canPardon_0 17 rfl rfl)
theorem dX2_canPardon_20 : decode cX2_canPardon 20 = .ok (.iconst 1, 1) := dk_4 (dk_at dksX2_canPardon_0 20 rfl rfl)
theorem dX2_canPardon_21 : decode cX2_canPardon 21 = .ok (.goto 4, 3) := dk_167 0 4 (dk_at dksX2_canPardon_0 21 rfl rfl)
theorem dX2_canPardon_24 : decode cX2_canPardon 24 = .ok (.iconst 0, 1) := dk_3 (dk_at dksX2_canPardon_1 0 rfl rfl)
theorem dX2_canPardon_25 : decode cX2_canPardon 25 = .ok (.ireturn, 1) := dk_172 (dk_at dksX2_canPardon_1 1 rfl rfl)
abbrev cX2_spring : ByteArray := prog_20_method_90_code
def yX2_spring : MethodName := ⟨RX2, "spring", "(I)I"⟩
def dkwX2_spring_1 : List UInt8 := [42, 27, 182, 1, 124, 153, 0, 10, 42, 180, 1, 99, 167, 0, 4, 2, 172]
abbrev dktX2_spring_1 : List UInt8 := dkwX2_spring_1 ++ []
def dkwX2_spring_0 : List UInt8 := [27, 4, 16, 60, 184, 0, 75, 153, 0, 32, 42, 180, 0, 7, 8, 46, 27, 96, 17, 39, 15, 163, 0, 18]
abbrev dktX2_spring_0 : List UInt8 := dkwX2_spring_0 ++ dktX2_spring_1
theorem dksX2_spring_0 : cX2_spring.data.toList.drop 0 = dktX2_spring_0 := by decide +kernel
theorem dksX2_spring_1 : cX2_spring.data.toList.drop 24 = dktX2_spring_1 := dk_seg dksX2_spring_0 24 rfl rfl
theorem dX2_spring_0 : decode cX2_spring 0 = .ok (.iload_n 1, 1) := dk_27 (dk_at dksX2_spring_0 0 rfl rfl)
theorem dX2_spring_1 : decode cX2_spring 1 = .ok (.iconst 1, 1) := dk_4 (dk_at dksX2_spring_0 1 rfl rfl)
theorem dX2_spring_2 : decode cX2_spring 2 = .ok (.bipush 60, 2) := dk_16 60 (dk_at dksX2_spring_0 2 rfl rfl)
theorem dX2_spring_4 : decode cX2_spring 4 = .ok (.invokestatic 75, 3) := dk_184 0 75 (dk_at dksX2_spring_0 4 rfl rfl)
theorem dX2_spring_7 : decode cX2_spring 7 = .ok (.ifCond .eq 32, 3) := dk_153 0 32 (dk_at dksX2_spring_0 7 rfl rfl)
theorem dX2_spring_10 : decode cX2_spring 10 = .ok (.aload_n 0, 1) := dk_42 (dk_at dksX2_spring_0 10 rfl rfl)
theorem dX2_spring_11 : decode cX2_spring 11 = .ok (.getfield 7, 3) := dk_180 0 7 (dk_at dksX2_spring_0 11 rfl rfl)
theorem dX2_spring_14 : decode cX2_spring 14 = .ok (.iconst 5, 1) := dk_8 (dk_at dksX2_spring_0 14 rfl rfl)
theorem dX2_spring_15 : decode cX2_spring 15 = .ok (.iaload, 1) := dk_46 (dk_at dksX2_spring_0 15 rfl rfl)
theorem dX2_spring_16 : decode cX2_spring 16 = .ok (.iload_n 1, 1) := dk_27 (dk_at dksX2_spring_0 16 rfl rfl)
theorem dX2_spring_17 : decode cX2_spring 17 = .ok (.iadd, 1) := dk_96 (dk_at dksX2_spring_0 17 rfl rfl)
theorem dX2_spring_18 : decode cX2_spring 18 = .ok (.sipush 9999, 3) := dk_17 39 15 (dk_at dksX2_spring_0 18 rfl rfl)
theorem dX2_spring_21 : decode cX2_spring 21 = .ok (.if_icmp .gt 18, 3) := dk_163 0 18 (dk_at dksX2_spring_0 21 rfl rfl)
theorem dX2_spring_24 : decode cX2_spring 24 = .ok (.aload_n 0, 1) := dk_42 (dk_at dksX2_spring_1 0 rfl rfl)
theorem dX2_spring_25 : decode cX2_spring 25 = .ok (.iload_n 1, 1) := dk_27 (dk_at dksX2_spring_1 1 rfl rfl)
theorem dX2_spring_26 : decode cX2_spring 26 = .ok (.invokevirtual 380, 3) := dk_182 1 124 (dk_at dksX2_spring_1 2 rfl rfl)
theorem dX2_spring_29 : decode cX2_spring 29 = .ok (.ifCond .eq 10, 3) := dk_153 0 10 (dk_at dksX2_spring_1 5 rfl rfl)
theorem dX2_spring_32 : decode cX2_spring 32 = .ok (.aload_n 0, 1) := dk_42 (dk_at dksX2_spring_1 8 rfl rfl)
theorem dX2_spring_33 : decode cX2_spring 33 = .ok (.getfield 355, 3) := dk_180 1 99 (dk_at dksX2_spring_1 9 rfl rfl)
theorem dX2_spring_36 : decode cX2_spring 36 = .ok (.goto 4, 3) := dk_167 0 4 (dk_at dksX2_spring_1 12 rfl rfl)
theorem dX2_spring_39 : decode cX2_spring 39 = .ok (.iconst (-1), 1) := dk_2 (dk_at dksX2_spring_1 15 rfl rfl)
theorem dX2_spring_40 : decode cX2_spring 40 = .ok (.ireturn, 1) := dk_172 (dk_at dksX2_spring_1 16 rfl rfl)
abbrev cX2_arePassed : ByteArray := prog_20_method_89_code
def yX2_arePassed : MethodName := ⟨RX2, "arePassed", "(I)Z"⟩
def dkwX2_arePassed_1 : List UInt8 := [3, 172, 42, 182, 1, 112, 42, 182, 1, 121, 132, 2, 1, 167, 255, 226, 4, 172]
abbrev dktX2_arePassed_1 : List UInt8 := dkwX2_arePassed_1 ++ []
def dkwX2_arePassed_0 : List UInt8 := [42, 3, 181, 1, 99, 3, 61, 28, 27, 162, 0, 31, 42, 180, 0, 7, 8, 46, 17, 39, 15, 160, 0, 5]
abbrev dktX2_arePassed_0 : List UInt8 := dkwX2_arePassed_0 ++ dktX2_arePassed_1
theorem dksX2_arePassed_0 : cX2_arePassed.data.toList.drop 0 = dktX2_arePassed_0 := by decide +kernel
theorem dksX2_arePassed_1 : cX2_arePassed.data.toList.drop 24 = dktX2_arePassed_1 := dk_seg dksX2_arePassed_0 24 rfl rfl
theorem dX2_arePassed_0 : decode cX2_arePassed 0 = .ok (.aload_n 0, 1) := dk_42 (dk_at dksX2_arePassed_0 0 rfl rfl)
theorem dX2_arePassed_1 : decode cX2_arePassed 1 = .ok (.iconst 0, 1) := dk_3 (dk_at dksX2_arePassed_0 1 rfl rfl)
theorem dX2_arePassed_2 : decode cX2_arePassed 2 = .ok (.putfield 355, 3) := dk_181 1 99 (dk_at dksX2_arePassed_0 2 rfl rfl)
theorem dX2_arePassed_5 : decode cX2_arePassed 5 = .ok (.iconst 0, 1) := dk_3 (dk_at dksX2_arePassed_0 5 rfl rfl)
theorem dX2_arePassed_6 : decode cX2_arePassed 6 = .ok (.istore_n 2, 1) := dk_61 (dk_at dksX2_arePassed_0 6 rfl rfl)
theorem dX2_arePassed_7 : decode cX2_arePassed 7 = .ok (.iload_n 2, 1) := dk_28 (dk_at dksX2_arePassed_0 7 rfl rfl)
theorem dX2_arePassed_8 : decode cX2_arePassed 8 = .ok (.iload_n 1, 1) := dk_27 (dk_at dksX2_arePassed_0 8 rfl rfl)
theorem dX2_arePassed_9 : decode cX2_arePassed 9 = .ok (.if_icmp .ge 31, 3) := dk_162 0 31 (dk_at dksX2_arePassed_0 9 rfl rfl)
theorem dX2_arePassed_12 : decode cX2_arePassed 12 = .ok (.aload_n 0, 1) := dk_42 (dk_at dksX2_arePassed_0 12 rfl rfl)
theorem dX2_arePassed_13 : decode cX2_arePassed 13 = .ok (.getfield 7, 3) := dk_180 0 7 (dk_at dksX2_arePassed_0 13 rfl rfl)
theorem dX2_arePassed_16 : decode cX2_arePassed 16 = .ok (.iconst 5, 1) := dk_8 (dk_at dksX2_arePassed_0 16 rfl rfl)
theorem dX2_arePassed_17 : decode cX2_arePassed 17 = .ok (.iaload, 1) := dk_46 (dk_at dksX2_arePassed_0 17 rfl rfl)
theorem dX2_arePassed_18 : decode cX2_arePassed 18 = .ok (.sipush 9999, 3) := dk_17 39 15 (dk_at dksX2_arePassed_0 18 rfl rfl)
theorem dX2_arePassed_21 : decode cX2_arePassed 21 = .ok (.if_icmp .ne 5, 3) := dk_160 0 5 (dk_at dksX2_arePassed_0 21 rfl rfl)
theorem dX2_arePassed_24 : decode cX2_arePassed 24 = .ok (.iconst 0, 1) := dk_3 (dk_at dksX2_arePassed_1 0 rfl rfl)
theorem dX2_arePassed_25 : decode cX2_arePassed 25 = .ok (.ireturn, 1) := dk_172 (dk_at dksX2_arePassed_1 1 rfl rfl)
theorem dX2_arePassed_26 : decode cX2_arePassed 26 = .ok (.aload_n 0, 1) := dk_42 (dk_at dksX2_arePassed_1 2 rfl rfl)
theorem dX2_arePassed_27 : decode cX2_arePassed 27 = .ok (.invokevirtual 368, 3) := dk_182 1 112 (dk_at dksX2_arePassed_1 3 rfl rfl)
theorem dX2_arePassed_30 : decode cX2_arePassed 30 = .ok (.aload_n 0, 1) := dk_42 (dk_at dksX2_arePassed_1 6 rfl rfl)
theorem dX2_arePassed_31 : decode cX2_arePassed 31 = .ok (.invokevirtual 377, 3) := dk_182 1 121 (dk_at dksX2_arePassed_1 7 rfl rfl)
theorem dX2_arePassed_34 : decode cX2_arePassed 34 = .ok (.iinc 2 1, 3) := dk_132 2 1 (dk_at dksX2_arePassed_1 10 rfl rfl)
theorem dX2_arePassed_37 : decode cX2_arePassed 37 = .ok (.goto (-30), 3) := dk_167 255 226 (dk_at dksX2_arePassed_1 13 rfl rfl)
theorem dX2_arePassed_40 : decode cX2_arePassed 40 = .ok (.iconst 1, 1) := dk_4 (dk_at dksX2_arePassed_1 16 rfl rfl)
theorem dX2_arePassed_41 : decode cX2_arePassed 41 = .ok (.ireturn, 1) := dk_172 (dk_at dksX2_arePassed_1 17 rfl rfl)
abbrev cX2_pass : ByteArray := prog_20_method_83_code
def yX2_pass : MethodName := ⟨RX2, "pass", "()V"⟩
def dkwX2_pass_8 : List UInt8 := [180, 0, 7, 8, 92, 46, 4, 96, 79, 177]
abbrev dktX2_pass_8 : List UInt8 := dkwX2_pass_8 ++ []
def dkwX2_pass_7 : List UInt8 := [167, 0, 16, 42, 29, 28, 182, 1, 105, 61, 42, 29, 4, 182, 1, 108, 132, 3, 255, 167, 255, 225, 42]
abbrev dktX2_pass_7 : List UInt8 := dkwX2_pass_7 ++ dktX2_pass_8
def dkwX2_pass_6 : List UInt8 := [167, 255, 219, 42, 180, 0, 7, 3, 46, 4, 100, 62, 29, 155, 0, 33, 27, 29, 184, 0, 87, 154, 0, 6]
abbrev dktX2_pass_6 : List UInt8 := dkwX2_pass_6 ++ dktX2_pass_7
def dkwX2_pass_5 : List UInt8 := [153, 0, 6, 167, 0, 16, 42, 29, 28, 182, 1, 105, 61, 42, 29, 3, 182, 1, 108, 132, 3, 1]
abbrev dktX2_pass_5 : List UInt8 := dkwX2_pass_5 ++ dktX2_pass_6
def dkwX2_pass_4 : List UInt8 := [96, 181, 1, 99, 16, 31, 61, 3, 62, 29, 42, 180, 0, 7, 3, 46, 162, 0, 33, 27, 29, 184, 0, 87]
abbrev dktX2_pass_4 : List UInt8 := dkwX2_pass_4 ++ dktX2_pass_5
def dkwX2_pass_3 : List UInt8 := [153, 0, 9, 27, 4, 28, 120, 128, 60, 132, 2, 1, 167, 255, 229, 42, 89, 180, 1, 99, 27, 184, 1, 102]
abbrev dktX2_pass_3 : List UInt8 := dkwX2_pass_3 ++ dktX2_pass_4
def dkwX2_pass_2 : List UInt8 := [167, 255, 219, 3, 60, 3, 61, 28, 42, 180, 0, 7, 3, 46, 162, 0, 23, 42, 28, 182, 1, 96]
abbrev dktX2_pass_2 : List UInt8 := dkwX2_pass_2 ++ dktX2_pass_3
def dkwX2_pass_1 : List UInt8 := [46, 42, 180, 0, 7, 8, 46, 163, 0, 13, 42, 180, 0, 7, 16, 9, 27, 96, 3, 79, 132, 1, 1]
abbrev dktX2_pass_1 : List UInt8 := dkwX2_pass_1 ++ dktX2_pass_2
def dkwX2_pass_0 : List UInt8 := [42, 180, 0, 7, 16, 7, 3, 79, 3, 60, 27, 16, 8, 162, 0, 37, 42, 180, 0, 7, 16, 9, 27, 96]
abbrev dktX2_pass_0 : List UInt8 := dkwX2_pass_0 ++ dktX2_pass_1
theorem dksX2_pass_0 : cX2_pass.data.toList.drop 0 = dktX2_pass_0 := by decide +kernel
theorem dksX2_pass_1 : cX2_pass.data.toList.drop 24 = dktX2_pass_1 := dk_seg dksX2_pass_0 24 rfl rfl
theorem dksX2_pass_2 : cX2_pass.data.toList.drop 47 = dktX2_pass_2 := dk_seg dksX2_pass_1 23 rfl rfl
theorem dksX2_pass_3 : cX2_pass.data.toList.drop 69 = dktX2_pass_3 := dk_seg dksX2_pass_2 22 rfl rfl
theorem dksX2_pass_4 : cX2_pass.data.toList.drop 93 = dktX2_pass_4 := dk_seg dksX2_pass_3 24 rfl rfl
theorem dksX2_pass_5 : cX2_pass.data.toList.drop 117 = dktX2_pass_5 := dk_seg dksX2_pass_4 24 rfl rfl
theorem dksX2_pass_6 : cX2_pass.data.toList.drop 139 = dktX2_pass_6 := dk_seg dksX2_pass_5 22 rfl rfl
theorem dksX2_pass_7 : cX2_pass.data.toList.drop 163 = dktX2_pass_7 := dk_seg dksX2_pass_6 24 rfl rfl
theorem dksX2_pass_8 : cX2_pass.data.toList.drop 186 = dktX2_pass_8 := dk_seg dksX2_pass_7 23 rfl rfl
theorem dX2_pass_0 : decode cX2_pass 0 = .ok (.aload_n 0, 1) := dk_42 (dk_at dksX2_pass_0 0 rfl rfl)
theorem dX2_pass_1 : decode cX2_pass 1 = .ok (.getfield 7, 3) := dk_180 0 7 (dk_at dksX2_pass_0 1 rfl rfl)
theorem dX2_pass_4 : decode cX2_pass 4 = .ok (.bipush 7, 2) := dk_16 7 (dk_at dksX2_pass_0 4 rfl rfl)
theorem dX2_pass_6 : decode cX2_pass 6 = .ok (.iconst 0, 1) := dk_3 (dk_at dksX2_pass_0 6 rfl rfl)
theorem dX2_pass_7 : decode cX2_pass 7 = .ok (.iastore, 1) := dk_79 (dk_at dksX2_pass_0 7 rfl rfl)
theorem dX2_pass_8 : decode cX2_pass 8 = .ok (.iconst 0, 1) := dk_3 (dk_at dksX2_pass_0 8 rfl rfl)
theorem dX2_pass_9 : decode cX2_pass 9 = .ok (.istore_n 1, 1) := dk_60 (dk_at dksX2_pass_0 9 rfl rfl)
theorem dX2_pass_10 : decode cX2_pass 10 = .ok (.iload_n 1, 1) := dk_27 (dk_at dksX2_pass_0 10 rfl rfl)
theorem dX2_pass_11 : decode cX2_pass 11 = .ok (.bipush 8, 2) := dk_16 8 (dk_at dksX2_pass_0 11 rfl rfl)
theorem dX2_pass_13 : decode cX2_pass 13 = .ok (.if_icmp .ge 37, 3) := dk_162 0 37 (dk_at dksX2_pass_0 13 rfl rfl)
theorem dX2_pass_16 : decode cX2_pass 16 = .ok (.aload_n 0, 1) := dk_42 (dk_at dksX2_pass_0 16 rfl rfl)
theorem dX2_pass_17 : decode cX2_pass 17 = .ok (.getfield 7, 3) := dk_180 0 7 (dk_at dksX2_pass_0 17 rfl rfl)
theorem dX2_pass_20 : decode cX2_pass 20 = .ok (.bipush 9, 2) := dk_16 9 (dk_at dksX2_pass_0 20 rfl rfl)
theorem dX2_pass_22 : decode cX2_pass 22 = .ok (.iload_n 1, 1) := dk_27 (dk_at dksX2_pass_0 22 rfl rfl)
theorem dX2_pass_23 : decode cX2_pass 23 = .ok (.iadd, 1) := dk_96 (dk_at dksX2_pass_0 23 rfl rfl)
theorem dX2_pass_24 : decode cX2_pass 24 = .ok (.iaload, 1) := dk_46 (dk_at dksX2_pass_1 0 rfl rfl)
theorem dX2_pass_25 : decode cX2_pass 25 = .ok (.aload_n 0, 1) := dk_42 (dk_at dksX2_pass_1 1 rfl rfl)
theorem dX2_pass_26 : decode cX2_pass 26 = .ok (.getfield 7, 3) := dk_180 0 7 (dk_at dksX2_pass_1 2 rfl rfl)
theorem dX2_pass_29 : decode cX2_pass 29 = .ok (.iconst 5, 1) := dk_8 (dk_at dksX2_pass_1 5 rfl rfl)
theorem dX2_pass_30 : decode cX2_pass 30 = .ok (.iaload, 1) := dk_46 (dk_at dksX2_pass_1 6 rfl rfl)
theorem dX2_pass_31 : decode cX2_pass 31 = .ok (.if_icmp .gt 13, 3) := dk_163 0 13 (dk_at dksX2_pass_1 7 rfl rfl)
theorem dX2_pass_34 : decode cX2_pass 34 = .ok (.aload_n 0, 1) := dk_42 (dk_at dksX2_pass_1 10 rfl rfl)
theorem dX2_pass_35 : decode cX2_pass 35 = .ok (.getfield 7, 3) := dk_180 0 7 (dk_at dksX2_pass_1 11 rfl rfl)
theorem dX2_pass_38 : decode cX2_pass 38 = .ok (.bipush 9, 2) := dk_16 9 (dk_at dksX2_pass_1 14 rfl rfl)
theorem dX2_pass_40 : decode cX2_pass 40 = .ok (.iload_n 1, 1) := dk_27 (dk_at dksX2_pass_1 16 rfl rfl)
theorem dX2_pass_41 : decode cX2_pass 41 = .ok (.iadd, 1) := dk_96 (dk_at dksX2_pass_1 17 rfl rfl)
theorem dX2_pass_42 : decode cX2_pass 42 = .ok (.iconst 0, 1) := dk_3 (dk_at dksX2_pass_1 18 rfl rfl)
theorem dX2_pass_43 : decode cX2_pass 43 = .ok (.iastore, 1) := dk_79 (dk_at dksX2_pass_1 19 rfl rfl)
theorem dX2_pass_44 : decode cX2_pass 44 = .ok (.iinc 1 1, 3) := dk_132 1 1 (dk_at dksX2_pass_1 20 rfl rfl)
theorem dX2_pass_47 : decode cX2_pass 47 = .ok (.goto (-37), 3) := dk_167 255 219 (dk_at dksX2_pass_2 0 rfl rfl)
theorem dX2_pass_50 : decode cX2_pass 50 = .ok (.iconst 0, 1) := dk_3 (dk_at dksX2_pass_2 3 rfl rfl)
theorem dX2_pass_51 : decode cX2_pass 51 = .ok (.istore_n 1, 1) := dk_60 (dk_at dksX2_pass_2 4 rfl rfl)
theorem dX2_pass_52 : decode cX2_pass 52 = .ok (.iconst 0, 1) := dk_3 (dk_at dksX2_pass_2 5 rfl rfl)
theorem dX2_pass_53 : decode cX2_pass 53 = .ok (.istore_n 2, 1) := dk_61 (dk_at dksX2_pass_2 6 rfl rfl)
theorem dX2_pass_54 : decode cX2_pass 54 = .ok (.iload_n 2, 1) := dk_28 (dk_at dksX2_pass_2 7 rfl rfl)
theorem dX2_pass_55 : decode cX2_pass 55 = .ok (.aload_n 0, 1) := dk_42 (dk_at dksX2_pass_2 8 rfl rfl)
theorem dX2_pass_56 : decode cX2_pass 56 = .ok (.getfield 7, 3) := dk_180 0 7 (dk_at dksX2_pass_2 9 rfl rfl)
theorem dX2_pass_59 : decode cX2_pass 59 = .ok (.iconst 0, 1) := dk_3 (dk_at dksX2_pass_2 12 rfl rfl)
theorem dX2_pass_60 : decode cX2_pass 60 = .ok (.iaload, 1) := dk_46 (dk_at dksX2_pass_2 13 rfl rfl)
theorem dX2_pass_61 : decode cX2_pass 61 = .ok (.if_icmp .ge 23, 3) := dk_162 0 23 (dk_at dksX2_pass_2 14 rfl rfl)
theorem dX2_pass_64 : decode cX2_pass 64 = .ok (.aload_n 0, 1) := dk_42 (dk_at dksX2_pass_2 17 rfl rfl)
theorem dX2_pass_65 : decode cX2_pass 65 = .ok (.iload_n 2, 1) := dk_28 (dk_at dksX2_pass_2 18 rfl rfl)
theorem dX2_pass_66 : decode cX2_pass 66 = .ok (.invokevirtual 352, 3) := dk_182 1 96 (dk_at dksX2_pass_2 19 rfl rfl)
theorem dX2_pass_69 : decode cX2_pass 69 = .ok (.ifCond .eq 9, 3) := dk_153 0 9 (dk_at dksX2_pass_3 0 rfl rfl)
theorem dX2_pass_72 : decode cX2_pass 72 = .ok (.iload_n 1, 1) := dk_27 (dk_at dksX2_pass_3 3 rfl rfl)
theorem dX2_pass_73 : decode cX2_pass 73 = .ok (.iconst 1, 1) := dk_4 (dk_at dksX2_pass_3 4 rfl rfl)
theorem dX2_pass_74 : decode cX2_pass 74 = .ok (.iload_n 2, 1) := dk_28 (dk_at dksX2_pass_3 5 rfl rfl)
theorem dX2_pass_75 : decode cX2_pass 75 = .ok (.ishl, 1) := dk_120 (dk_at dksX2_pass_3 6 rfl rfl)
theorem dX2_pass_76 : decode cX2_pass 76 = .ok (.ior, 1) := dk_128 (dk_at dksX2_pass_3 7 rfl rfl)
theorem dX2_pass_77 : decode cX2_pass 77 = .ok (.istore_n 1, 1) := dk_60 (dk_at dksX2_pass_3 8 rfl rfl)
theorem dX2_pass_78 : decode cX2_pass 78 = .ok (.iinc 2 1, 3) := dk_132 2 1 (dk_at dksX2_pass_3 9 rfl rfl)
theorem dX2_pass_81 : decode cX2_pass 81 = .ok (.goto (-27), 3) := dk_167 255 229 (dk_at dksX2_pass_3 12 rfl rfl)
theorem dX2_pass_84 : decode cX2_pass 84 = .ok (.aload_n 0, 1) := dk_42 (dk_at dksX2_pass_3 15 rfl rfl)
theorem dX2_pass_85 : decode cX2_pass 85 = .ok (.dup, 1) := dk_89 (dk_at dksX2_pass_3 16 rfl rfl)
theorem dX2_pass_86 : decode cX2_pass 86 = .ok (.getfield 355, 3) := dk_180 1 99 (dk_at dksX2_pass_3 17 rfl rfl)
theorem dX2_pass_89 : decode cX2_pass 89 = .ok (.iload_n 1, 1) := dk_27 (dk_at dksX2_pass_3 20 rfl rfl)
theorem dX2_pass_90 : decode cX2_pass 90 = .ok (.invokestatic 358, 3) := dk_184 1 102 (dk_at dksX2_pass_3 21 rfl rfl)
theorem dX2_pass_93 : decode cX2_pass 93 = .ok (.iadd, 1) := dk_96 (dk_at dksX2_pass_4 0 rfl rfl)
theorem dX2_pass_94 : decode cX2_pass 94 = .ok (.putfield 355, 3) := dk_181 1 99 (dk_at dksX2_pass_4 1 rfl rfl)
theorem dX2_pass_97 : decode cX2_pass 97 = .ok (.bipush 31, 2) := dk_16 31 (dk_at dksX2_pass_4 4 rfl rfl)
theorem dX2_pass_99 : decode cX2_pass 99 = .ok (.istore_n 2, 1) := dk_61 (dk_at dksX2_pass_4 6 rfl rfl)
theorem dX2_pass_100 : decode cX2_pass 100 = .ok (.iconst 0, 1) := dk_3 (dk_at dksX2_pass_4 7 rfl rfl)
theorem dX2_pass_101 : decode cX2_pass 101 = .ok (.istore_n 3, 1) := dk_62 (dk_at dksX2_pass_4 8 rfl rfl)
theorem dX2_pass_102 : decode cX2_pass 102 = .ok (.iload_n 3, 1) := dk_29 (dk_at dksX2_pass_4 9 rfl rfl)
theorem dX2_pass_103 : decode cX2_pass 103 = .ok (.aload_n 0, 1) := dk_42 (dk_at dksX2_pass_4 10 rfl rfl)
theorem dX2_pass_104 : decode cX2_pass 104 = .ok (.getfield 7, 3) := dk_180 0 7 (dk_at dksX2_pass_4 11 rfl rfl)
theorem dX2_pass_107 : decode cX2_pass 107 = .ok (.iconst 0, 1) := dk_3 (dk_at dksX2_pass_4 14 rfl rfl)
theorem dX2_pass_108 : decode cX2_pass 108 = .ok (.iaload, 1) := dk_46 (dk_at dksX2_pass_4 15 rfl rfl)
theorem dX2_pass_109 : decode cX2_pass 109 = .ok (.if_icmp .ge 33, 3) := dk_162 0 33 (dk_at dksX2_pass_4 16 rfl rfl)
theorem dX2_pass_112 : decode cX2_pass 112 = .ok (.iload_n 1, 1) := dk_27 (dk_at dksX2_pass_4 19 rfl rfl)
theorem dX2_pass_113 : decode cX2_pass 113 = .ok (.iload_n 3, 1) := dk_29 (dk_at dksX2_pass_4 20 rfl rfl)
theorem dX2_pass_114 : decode cX2_pass 114 = .ok (.invokestatic 87, 3) := dk_184 0 87 (dk_at dksX2_pass_4 21 rfl rfl)
theorem dX2_pass_117 : decode cX2_pass 117 = .ok (.ifCond .eq 6, 3) := dk_153 0 6 (dk_at dksX2_pass_5 0 rfl rfl)
theorem dX2_pass_120 : decode cX2_pass 120 = .ok (.goto 16, 3) := dk_167 0 16 (dk_at dksX2_pass_5 3 rfl rfl)
theorem dX2_pass_123 : decode cX2_pass 123 = .ok (.aload_n 0, 1) := dk_42 (dk_at dksX2_pass_5 6 rfl rfl)
theorem dX2_pass_124 : decode cX2_pass 124 = .ok (.iload_n 3, 1) := dk_29 (dk_at dksX2_pass_5 7 rfl rfl)
theorem dX2_pass_125 : decode cX2_pass 125 = .ok (.iload_n 2, 1) := dk_28 (dk_at dksX2_pass_5 8 rfl rfl)
theorem dX2_pass_126 : decode cX2_pass 126 = .ok (.invokevirtual 361, 3) := dk_182 1 105 (dk_at dksX2_pass_5 9 rfl rfl)
theorem dX2_pass_129 : decode cX2_pass 129 = .ok (.istore_n 2, 1) := dk_61 (dk_at dksX2_pass_5 12 rfl rfl)
theorem dX2_pass_130 : decode cX2_pass 130 = .ok (.aload_n 0, 1) := dk_42 (dk_at dksX2_pass_5 13 rfl rfl)
theorem dX2_pass_131 : decode cX2_pass 131 = .ok (.iload_n 3, 1) := dk_29 (dk_at dksX2_pass_5 14 rfl rfl)
theorem dX2_pass_132 : decode cX2_pass 132 = .ok (.iconst 0, 1) := dk_3 (dk_at dksX2_pass_5 15 rfl rfl)
theorem dX2_pass_133 : decode cX2_pass 133 = .ok (.invokevirtual 364, 3) := dk_182 1 108 (dk_at dksX2_pass_5 16 rfl rfl)
theorem dX2_pass_136 : decode cX2_pass 136 = .ok (.iinc 3 1, 3) := dk_132 3 1 (dk_at dksX2_pass_5 19 rfl rfl)
theorem dX2_pass_139 : decode cX2_pass 139 = .ok (.goto (-37), 3) := dk_167 255 219 (dk_at dksX2_pass_6 0 rfl rfl)
theorem dX2_pass_142 : decode cX2_pass 142 = .ok (.aload_n 0, 1) := dk_42 (dk_at dksX2_pass_6 3 rfl rfl)
theorem dX2_pass_143 : decode cX2_pass 143 = .ok (.getfield 7, 3) := dk_180 0 7 (dk_at dksX2_pass_6 4 rfl rfl)
theorem dX2_pass_146 : decode cX2_pass 146 = .ok (.iconst 0, 1) := dk_3 (dk_at dksX2_pass_6 7 rfl rfl)
theorem dX2_pass_147 : decode cX2_pass 147 = .ok (.iaload, 1) := dk_46 (dk_at dksX2_pass_6 8 rfl rfl)
theorem dX2_pass_148 : decode cX2_pass 148 = .ok (.iconst 1, 1) := dk_4 (dk_at dksX2_pass_6 9 rfl rfl)
theorem dX2_pass_149 : decode cX2_pass 149 = .ok (.isub, 1) := dk_100 (dk_at dksX2_pass_6 10 rfl rfl)
theorem dX2_pass_150 : decode cX2_pass 150 = .ok (.istore_n 3, 1) := dk_62 (dk_at dksX2_pass_6 11 rfl rfl)
theorem dX2_pass_151 : decode cX2_pass 151 = .ok (.iload_n 3, 1) := dk_29 (dk_at dksX2_pass_6 12 rfl rfl)
theorem dX2_pass_152 : decode cX2_pass 152 = .ok (.ifCond .lt 33, 3) := dk_155 0 33 (dk_at dksX2_pass_6 13 rfl rfl)
theorem dX2_pass_155 : decode cX2_pass 155 = .ok (.iload_n 1, 1) := dk_27 (dk_at dksX2_pass_6 16 rfl rfl)
theorem dX2_pass_156 : decode cX2_pass 156 = .ok (.iload_n 3, 1) := dk_29 (dk_at dksX2_pass_6 17 rfl rfl)
theorem dX2_pass_157 : decode cX2_pass 157 = .ok (.invokestatic 87, 3) := dk_184 0 87 (dk_at dksX2_pass_6 18 rfl rfl)
theorem dX2_pass_160 : decode cX2_pass 160 = .ok (.ifCond .ne 6, 3) := dk_154 0 6 (dk_at dksX2_pass_6 21 rfl rfl)
theorem dX2_pass_163 : decode cX2_pass 163 = .ok (.goto 16, 3) := dk_167 0 16 (dk_at dksX2_pass_7 0 rfl rfl)
theorem dX2_pass_166 : decode cX2_pass 166 = .ok (.aload_n 0, 1) := dk_42 (dk_at dksX2_pass_7 3 rfl rfl)
theorem dX2_pass_167 : decode cX2_pass 167 = .ok (.iload_n 3, 1) := dk_29 (dk_at dksX2_pass_7 4 rfl rfl)
theorem dX2_pass_168 : decode cX2_pass 168 = .ok (.iload_n 2, 1) := dk_28 (dk_at dksX2_pass_7 5 rfl rfl)
theorem dX2_pass_169 : decode cX2_pass 169 = .ok (.invokevirtual 361, 3) := dk_182 1 105 (dk_at dksX2_pass_7 6 rfl rfl)
theorem dX2_pass_172 : decode cX2_pass 172 = .ok (.istore_n 2, 1) := dk_61 (dk_at dksX2_pass_7 9 rfl rfl)
theorem dX2_pass_173 : decode cX2_pass 173 = .ok (.aload_n 0, 1) := dk_42 (dk_at dksX2_pass_7 10 rfl rfl)
theorem dX2_pass_174 : decode cX2_pass 174 = .ok (.iload_n 3, 1) := dk_29 (dk_at dksX2_pass_7 11 rfl rfl)
theorem dX2_pass_175 : decode cX2_pass 175 = .ok (.iconst 1, 1) := dk_4 (dk_at dksX2_pass_7 12 rfl rfl)
theorem dX2_pass_176 : decode cX2_pass 176 = .ok (.invokevirtual 364, 3) := dk_182 1 108 (dk_at dksX2_pass_7 13 rfl rfl)
theorem dX2_pass_179 : decode cX2_pass 179 = .ok (.iinc 3 (-1), 3) := dk_132 3 255 (dk_at dksX2_pass_7 16 rfl rfl)
theorem dX2_pass_182 : decode cX2_pass 182 = .ok (.goto (-31), 3) := dk_167 255 225 (dk_at dksX2_pass_7 19 rfl rfl)
theorem dX2_pass_185 : decode cX2_pass 185 = .ok (.aload_n 0, 1) := dk_42 (dk_at dksX2_pass_7 22 rfl rfl)
theorem dX2_pass_186 : decode cX2_pass 186 = .ok (.getfield 7, 3) := dk_180 0 7 (dk_at dksX2_pass_8 0 rfl rfl)
theorem dX2_pass_189 : decode cX2_pass 189 = .ok (.iconst 5, 1) := dk_8 (dk_at dksX2_pass_8 3 rfl rfl)
theorem dX2_pass_190 : decode cX2_pass 190 = .ok (.dup2, 1) := dk_92 (dk_at dksX2_pass_8 4 rfl rfl)
theorem dX2_pass_191 : decode cX2_pass 191 = .ok (.iaload, 1) := dk_46 (dk_at dksX2_pass_8 5 rfl rfl)
theorem dX2_pass_192 : decode cX2_pass 192 = .ok (.iconst 1, 1) := dk_4 (dk_at dksX2_pass_8 6 rfl rfl)
theorem dX2_pass_193 : decode cX2_pass 193 = .ok (.iadd, 1) := dk_96 (dk_at dksX2_pass_8 7 rfl rfl)
theorem dX2_pass_194 : decode cX2_pass 194 = .ok (.iastore, 1) := dk_79 (dk_at dksX2_pass_8 8 rfl rfl)
theorem dX2_pass_195 : decode cX2_pass 195 = .ok (.return_, 1) := dk_177 (dk_at dksX2_pass_8 9 rfl rfl)
abbrev cX2_isRefutedNow : ByteArray := prog_20_method_81_code
def yX2_isRefutedNow : MethodName := ⟨RX2, "isRefutedNow", "(I)Z"⟩
def dkwX2_isRefutedNow_5 : List UInt8 := [104, 96, 4, 96, 46, 4, 96, 133, 3, 17, 39, 15, 184, 1, 62, 79, 4, 172]
abbrev dktX2_isRefutedNow_5 : List UInt8 := dkwX2_isRefutedNow_5 ++ []
def dkwX2_isRefutedNow_4 : List UInt8 := [46, 6, 96, 79, 42, 180, 0, 7, 16, 17, 5, 27, 104, 96, 4, 96, 42, 180, 0, 7, 16, 17, 5, 27]
abbrev dktX2_isRefutedNow_4 : List UInt8 := dkwX2_isRefutedNow_4 ++ dktX2_isRefutedNow_5
def dkwX2_isRefutedNow_3 : List UInt8 := [180, 0, 7, 16, 9, 28, 96, 46, 154, 0, 20, 42, 180, 0, 7, 16, 9, 28, 96, 42, 180, 0, 7, 8]
abbrev dktX2_isRefutedNow_3 : List UInt8 := dkwX2_isRefutedNow_3 ++ dktX2_isRefutedNow_4
def dkwX2_isRefutedNow_2 : List UInt8 := [42, 28, 182, 1, 90, 153, 0, 18, 42, 180, 0, 7, 16, 7, 92, 46, 4, 28, 120, 128, 79, 3, 172, 42]
abbrev dktX2_isRefutedNow_2 : List UInt8 := dkwX2_isRefutedNow_2 ++ dktX2_isRefutedNow_3
def dkwX2_isRefutedNow_1 : List UInt8 := [61, 42, 180, 0, 47, 27, 28, 79, 42, 180, 0, 7, 16, 7, 46, 28, 184, 0, 87, 153, 0, 5, 3, 172]
abbrev dktX2_isRefutedNow_1 : List UInt8 := dkwX2_isRefutedNow_1 ++ dktX2_isRefutedNow_2
def dkwX2_isRefutedNow_0 : List UInt8 := [42, 180, 0, 47, 27, 2, 79, 42, 182, 0, 79, 154, 0, 5, 3, 172, 42, 42, 182, 0, 79, 182, 1, 87]
abbrev dktX2_isRefutedNow_0 : List UInt8 := dkwX2_isRefutedNow_0 ++ dktX2_isRefutedNow_1
theorem dksX2_isRefutedNow_0 : cX2_isRefutedNow.data.toList.drop 0 = dktX2_isRefutedNow_0 := by decide +kernel
theorem dksX2_isRefutedNow_1 : cX2_isRefutedNow.data.toList.drop 24 = dktX2_isRefutedNow_1 := dk_seg dksX2_isRefutedNow_0 24 rfl rfl
theorem dksX2_isRefutedNow_2 : cX2_isRefutedNow.data.toList.drop 48 = dktX2_isRefutedNow_2 := dk_seg dksX2_isRefutedNow_1 24 rfl rfl
theorem dksX2_isRefutedNow_3 : cX2_isRefutedNow.data.toList.drop 72 = dktX2_isRefutedNow_3 := dk_seg dksX2_isRefutedNow_2 24 rfl rfl
theorem dksX2_isRefutedNow_4 : cX2_isRefutedNow.data.toList.drop 96 = dktX2_isRefutedNow_4 := dk_seg dksX2_isRefutedNow_3 24 rfl rfl
theorem dksX2_isRefutedNow_5 : cX2_isRefutedNow.data.toList.drop 120 = dktX2_isRefutedNow_5 := dk_seg dksX2_isRefutedNow_4 24 rfl rfl
theorem dX2_isRefutedNow_0 : decode cX2_isRefutedNow 0 = .ok (.aload_n 0, 1) := dk_42 (dk_at dksX2_isRefutedNow_0 0 rfl rfl)
theorem dX2_isRefutedNow_1 : decode cX2_isRefutedNow 1 = .ok (.getfield 47, 3) := dk_180 0 47 (dk_at dksX2_isRefutedNow_0 1 rfl rfl)
theorem dX2_isRefutedNow_4 : decode cX2_isRefutedNow 4 = .ok (.iload_n 1, 1) := dk_27 (dk_at dksX2_isRefutedNow_0 4 rfl rfl)
theorem dX2_isRefutedNow_5 : decode cX2_isRefutedNow 5 = .ok (.iconst (-1), 1) := dk_2 (dk_at dksX2_isRefutedNow_0 5 rfl rfl)
theorem dX2_isRefutedNow_6 : decode cX2_isRefutedNow 6 = .ok (.iastore, 1) := dk_79 (dk_at dksX2_isRefutedNow_0 6 rfl rfl)
theorem dX2_isRefutedNow_7 : decode cX2_isRefutedNow 7 = .ok (.aload_n 0, 1) := dk_42 (dk_at dksX2_isRefutedNow_0 7 rfl rfl)
theorem dX2_isRefutedNow_8 : decode cX2_isRefutedNow 8 = .ok (.invokevirtual 79, 3) := dk_182 0 79 (dk_at dksX2_isRefutedNow_0 8 rfl rfl)
theorem dX2_isRefutedNow_11 : decode cX2_isRefutedNow 11 = .ok (.ifCond .ne 5, 3) := dk_154 0 5 (dk_at dksX2_isRefutedNow_0 11 rfl rfl)
theorem dX2_isRefutedNow_14 : decode cX2_isRefutedNow 14 = .ok (.iconst 0, 1) := dk_3 (dk_at dksX2_isRefutedNow_0 14 rfl rfl)
theorem dX2_isRefutedNow_15 : decode cX2_isRefutedNow 15 = .ok (.ireturn, 1) := dk_172 (dk_at dksX2_isRefutedNow_0 15 rfl rfl)
theorem dX2_isRefutedNow_16 : decode cX2_isRefutedNow 16 = .ok (.aload_n 0, 1) := dk_42 (dk_at dksX2_isRefutedNow_0 16 rfl rfl)
theorem dX2_isRefutedNow_17 : decode cX2_isRefutedNow 17 = .ok (.aload_n 0, 1) := dk_42 (dk_at dksX2_isRefutedNow_0 17 rfl rfl)
theorem dX2_isRefutedNow_18 : decode cX2_isRefutedNow 18 = .ok (.invokevirtual 79, 3) := dk_182 0 79 (dk_at dksX2_isRefutedNow_0 18 rfl rfl)
theorem dX2_isRefutedNow_21 : decode cX2_isRefutedNow 21 = .ok (.invokevirtual 343, 3) := dk_182 1 87 (dk_at dksX2_isRefutedNow_0 21 rfl rfl)
theorem dX2_isRefutedNow_24 : decode cX2_isRefutedNow 24 = .ok (.istore_n 2, 1) := dk_61 (dk_at dksX2_isRefutedNow_1 0 rfl rfl)
theorem dX2_isRefutedNow_25 : decode cX2_isRefutedNow 25 = .ok (.aload_n 0, 1) := dk_42 (dk_at dksX2_isRefutedNow_1 1 rfl rfl)
theorem dX2_isRefutedNow_26 : decode cX2_isRefutedNow 26 = .ok (.getfield 47, 3) := dk_180 0 47 (dk_at dksX2_isRefutedNow_1 2 rfl rfl)
theorem dX2_isRefutedNow_29 : decode cX2_isRefutedNow 29 = .ok (.iload_n 1, 1) := dk_27 (dk_at dksX2_isRefutedNow_1 5 rfl rfl)
theorem dX2_isRefutedNow_30 : decode cX2_isRefutedNow 30 = .ok (.iload_n 2, 1) := dk_28 (dk_at dksX2_isRefutedNow_1 6 rfl rfl)
theorem dX2_isRefutedNow_31 : decode cX2_isRefutedNow 31 = .ok (.iastore, 1) := dk_79 (dk_at dksX2_isRefutedNow_1 7 rfl rfl)
theorem dX2_isRefutedNow_32 : decode cX2_isRefutedNow 32 = .ok (.aload_n 0, 1) := dk_42 (dk_at dksX2_isRefutedNow_1 8 rfl rfl)
theorem dX2_isRefutedNow_33 : decode cX2_isRefutedNow 33 = .ok (.getfield 7, 3) := dk_180 0 7 (dk_at dksX2_isRefutedNow_1 9 rfl rfl)
theorem dX2_isRefutedNow_36 : decode cX2_isRefutedNow 36 = .ok (.bipush 7, 2) := dk_16 7 (dk_at dksX2_isRefutedNow_1 12 rfl rfl)
theorem dX2_isRefutedNow_38 : decode cX2_isRefutedNow 38 = .ok (.iaload, 1) := dk_46 (dk_at dksX2_isRefutedNow_1 14 rfl rfl)
theorem dX2_isRefutedNow_39 : decode cX2_isRefutedNow 39 = .ok (.iload_n 2, 1) := dk_28 (dk_at dksX2_isRefutedNow_1 15 rfl rfl)
theorem dX2_isRefutedNow_40 : decode cX2_isRefutedNow 40 = .ok (.invokestatic 87, 3) := dk_184 0 87 (dk_at dksX2_isRefutedNow_1 16 rfl rfl)
theorem dX2_isRefutedNow_43 : decode cX2_isRefutedNow 43 = .ok (.ifCond .eq 5, 3) := dk_153 0 5 (dk_at dksX2_isRefutedNow_1 19 rfl rfl)
theorem dX2_isRefutedNow_46 : decode cX2_isRefutedNow 46 = .ok (.iconst 0, 1) := dk_3 (dk_at dksX2_isRefutedNow_1 22 rfl rfl)
theorem dX2_isRefutedNow_47 : decode cX2_isRefutedNow 47 = .ok (.ireturn, 1) := dk_172 (dk_at dksX2_isRefutedNow_1 23 rfl rfl)
theorem dX2_isRefutedNow_48 : decode cX2_isRefutedNow 48 = .ok (.aload_n 0, 1) := dk_42 (dk_at dksX2_isRefutedNow_2 0 rfl rfl)
theorem dX2_isRefutedNow_49 : decode cX2_isRefutedNow 49 = .ok (.iload_n 2, 1) := dk_28 (dk_at dksX2_isRefutedNow_2 1 rfl rfl)
theorem dX2_isRefutedNow_50 : decode cX2_isRefutedNow 50 = .ok (.invokevirtual 346, 3) := dk_182 1 90 (dk_at dksX2_isRefutedNow_2 2 rfl rfl)
theorem dX2_isRefutedNow_53 : decode cX2_isRefutedNow 53 = .ok (.ifCond .eq 18, 3) := dk_153 0 18 (dk_at dksX2_isRefutedNow_2 5 rfl rfl)
theorem dX2_isRefutedNow_56 : decode cX2_isRefutedNow 56 = .ok (.aload_n 0, 1) := dk_42 (dk_at dksX2_isRefutedNow_2 8 rfl rfl)
theorem dX2_isRefutedNow_57 : decode cX2_isRefutedNow 57 = .ok (.getfield 7, 3) := dk_180 0 7 (dk_at dksX2_isRefutedNow_2 9 rfl rfl)
theorem dX2_isRefutedNow_60 : decode cX2_isRefutedNow 60 = .ok (.bipush 7, 2) := dk_16 7 (dk_at dksX2_isRefutedNow_2 12 rfl rfl)
theorem dX2_isRefutedNow_62 : decode cX2_isRefutedNow 62 = .ok (.dup2, 1) := dk_92 (dk_at dksX2_isRefutedNow_2 14 rfl rfl)
theorem dX2_isRefutedNow_63 : decode cX2_isRefutedNow 63 = .ok (.iaload, 1) := dk_46 (dk_at dksX2_isRefutedNow_2 15 rfl rfl)
theorem dX2_isRefutedNow_64 : decode cX2_isRefutedNow 64 = .ok (.iconst 1, 1) := dk_4 (dk_at dksX2_isRefutedNow_2 16 rfl rfl)
theorem dX2_isRefutedNow_65 : decode cX2_isRefutedNow 65 = .ok (.iload_n 2, 1) := dk_28 (dk_at dksX2_isRefutedNow_2 17 rfl rfl)
theorem dX2_isRefutedNow_66 : decode cX2_isRefutedNow 66 = .ok (.ishl, 1) := dk_120 (dk_at dksX2_isRefutedNow_2 18 rfl rfl)
theorem dX2_isRefutedNow_67 : decode cX2_isRefutedNow 67 = .ok (.ior, 1) := dk_128 (dk_at dksX2_isRefutedNow_2 19 rfl rfl)
theorem dX2_isRefutedNow_68 : decode cX2_isRefutedNow 68 = .ok (.iastore, 1) := dk_79 (dk_at dksX2_isRefutedNow_2 20 rfl rfl)
theorem dX2_isRefutedNow_69 : decode cX2_isRefutedNow 69 = .ok (.iconst 0, 1) := dk_3 (dk_at dksX2_isRefutedNow_2 21 rfl rfl)
theorem dX2_isRefutedNow_70 : decode cX2_isRefutedNow 70 = .ok (.ireturn, 1) := dk_172 (dk_at dksX2_isRefutedNow_2 22 rfl rfl)
theorem dX2_isRefutedNow_71 : decode cX2_isRefutedNow 71 = .ok (.aload_n 0, 1) := dk_42 (dk_at dksX2_isRefutedNow_2 23 rfl rfl)
theorem dX2_isRefutedNow_72 : decode cX2_isRefutedNow 72 = .ok (.getfield 7, 3) := dk_180 0 7 (dk_at dksX2_isRefutedNow_3 0 rfl rfl)
theorem dX2_isRefutedNow_75 : decode cX2_isRefutedNow 75 = .ok (.bipush 9, 2) := dk_16 9 (dk_at dksX2_isRefutedNow_3 3 rfl rfl)
theorem dX2_isRefutedNow_77 : decode cX2_isRefutedNow 77 = .ok (.iload_n 2, 1) := dk_28 (dk_at dksX2_isRefutedNow_3 5 rfl rfl)
theorem dX2_isRefutedNow_78 : decode cX2_isRefutedNow 78 = .ok (.iadd, 1) := dk_96 (dk_at dksX2_isRefutedNow_3 6 rfl rfl)
theorem dX2_isRefutedNow_79 : decode cX2_isRefutedNow 79 = .ok (.iaload, 1) := dk_46 (dk_at dksX2_isRefutedNow_3 7 rfl rfl)
theorem dX2_isRefutedNow_80 : decode cX2_isRefutedNow 80 = .ok (.ifCond .ne 20, 3) := dk_154 0 20 (dk_at dksX2_isRefutedNow_3 8 rfl rfl)
theorem dX2_isRefutedNow_83 : decode cX2_isRefutedNow 83 = .ok (.aload_n 0, 1) := dk_42 (dk_at dksX2_isRefutedNow_3 11 rfl rfl)
theorem dX2_isRefutedNow_84 : decode cX2_isRefutedNow 84 = .ok (.getfield 7, 3) := dk_180 0 7 (dk_at dksX2_isRefutedNow_3 12 rfl rfl)
theorem dX2_isRefutedNow_87 : decode cX2_isRefutedNow 87 = .ok (.bipush 9, 2) := dk_16 9 (dk_at dksX2_isRefutedNow_3 15 rfl rfl)
theorem dX2_isRefutedNow_89 : decode cX2_isRefutedNow 89 = .ok (.iload_n 2, 1) := dk_28 (dk_at dksX2_isRefutedNow_3 17 rfl rfl)
theorem dX2_isRefutedNow_90 : decode cX2_isRefutedNow 90 = .ok (.iadd, 1) := dk_96 (dk_at dksX2_isRefutedNow_3 18 rfl rfl)
theorem dX2_isRefutedNow_91 : decode cX2_isRefutedNow 91 = .ok (.aload_n 0, 1) := dk_42 (dk_at dksX2_isRefutedNow_3 19 rfl rfl)
theorem dX2_isRefutedNow_92 : decode cX2_isRefutedNow 92 = .ok (.getfield 7, 3) := dk_180 0 7 (dk_at dksX2_isRefutedNow_3 20 rfl rfl)
theorem dX2_isRefutedNow_95 : decode cX2_isRefutedNow 95 = .ok (.iconst 5, 1) := dk_8 (dk_at dksX2_isRefutedNow_3 23 rfl rfl)
theorem dX2_isRefutedNow_96 : decode cX2_isRefutedNow 96 = .ok (.iaload, 1) := dk_46 (dk_at dksX2_isRefutedNow_4 0 rfl rfl)
theorem dX2_isRefutedNow_97 : decode cX2_isRefutedNow 97 = .ok (.iconst 3, 1) := dk_6 (dk_at dksX2_isRefutedNow_4 1 rfl rfl)
theorem dX2_isRefutedNow_98 : decode cX2_isRefutedNow 98 = .ok (.iadd, 1) := dk_96 (dk_at dksX2_isRefutedNow_4 2 rfl rfl)
theorem dX2_isRefutedNow_99 : decode cX2_isRefutedNow 99 = .ok (.iastore, 1) := dk_79 (dk_at dksX2_isRefutedNow_4 3 rfl rfl)
theorem dX2_isRefutedNow_100 : decode cX2_isRefutedNow 100 = .ok (.aload_n 0, 1) := dk_42 (dk_at dksX2_isRefutedNow_4 4 rfl rfl)
theorem dX2_isRefutedNow_101 : decode cX2_isRefutedNow 101 = .ok (.getfield 7, 3) := dk_180 0 7 (dk_at dksX2_isRefutedNow_4 5 rfl rfl)
theorem dX2_isRefutedNow_104 : decode cX2_isRefutedNow 104 = .ok (.bipush 17, 2) := dk_16 17 (dk_at dksX2_isRefutedNow_4 8 rfl rfl)
theorem dX2_isRefutedNow_106 : decode cX2_isRefutedNow 106 = .ok (.iconst 2, 1) := dk_5 (dk_at dksX2_isRefutedNow_4 10 rfl rfl)
theorem dX2_isRefutedNow_107 : decode cX2_isRefutedNow 107 = .ok (.iload_n 1, 1) := dk_27 (dk_at dksX2_isRefutedNow_4 11 rfl rfl)
theorem dX2_isRefutedNow_108 : decode cX2_isRefutedNow 108 = .ok (.imul, 1) := dk_104 (dk_at dksX2_isRefutedNow_4 12 rfl rfl)
theorem dX2_isRefutedNow_109 : decode cX2_isRefutedNow 109 = .ok (.iadd, 1) := dk_96 (dk_at dksX2_isRefutedNow_4 13 rfl rfl)
theorem dX2_isRefutedNow_110 : decode cX2_isRefutedNow 110 = .ok (.iconst 1, 1) := dk_4 (dk_at dksX2_isRefutedNow_4 14 rfl rfl)
theorem dX2_isRefutedNow_111 : decode cX2_isRefutedNow 111 = .ok (.iadd, 1) := dk_96 (dk_at dksX2_isRefutedNow_4 15 rfl rfl)
theorem dX2_isRefutedNow_112 : decode cX2_isRefutedNow 112 = .ok (.aload_n 0, 1) := dk_42 (dk_at dksX2_isRefutedNow_4 16 rfl rfl)
theorem dX2_isRefutedNow_113 : decode cX2_isRefutedNow 113 = .ok (.getfield 7, 3) := dk_180 0 7 (dk_at dksX2_isRefutedNow_4 17 rfl rfl)
theorem dX2_isRefutedNow_116 : decode cX2_isRefutedNow 116 = .ok (.bipush 17, 2) := dk_16 17 (dk_at dksX2_isRefutedNow_4 20 rfl rfl)
theorem dX2_isRefutedNow_118 : decode cX2_isRefutedNow 118 = .ok (.iconst 2, 1) := dk_5 (dk_at dksX2_isRefutedNow_4 22 rfl rfl)
theorem dX2_isRefutedNow_119 : decode cX2_isRefutedNow 119 = .ok (.iload_n 1, 1) := dk_27 (dk_at dksX2_isRefutedNow_4 23 rfl rfl)
theorem dX2_isRefutedNow_120 : decode cX2_isRefutedNow 120 = .ok (.imul, 1) := dk_104 (dk_at dksX2_isRefutedNow_5 0 rfl rfl)
theorem dX2_isRefutedNow_121 : decode cX2_isRefutedNow 121 = .ok (.iadd, 1) := dk_96 (dk_at dksX2_isRefutedNow_5 1 rfl rfl)
theorem dX2_isRefutedNow_122 : decode cX2_isRefutedNow 122 = .ok (.iconst 1, 1) := dk_4 (dk_at dksX2_isRefutedNow_5 2 rfl rfl)
theorem dX2_isRefutedNow_123 : decode cX2_isRefutedNow 123 = .ok (.iadd, 1) := dk_96 (dk_at dksX2_isRefutedNow_5 3 rfl rfl)
theorem dX2_isRefutedNow_124 : decode cX2_isRefutedNow 124 = .ok (.iaload, 1) := dk_46 (dk_at dksX2_isRefutedNow_5 4 rfl rfl)
theorem dX2_isRefutedNow_125 : decode cX2_isRefutedNow 125 = .ok (.iconst 1, 1) := dk_4 (dk_at dksX2_isRefutedNow_5 5 rfl rfl)
theorem dX2_isRefutedNow_126 : decode cX2_isRefutedNow 126 = .ok (.iadd, 1) := dk_96 (dk_at dksX2_isRefutedNow_5 6 rfl rfl)
theorem dX2_isRefutedNow_127 : decode cX2_isRefutedNow 127 = .ok (.i2l, 1) := dk_133 (dk_at dksX2_isRefutedNow_5 7 rfl rfl)
theorem dX2_isRefutedNow_128 : decode cX2_isRefutedNow 128 = .ok (.iconst 0, 1) := dk_3 (dk_at dksX2_isRefutedNow_5 8 rfl rfl)
theorem dX2_isRefutedNow_129 : decode cX2_isRefutedNow 129 = .ok (.sipush 9999, 3) := dk_17 39 15 (dk_at dksX2_isRefutedNow_5 9 rfl rfl)
theorem dX2_isRefutedNow_132 : decode cX2_isRefutedNow 132 = .ok (.invokestatic 318, 3) := dk_184 1 62 (dk_at dksX2_isRefutedNow_5 12 rfl rfl)
theorem dX2_isRefutedNow_135 : decode cX2_isRefutedNow 135 = .ok (.iastore, 1) := dk_79 (dk_at dksX2_isRefutedNow_5 15 rfl rfl)
theorem dX2_isRefutedNow_136 : decode cX2_isRefutedNow 136 = .ok (.iconst 1, 1) := dk_4 (dk_at dksX2_isRefutedNow_5 16 rfl rfl)
theorem dX2_isRefutedNow_137 : decode cX2_isRefutedNow 137 = .ok (.ireturn, 1) := dk_172 (dk_at dksX2_isRefutedNow_5 17 rfl rfl)
abbrev cX2_drawnBy : ByteArray := prog_20_method_76_code
def yX2_drawnBy : MethodName := ⟨RX2, "drawnBy", "(I)I"⟩
def dkwX2_drawnBy_0 : List UInt8 := [42, 180, 0, 7, 16, 6, 46, 27, 112, 61, 42, 182, 1, 69, 28, 172]
abbrev dktX2_drawnBy_0 : List UInt8 := dkwX2_drawnBy_0 ++ []
theorem dksX2_drawnBy_0 : cX2_drawnBy.data.toList.drop 0 = dktX2_drawnBy_0 := by decide +kernel
theorem dX2_drawnBy_0 : decode cX2_drawnBy 0 = .ok (.aload_n 0, 1) := dk_42 (dk_at dksX2_drawnBy_0 0 rfl rfl)
theorem dX2_drawnBy_1 : decode cX2_drawnBy 1 = .ok (.getfield 7, 3) := dk_180 0 7 (dk_at dksX2_drawnBy_0 1 rfl rfl)
theorem dX2_drawnBy_4 : decode cX2_drawnBy 4 = .ok (.bipush 6, 2) := dk_16 6 (dk_at dksX2_drawnBy_0 4 rfl rfl)
theorem dX2_drawnBy_6 : decode cX2_drawnBy 6 = .ok (.iaload, 1) := dk_46 (dk_at dksX2_drawnBy_0 6 rfl rfl)
theorem dX2_drawnBy_7 : decode cX2_drawnBy 7 = .ok (.iload_n 1, 1) := dk_27 (dk_at dksX2_drawnBy_0 7 rfl rfl)
theorem dX2_drawnBy_8 : decode cX2_drawnBy 8 = .ok (.irem, 1) := dk_112 (dk_at dksX2_drawnBy_0 8 rfl rfl)
theorem dX2_drawnBy_9 : decode cX2_drawnBy 9 = .ok (.istore_n 2, 1) := dk_61 (dk_at dksX2_drawnBy_0 9 rfl rfl)
theorem dX2_drawnBy_10 : decode cX2_drawnBy 10 = .ok (.aload_n 0, 1) := dk_42 (dk_at dksX2_drawnBy_0 10 rfl rfl)
theorem dX2_drawnBy_11 : decode cX2_drawnBy 11 = .ok (.invokevirtual 325, 3) := dk_182 1 69 (dk_at dksX2_drawnBy_0 11 rfl rfl)
theorem dX2_drawnBy_14 : decode cX2_drawnBy 14 = .ok (.iload_n 2, 1) := dk_28 (dk_at dksX2_drawnBy_0 14 rfl rfl)
theorem dX2_drawnBy_15 : decode cX2_drawnBy 15 = .ok (.ireturn, 1) := dk_172 (dk_at dksX2_drawnBy_0 15 rfl rfl)
abbrev cX2_anew : ByteArray := prog_20_method_77_code
def yX2_anew : MethodName := ⟨RX2, "anew", "()V"⟩
def dkwX2_anew_1 : List UInt8 := [20, 1, 76, 113, 136, 79, 177]
abbrev dktX2_anew_1 : List UInt8 := dkwX2_anew_1 ++ []
def dkwX2_anew_0 : List UInt8 := [42, 180, 0, 7, 16, 6, 42, 180, 0, 7, 16, 6, 46, 133, 20, 1, 72, 105, 20, 1, 74, 97]
abbrev dktX2_anew_0 : List UInt8 := dkwX2_anew_0 ++ dktX2_anew_1
theorem dksX2_anew_0 : cX2_anew.data.toList.drop 0 = dktX2_anew_0 := by decide +kernel
theorem dksX2_anew_1 : cX2_anew.data.toList.drop 22 = dktX2_anew_1 := dk_seg dksX2_anew_0 22 rfl rfl
theorem dX2_anew_0 : decode cX2_anew 0 = .ok (.aload_n 0, 1) := dk_42 (dk_at dksX2_anew_0 0 rfl rfl)
theorem dX2_anew_1 : decode cX2_anew 1 = .ok (.getfield 7, 3) := dk_180 0 7 (dk_at dksX2_anew_0 1 rfl rfl)
theorem dX2_anew_4 : decode cX2_anew 4 = .ok (.bipush 6, 2) := dk_16 6 (dk_at dksX2_anew_0 4 rfl rfl)
theorem dX2_anew_6 : decode cX2_anew 6 = .ok (.aload_n 0, 1) := dk_42 (dk_at dksX2_anew_0 6 rfl rfl)
theorem dX2_anew_7 : decode cX2_anew 7 = .ok (.getfield 7, 3) := dk_180 0 7 (dk_at dksX2_anew_0 7 rfl rfl)
theorem dX2_anew_10 : decode cX2_anew 10 = .ok (.bipush 6, 2) := dk_16 6 (dk_at dksX2_anew_0 10 rfl rfl)
theorem dX2_anew_12 : decode cX2_anew 12 = .ok (.iaload, 1) := dk_46 (dk_at dksX2_anew_0 12 rfl rfl)
theorem dX2_anew_13 : decode cX2_anew 13 = .ok (.i2l, 1) := dk_133 (dk_at dksX2_anew_0 13 rfl rfl)
theorem dX2_anew_14 : decode cX2_anew 14 = .ok (.ldc2_w 328, 3) := dk_20 1 72 (dk_at dksX2_anew_0 14 rfl rfl)
theorem dX2_anew_17 : decode cX2_anew 17 = .ok (.lmul, 1) := dk_105 (dk_at dksX2_anew_0 17 rfl rfl)
theorem dX2_anew_18 : decode cX2_anew 18 = .ok (.ldc2_w 330, 3) := dk_20 1 74 (dk_at dksX2_anew_0 18 rfl rfl)
theorem dX2_anew_21 : decode cX2_anew 21 = .ok (.ladd, 1) := dk_97 (dk_at dksX2_anew_0 21 rfl rfl)
theorem dX2_anew_22 : decode cX2_anew 22 = .ok (.ldc2_w 332, 3) := dk_20 1 76 (dk_at dksX2_anew_1 0 rfl rfl)
theorem dX2_anew_25 : decode cX2_anew 25 = .ok (.lrem, 1) := dk_113 (dk_at dksX2_anew_1 3 rfl rfl)
theorem dX2_anew_26 : decode cX2_anew 26 = .ok (.l2i, 1) := dk_136 (dk_at dksX2_anew_1 4 rfl rfl)
theorem dX2_anew_27 : decode cX2_anew 27 = .ok (.iastore, 1) := dk_79 (dk_at dksX2_anew_1 5 rfl rfl)
theorem dX2_anew_28 : decode cX2_anew 28 = .ok (.return_, 1) := dk_177 (dk_at dksX2_anew_1 6 rfl rfl)
abbrev cX2_cut : ByteArray := prog_20_method_4_code
def yX2_cut : MethodName := ⟨RX2, "cut", "(JII)I"⟩
def dkwX2_cut_1 : List UInt8 := [172]
abbrev dktX2_cut_1 : List UInt8 := dkwX2_cut_1 ++ []
def dkwX2_cut_0 : List UInt8 := [30, 28, 133, 148, 156, 0, 7, 28, 167, 0, 16, 30, 29, 133, 148, 158, 0, 7, 29, 167, 0, 5, 30, 136]
abbrev dktX2_cut_0 : List UInt8 := dkwX2_cut_0 ++ dktX2_cut_1
theorem dksX2_cut_0 : cX2_cut.data.toList.drop 0 = dktX2_cut_0 := by decide +kernel
theorem dksX2_cut_1 : cX2_cut.data.toList.drop 24 = dktX2_cut_1 := dk_seg dksX2_cut_0 24 rfl rfl
theorem dX2_cut_0 : decode cX2_cut 0 = .ok (.lload_n 0, 1) := dk_30 (dk_at dksX2_cut_0 0 rfl rfl)
theorem dX2_cut_1 : decode cX2_cut 1 = .ok (.iload_n 2, 1) := dk_28 (dk_at dksX2_cut_0 1 rfl rfl)
theorem dX2_cut_2 : decode cX2_cut 2 = .ok (.i2l, 1) := dk_133 (dk_at dksX2_cut_0 2 rfl rfl)
theorem dX2_cut_3 : decode cX2_cut 3 = .ok (.lcmp, 1) := dk_148 (dk_at dksX2_cut_0 3 rfl rfl)
theorem dX2_cut_4 : decode cX2_cut 4 = .ok (.ifCond .ge 7, 3) := dk_156 0 7 (dk_at dksX2_cut_0 4 rfl rfl)
theorem dX2_cut_7 : decode cX2_cut 7 = .ok (.iload_n 2, 1) := dk_28 (dk_at dksX2_cut_0 7 rfl rfl)
theorem dX2_cut_8 : decode cX2_cut 8 = .ok (.goto 16, 3) := dk_167 0 16 (dk_at dksX2_cut_0 8 rfl rfl)
theorem dX2_cut_11 : decode cX2_cut 11 = .ok (.lload_n 0, 1) := dk_30 (dk_at dksX2_cut_0 11 rfl rfl)
theorem dX2_cut_12 : decode cX2_cut 12 = .ok (.iload_n 3, 1) := dk_29 (dk_at dksX2_cut_0 12 rfl rfl)
theorem dX2_cut_13 : decode cX2_cut 13 = .ok (.i2l, 1) := dk_133 (dk_at dksX2_cut_0 13 rfl rfl)
theorem dX2_cut_14 : decode cX2_cut 14 = .ok (.lcmp, 1) := dk_148 (dk_at dksX2_cut_0 14 rfl rfl)
theorem dX2_cut_15 : decode cX2_cut 15 = .ok (.ifCond .le 7, 3) := dk_158 0 7 (dk_at dksX2_cut_0 15 rfl rfl)
theorem dX2_cut_18 : decode cX2_cut 18 = .ok (.iload_n 3, 1) := dk_29 (dk_at dksX2_cut_0 18 rfl rfl)
theorem dX2_cut_19 : decode cX2_cut 19 = .ok (.goto 5, 3) := dk_167 0 5 (dk_at dksX2_cut_0 19 rfl rfl)
theorem dX2_cut_22 : decode cX2_cut 22 = .ok (.lload_n 0, 1) := dk_30 (dk_at dksX2_cut_0 22 rfl rfl)
theorem dX2_cut_23 : decode cX2_cut 23 = .ok (.l2i, 1) := dk_136 (dk_at dksX2_cut_0 23 rfl rfl)
theorem dX2_cut_24 : decode cX2_cut 24 = .ok (.ireturn, 1) := dk_172 (dk_at dksX2_cut_1 0 rfl rfl)
abbrev cX2_bits : ByteArray := prog_20_method_6_code
def yX2_bits : MethodName := ⟨RX2, "bits", "(I)I"⟩
def dkwX2_bits_0 : List UInt8 := [3, 60, 26, 61, 28, 153, 0, 15, 132, 1, 1, 28, 28, 4, 100, 126, 61, 167, 255, 243, 27, 172]
abbrev dktX2_bits_0 : List UInt8 := dkwX2_bits_0 ++ []
theorem dksX2_bits_0 : cX2_bits.data.toList.drop 0 = dktX2_bits_0 := by decide +kernel
theorem dX2_bits_0 : decode cX2_bits 0 = .ok (.iconst 0, 1) := dk_3 (dk_at dksX2_bits_0 0 rfl rfl)
theorem dX2_bits_1 : decode cX2_bits 1 = .ok (.istore_n 1, 1) := dk_60 (dk_at dksX2_bits_0 1 rfl rfl)
theorem dX2_bits_2 : decode cX2_bits 2 = .ok (.iload_n 0, 1) := dk_26 (dk_at dksX2_bits_0 2 rfl rfl)
theorem dX2_bits_3 : decode cX2_bits 3 = .ok (.istore_n 2, 1) := dk_61 (dk_at dksX2_bits_0 3 rfl rfl)
theorem dX2_bits_4 : decode cX2_bits 4 = .ok (.iload_n 2, 1) := dk_28 (dk_at dksX2_bits_0 4 rfl rfl)
theorem dX2_bits_5 : decode cX2_bits 5 = .ok (.ifCond .eq 15, 3) := dk_153 0 15 (dk_at dksX2_bits_0 5 rfl rfl)
theorem dX2_bits_8 : decode cX2_bits 8 = .ok (.iinc 1 1, 3) := dk_132 1 1 (dk_at dksX2_bits_0 8 rfl rfl)
theorem dX2_bits_11 : decode cX2_bits 11 = .ok (.iload_n 2, 1) := dk_28 (dk_at dksX2_bits_0 11 rfl rfl)
theorem dX2_bits_12 : decode cX2_bits 12 = .ok (.iload_n 2, 1) := dk_28 (dk_at dksX2_bits_0 12 rfl rfl)
theorem dX2_bits_13 : decode cX2_bits 13 = .ok (.iconst 1, 1) := dk_4 (dk_at dksX2_bits_0 13 rfl rfl)
theorem dX2_bits_14 : decode cX2_bits 14 = .ok (.isub, 1) := dk_100 (dk_at dksX2_bits_0 14 rfl rfl)
theorem dX2_bits_15 : decode cX2_bits 15 = .ok (.iand, 1) := dk_126 (dk_at dksX2_bits_0 15 rfl rfl)
theorem dX2_bits_16 : decode cX2_bits 16 = .ok (.istore_n 2, 1) := dk_61 (dk_at dksX2_bits_0 16 rfl rfl)
theorem dX2_bits_17 : decode cX2_bits 17 = .ok (.goto (-13), 3) := dk_167 255 243 (dk_at dksX2_bits_0 17 rfl rfl)
theorem dX2_bits_20 : decode cX2_bits 20 = .ok (.iload_n 1, 1) := dk_27 (dk_at dksX2_bits_0 20 rfl rfl)
theorem dX2_bits_21 : decode cX2_bits 21 = .ok (.ireturn, 1) := dk_172 (dk_at dksX2_bits_0 21 rfl rfl)
abbrev cX2_taken : ByteArray := prog_20_method_82_code
def yX2_taken : MethodName := ⟨RX2, "taken", "(II)I"⟩
def dkwX2_taken_3 : List UInt8 := [104, 96, 29, 79, 28, 4, 29, 120, 2, 130, 126, 172]
abbrev dktX2_taken_3 : List UInt8 := dkwX2_taken_3 ++ []
def dkwX2_taken_2 : List UInt8 := [29, 182, 1, 93, 164, 0, 6, 21, 4, 62, 132, 4, 1, 167, 255, 202, 42, 180, 0, 7, 16, 17, 5, 27]
abbrev dktX2_taken_2 : List UInt8 := dkwX2_taken_2 ++ dktX2_taken_3
def dkwX2_taken_1 : List UInt8 := [159, 0, 31, 42, 42, 180, 0, 7, 5, 46, 27, 21, 4, 182, 1, 93, 42, 42, 180, 0, 7, 5, 46, 27]
abbrev dktX2_taken_1 : List UInt8 := dkwX2_taken_1 ++ dktX2_taken_2
def dkwX2_taken_0 : List UInt8 := [2, 62, 3, 54, 4, 21, 4, 8, 162, 0, 54, 28, 21, 4, 184, 0, 87, 153, 0, 39, 29, 2]
abbrev dktX2_taken_0 : List UInt8 := dkwX2_taken_0 ++ dktX2_taken_1
theorem dksX2_taken_0 : cX2_taken.data.toList.drop 0 = dktX2_taken_0 := by decide +kernel
theorem dksX2_taken_1 : cX2_taken.data.toList.drop 22 = dktX2_taken_1 := dk_seg dksX2_taken_0 22 rfl rfl
theorem dksX2_taken_2 : cX2_taken.data.toList.drop 46 = dktX2_taken_2 := dk_seg dksX2_taken_1 24 rfl rfl
theorem dksX2_taken_3 : cX2_taken.data.toList.drop 70 = dktX2_taken_3 := dk_seg dksX2_taken_2 24 rfl rfl
theorem dX2_taken_0 : decode cX2_taken 0 = .ok (.iconst (-1), 1) := dk_2 (dk_at dksX2_taken_0 0 rfl rfl)
theorem dX2_taken_1 : decode cX2_taken 1 = .ok (.istore_n 3, 1) := dk_62 (dk_at dksX2_taken_0 1 rfl rfl)
theorem dX2_taken_2 : decode cX2_taken 2 = .ok (.iconst 0, 1) := dk_3 (dk_at dksX2_taken_0 2 rfl rfl)
theorem dX2_taken_3 : decode cX2_taken 3 = .ok (.istore 4, 2) := dk_54 4 (dk_at dksX2_taken_0 3 rfl rfl)
theorem dX2_taken_5 : decode cX2_taken 5 = .ok (.iload 4, 2) := dk_21 4 (dk_at dksX2_taken_0 5 rfl rfl)
theorem dX2_taken_7 : decode cX2_taken 7 = .ok (.iconst 5, 1) := dk_8 (dk_at dksX2_taken_0 7 rfl rfl)
theorem dX2_taken_8 : decode cX2_taken 8 = .ok (.if_icmp .ge 54, 3) := dk_162 0 54 (dk_at dksX2_taken_0 8 rfl rfl)
theorem dX2_taken_11 : decode cX2_taken 11 = .ok (.iload_n 2, 1) := dk_28 (dk_at dksX2_taken_0 11 rfl rfl)
theorem dX2_taken_12 : decode cX2_taken 12 = .ok (.iload 4, 2) := dk_21 4 (dk_at dksX2_taken_0 12 rfl rfl)
theorem dX2_taken_14 : decode cX2_taken 14 = .ok (.invokestatic 87, 3) := dk_184 0 87 (dk_at dksX2_taken_0 14 rfl rfl)
theorem dX2_taken_17 : decode cX2_taken 17 = .ok (.ifCond .eq 39, 3) := dk_153 0 39 (dk_at dksX2_taken_0 17 rfl rfl)
theorem dX2_taken_20 : decode cX2_taken 20 = .ok (.iload_n 3, 1) := dk_29 (dk_at dksX2_taken_0 20 rfl rfl)
theorem dX2_taken_21 : decode cX2_taken 21 = .ok (.iconst (-1), 1) := dk_2 (dk_at dksX2_taken_0 21 rfl rfl)
theorem dX2_taken_22 : decode cX2_taken 22 = .ok (.if_icmp .eq 31, 3) := dk_159 0 31 (dk_at dksX2_taken_1 0 rfl rfl)
theorem dX2_taken_25 : decode cX2_taken 25 = .ok (.aload_n 0, 1) := dk_42 (dk_at dksX2_taken_1 3 rfl rfl)
theorem dX2_taken_26 : decode cX2_taken 26 = .ok (.aload_n 0, 1) := dk_42 (dk_at dksX2_taken_1 4 rfl rfl)
theorem dX2_taken_27 : decode cX2_taken 27 = .ok (.getfield 7, 3) := dk_180 0 7 (dk_at dksX2_taken_1 5 rfl rfl)
theorem dX2_taken_30 : decode cX2_taken 30 = .ok (.iconst 2, 1) := dk_5 (dk_at dksX2_taken_1 8 rfl rfl)
theorem dX2_taken_31 : decode cX2_taken 31 = .ok (.iaload, 1) := dk_46 (dk_at dksX2_taken_1 9 rfl rfl)
theorem dX2_taken_32 : decode cX2_taken 32 = .ok (.iload_n 1, 1) := dk_27 (dk_at dksX2_taken_1 10 rfl rfl)
theorem dX2_taken_33 : decode cX2_taken 33 = .ok (.iload 4, 2) := dk_21 4 (dk_at dksX2_taken_1 11 rfl rfl)
theorem dX2_taken_35 : decode cX2_taken 35 = .ok (.invokevirtual 349, 3) := dk_182 1 93 (dk_at dksX2_taken_1 13 rfl rfl)
theorem dX2_taken_38 : decode cX2_taken 38 = .ok (.aload_n 0, 1) := dk_42 (dk_at dksX2_taken_1 16 rfl rfl)
theorem dX2_taken_39 : decode cX2_taken 39 = .ok (.aload_n 0, 1) := dk_42 (dk_at dksX2_taken_1 17 rfl rfl)
theorem dX2_taken_40 : decode cX2_taken 40 = .ok (.getfield 7, 3) := dk_180 0 7 (dk_at dksX2_taken_1 18 rfl rfl)
theorem dX2_taken_43 : decode cX2_taken 43 = .ok (.iconst 2, 1) := dk_5 (dk_at dksX2_taken_1 21 rfl rfl)
theorem dX2_taken_44 : decode cX2_taken 44 = .ok (.iaload, 1) := dk_46 (dk_at dksX2_taken_1 22 rfl rfl)
theorem dX2_taken_45 : decode cX2_taken 45 = .ok (.iload_n 1, 1) := dk_27 (dk_at dksX2_taken_1 23 rfl rfl)
theorem dX2_taken_46 : decode cX2_taken 46 = .ok (.iload_n 3, 1) := dk_29 (dk_at dksX2_taken_2 0 rfl rfl)
theorem dX2_taken_47 : decode cX2_taken 47 = .ok (.invokevirtual 349, 3) := dk_182 1 93 (dk_at dksX2_taken_2 1 rfl rfl)
theorem dX2_taken_50 : decode cX2_taken 50 = .ok (.if_icmp .le 6, 3) := dk_164 0 6 (dk_at dksX2_taken_2 4 rfl rfl)
theorem dX2_taken_53 : decode cX2_taken 53 = .ok (.iload 4, 2) := dk_21 4 (dk_at dksX2_taken_2 7 rfl rfl)
theorem dX2_taken_55 : decode cX2_taken 55 = .ok (.istore_n 3, 1) := dk_62 (dk_at dksX2_taken_2 9 rfl rfl)
theorem dX2_taken_56 : decode cX2_taken 56 = .ok (.iinc 4 1, 3) := dk_132 4 1 (dk_at dksX2_taken_2 10 rfl rfl)
theorem dX2_taken_59 : decode cX2_taken 59 = .ok (.goto (-54), 3) := dk_167 255 202 (dk_at dksX2_taken_2 13 rfl rfl)
theorem dX2_taken_62 : decode cX2_taken 62 = .ok (.aload_n 0, 1) := dk_42 (dk_at dksX2_taken_2 16 rfl rfl)
theorem dX2_taken_63 : decode cX2_taken 63 = .ok (.getfield 7, 3) := dk_180 0 7 (dk_at dksX2_taken_2 17 rfl rfl)
theorem dX2_taken_66 : decode cX2_taken 66 = .ok (.bipush 17, 2) := dk_16 17 (dk_at dksX2_taken_2 20 rfl rfl)
theorem dX2_taken_68 : decode cX2_taken 68 = .ok (.iconst 2, 1) := dk_5 (dk_at dksX2_taken_2 22 rfl rfl)
theorem dX2_taken_69 : decode cX2_taken 69 = .ok (.iload_n 1, 1) := dk_27 (dk_at dksX2_taken_2 23 rfl rfl)
theorem dX2_taken_70 : decode cX2_taken 70 = .ok (.imul, 1) := dk_104 (dk_at dksX2_taken_3 0 rfl rfl)
theorem dX2_taken_71 : decode cX2_taken 71 = .ok (.iadd, 1) := dk_96 (dk_at dksX2_taken_3 1 rfl rfl)
theorem dX2_taken_72 : decode cX2_taken 72 = .ok (.iload_n 3, 1) := dk_29 (dk_at dksX2_taken_3 2 rfl rfl)
theorem dX2_taken_73 : decode cX2_taken 73 = .ok (.iastore, 1) := dk_79 (dk_at dksX2_taken_3 3 rfl rfl)
theorem dX2_taken_74 : decode cX2_taken 74 = .ok (.iload_n 2, 1) := dk_28 (dk_at dksX2_taken_3 4 rfl rfl)
theorem dX2_taken_75 : decode cX2_taken 75 = .ok (.iconst 1, 1) := dk_4 (dk_at dksX2_taken_3 5 rfl rfl)
theorem dX2_taken_76 : decode cX2_taken 76 = .ok (.iload_n 3, 1) := dk_29 (dk_at dksX2_taken_3 6 rfl rfl)
theorem dX2_taken_77 : decode cX2_taken 77 = .ok (.ishl, 1) := dk_120 (dk_at dksX2_taken_3 7 rfl rfl)
theorem dX2_taken_78 : decode cX2_taken 78 = .ok (.iconst (-1), 1) := dk_2 (dk_at dksX2_taken_3 8 rfl rfl)
theorem dX2_taken_79 : decode cX2_taken 79 = .ok (.ixor, 1) := dk_130 (dk_at dksX2_taken_3 9 rfl rfl)
theorem dX2_taken_80 : decode cX2_taken 80 = .ok (.iand, 1) := dk_126 (dk_at dksX2_taken_3 10 rfl rfl)
theorem dX2_taken_81 : decode cX2_taken 81 = .ok (.ireturn, 1) := dk_172 (dk_at dksX2_taken_3 11 rfl rfl)
abbrev cX2_worthBy : ByteArray := prog_20_method_74_code
def yX2_worthBy : MethodName := ⟨RX2, "worthBy", "(III)I"⟩
def dkwX2_worthBy_5 : List UInt8 := [16, 157, 16, 99, 184, 1, 62, 172, 132, 4, 1, 167, 255, 199, 42, 180, 0, 32, 8, 46, 172]
abbrev dktX2_worthBy_5 : List UInt8 := dkwX2_worthBy_5 ++ []
def dkwX2_worthBy_4 : List UInt8 := [17, 2, 202, 27, 104, 4, 96, 7, 21, 4, 104, 96, 46, 154, 0, 18, 42, 27, 21, 4, 182, 1, 53]
abbrev dktX2_worthBy_4 : List UInt8 := dkwX2_worthBy_4 ++ dktX2_worthBy_5
def dkwX2_worthBy_3 : List UInt8 := [27, 155, 0, 59, 21, 4, 42, 180, 0, 16, 17, 2, 202, 27, 104, 46, 162, 0, 44, 42, 180, 0, 16]
abbrev dktX2_worthBy_3 : List UInt8 := dkwX2_worthBy_3 ++ dktX2_worthBy_4
def dkwX2_worthBy_2 : List UInt8 := [180, 0, 7, 16, 27, 28, 96, 46, 79, 42, 180, 0, 32, 8, 42, 28, 29, 182, 1, 59, 79, 3, 54, 4]
abbrev dktX2_worthBy_2 : List UInt8 := dkwX2_worthBy_2 ++ dktX2_worthBy_3
def dkwX2_worthBy_1 : List UInt8 := [42, 180, 0, 7, 16, 32, 29, 96, 46, 79, 42, 180, 0, 32, 6, 28, 79, 42, 180, 0, 32, 7, 42]
abbrev dktX2_worthBy_1 : List UInt8 := dkwX2_worthBy_1 ++ dktX2_worthBy_2
def dkwX2_worthBy_0 : List UInt8 := [42, 180, 0, 32, 3, 42, 180, 0, 7, 8, 46, 79, 42, 180, 0, 32, 4, 29, 79, 42, 180, 0, 32, 5]
abbrev dktX2_worthBy_0 : List UInt8 := dkwX2_worthBy_0 ++ dktX2_worthBy_1
theorem dksX2_worthBy_0 : cX2_worthBy.data.toList.drop 0 = dktX2_worthBy_0 := by decide +kernel
theorem dksX2_worthBy_1 : cX2_worthBy.data.toList.drop 24 = dktX2_worthBy_1 := dk_seg dksX2_worthBy_0 24 rfl rfl
theorem dksX2_worthBy_2 : cX2_worthBy.data.toList.drop 47 = dktX2_worthBy_2 := dk_seg dksX2_worthBy_1 23 rfl rfl
theorem dksX2_worthBy_3 : cX2_worthBy.data.toList.drop 71 = dktX2_worthBy_3 := dk_seg dksX2_worthBy_2 24 rfl rfl
theorem dksX2_worthBy_4 : cX2_worthBy.data.toList.drop 94 = dktX2_worthBy_4 := dk_seg dksX2_worthBy_3 23 rfl rfl
theorem dksX2_worthBy_5 : cX2_worthBy.data.toList.drop 117 = dktX2_worthBy_5 := dk_seg dksX2_worthBy_4 23 rfl rfl
theorem dX2_worthBy_0 : decode cX2_worthBy 0 = .ok (.aload_n 0, 1) := dk_42 (dk_at dksX2_worthBy_0 0 rfl rfl)
theorem dX2_worthBy_1 : decode cX2_worthBy 1 = .ok (.getfield 32, 3) := dk_180 0 32 (dk_at dksX2_worthBy_0 1 rfl rfl)
theorem dX2_worthBy_4 : decode cX2_worthBy 4 = .ok (.iconst 0, 1) := dk_3 (dk_at dksX2_worthBy_0 4 rfl rfl)
theorem dX2_worthBy_5 : decode cX2_worthBy 5 = .ok (.aload_n 0, 1) := dk_42 (dk_at dksX2_worthBy_0 5 rfl rfl)
theorem dX2_worthBy_6 : decode cX2_worthBy 6 = .ok (.getfield 7, 3) := dk_180 0 7 (dk_at dksX2_worthBy_0 6 rfl rfl)
theorem dX2_worthBy_9 : decode cX2_worthBy 9 = .ok (.iconst 5, 1) := dk_8 (dk_at dksX2_worthBy_0 9 rfl rfl)
theorem dX2_worthBy_10 : decode cX2_worthBy 10 = .ok (.iaload, 1) := dk_46 (dk_at dksX2_worthBy_0 10 rfl rfl)
theorem dX2_worthBy_11 : decode cX2_worthBy 11 = .ok (.iastore, 1) := dk_79 (dk_at dksX2_worthBy_0 11 rfl rfl)
theorem dX2_worthBy_12 : decode cX2_worthBy 12 = .ok (.aload_n 0, 1) := dk_42 (dk_at dksX2_worthBy_0 12 rfl rfl)
theorem dX2_worthBy_13 : decode cX2_worthBy 13 = .ok (.getfield 32, 3) := dk_180 0 32 (dk_at dksX2_worthBy_0 13 rfl rfl)
theorem dX2_worthBy_16 : decode cX2_worthBy 16 = .ok (.iconst 1, 1) := dk_4 (dk_at dksX2_worthBy_0 16 rfl rfl)
theorem dX2_worthBy_17 : decode cX2_worthBy 17 = .ok (.iload_n 3, 1) := dk_29 (dk_at dksX2_worthBy_0 17 rfl rfl)
theorem dX2_worthBy_18 : decode cX2_worthBy 18 = .ok (.iastore, 1) := dk_79 (dk_at dksX2_worthBy_0 18 rfl rfl)
theorem dX2_worthBy_19 : decode cX2_worthBy 19 = .ok (.aload_n 0, 1) := dk_42 (dk_at dksX2_worthBy_0 19 rfl rfl)
theorem dX2_worthBy_20 : decode cX2_worthBy 20 = .ok (.getfield 32, 3) := dk_180 0 32 (dk_at dksX2_worthBy_0 20 rfl rfl)
theorem dX2_worthBy_23 : decode cX2_worthBy 23 = .ok (.iconst 2, 1) := dk_5 (dk_at dksX2_worthBy_0 23 rfl rfl)
theorem dX2_worthBy_24 : decode cX2_worthBy 24 = .ok (.aload_n 0, 1) := dk_42 (dk_at dksX2_worthBy_1 0 rfl rfl)
theorem dX2_worthBy_25 : decode cX2_worthBy 25 = .ok (.getfield 7, 3) := dk_180 0 7 (dk_at dksX2_worthBy_1 1 rfl rfl)
theorem dX2_worthBy_28 : decode cX2_worthBy 28 = .ok (.bipush 32, 2) := dk_16 32 (dk_at dksX2_worthBy_1 4 rfl rfl)
theorem dX2_worthBy_30 : decode cX2_worthBy 30 = .ok (.iload_n 3, 1) := dk_29 (dk_at dksX2_worthBy_1 6 rfl rfl)
theorem dX2_worthBy_31 : decode cX2_worthBy 31 = .ok (.iadd, 1) := dk_96 (dk_at dksX2_worthBy_1 7 rfl rfl)
theorem dX2_worthBy_32 : decode cX2_worthBy 32 = .ok (.iaload, 1) := dk_46 (dk_at dksX2_worthBy_1 8 rfl rfl)
theorem dX2_worthBy_33 : decode cX2_worthBy 33 = .ok (.iastore, 1) := dk_79 (dk_at dksX2_worthBy_1 9 rfl rfl)
theorem dX2_worthBy_34 : decode cX2_worthBy 34 = .ok (.aload_n 0, 1) := dk_42 (dk_at dksX2_worthBy_1 10 rfl rfl)
theorem dX2_worthBy_35 : decode cX2_worthBy 35 = .ok (.getfield 32, 3) := dk_180 0 32 (dk_at dksX2_worthBy_1 11 rfl rfl)
theorem dX2_worthBy_38 : decode cX2_worthBy 38 = .ok (.iconst 3, 1) := dk_6 (dk_at dksX2_worthBy_1 14 rfl rfl)
theorem dX2_worthBy_39 : decode cX2_worthBy 39 = .ok (.iload_n 2, 1) := dk_28 (dk_at dksX2_worthBy_1 15 rfl rfl)
theorem dX2_worthBy_40 : decode cX2_worthBy 40 = .ok (.iastore, 1) := dk_79 (dk_at dksX2_worthBy_1 16 rfl rfl)
theorem dX2_worthBy_41 : decode cX2_worthBy 41 = .ok (.aload_n 0, 1) := dk_42 (dk_at dksX2_worthBy_1 17 rfl rfl)
theorem dX2_worthBy_42 : decode cX2_worthBy 42 = .ok (.getfield 32, 3) := dk_180 0 32 (dk_at dksX2_worthBy_1 18 rfl rfl)
theorem dX2_worthBy_45 : decode cX2_worthBy 45 = .ok (.iconst 4, 1) := dk_7 (dk_at dksX2_worthBy_1 21 rfl rfl)
theorem dX2_worthBy_46 : decode cX2_worthBy 46 = .ok (.aload_n 0, 1) := dk_42 (dk_at dksX2_worthBy_1 22 rfl rfl)
theorem dX2_worthBy_47 : decode cX2_worthBy 47 = .ok (.getfield 7, 3) := dk_180 0 7 (dk_at dksX2_worthBy_2 0 rfl rfl)
theorem dX2_worthBy_50 : decode cX2_worthBy 50 = .ok (.bipush 27, 2) := dk_16 27 (dk_at dksX2_worthBy_2 3 rfl rfl)
theorem dX2_worthBy_52 : decode cX2_worthBy 52 = .ok (.iload_n 2, 1) := dk_28 (dk_at dksX2_worthBy_2 5 rfl rfl)
theorem dX2_worthBy_53 : decode cX2_worthBy 53 = .ok (.iadd, 1) := dk_96 (dk_at dksX2_worthBy_2 6 rfl rfl)
theorem dX2_worthBy_54 : decode cX2_worthBy 54 = .ok (.iaload, 1) := dk_46 (dk_at dksX2_worthBy_2 7 rfl rfl)
theorem dX2_worthBy_55 : decode cX2_worthBy 55 = .ok (.iastore, 1) := dk_79 (dk_at dksX2_worthBy_2 8 rfl rfl)
theorem dX2_worthBy_56 : decode cX2_worthBy 56 = .ok (.aload_n 0, 1) := dk_42 (dk_at dksX2_worthBy_2 9 rfl rfl)
theorem dX2_worthBy_57 : decode cX2_worthBy 57 = .ok (.getfield 32, 3) := dk_180 0 32 (dk_at dksX2_worthBy_2 10 rfl rfl)
theorem dX2_worthBy_60 : decode cX2_worthBy 60 = .ok (.iconst 5, 1) := dk_8 (dk_at dksX2_worthBy_2 13 rfl rfl)
theorem dX2_worthBy_61 : decode cX2_worthBy 61 = .ok (.aload_n 0, 1) := dk_42 (dk_at dksX2_worthBy_2 14 rfl rfl)
theorem dX2_worthBy_62 : decode cX2_worthBy 62 = .ok (.iload_n 2, 1) := dk_28 (dk_at dksX2_worthBy_2 15 rfl rfl)
theorem dX2_worthBy_63 : decode cX2_worthBy 63 = .ok (.iload_n 3, 1) := dk_29 (dk_at dksX2_worthBy_2 16 rfl rfl)
theorem dX2_worthBy_64 : decode cX2_worthBy 64 = .ok (.invokevirtual 315, 3) := dk_182 1 59 (dk_at dksX2_worthBy_2 17 rfl rfl)
theorem dX2_worthBy_67 : decode cX2_worthBy 67 = .ok (.iastore, 1) := dk_79 (dk_at dksX2_worthBy_2 20 rfl rfl)
theorem dX2_worthBy_68 : decode cX2_worthBy 68 = .ok (.iconst 0, 1) := dk_3 (dk_at dksX2_worthBy_2 21 rfl rfl)
theorem dX2_worthBy_69 : decode cX2_worthBy 69 = .ok (.istore 4, 2) := dk_54 4 (dk_at dksX2_worthBy_2 22 rfl rfl)
theorem dX2_worthBy_71 : decode cX2_worthBy 71 = .ok (.iload_n 1, 1) := dk_27 (dk_at dksX2_worthBy_3 0 rfl rfl)
theorem dX2_worthBy_72 : decode cX2_worthBy 72 = .ok (.ifCond .lt 59, 3) := dk_155 0 59 (dk_at dksX2_worthBy_3 1 rfl rfl)
theorem dX2_worthBy_75 : decode cX2_worthBy 75 = .ok (.iload 4, 2) := dk_21 4 (dk_at dksX2_worthBy_3 4 rfl rfl)
theorem dX2_worthBy_77 : decode cX2_worthBy 77 = .ok (.aload_n 0, 1) := dk_42 (dk_at dksX2_worthBy_3 6 rfl rfl)
theorem dX2_worthBy_78 : decode cX2_worthBy 78 = .ok (.getfield 16, 3) := dk_180 0 16 (dk_at dksX2_worthBy_3 7 rfl rfl)
theorem dX2_worthBy_81 : decode cX2_worthBy 81 = .ok (.sipush 714, 3) := dk_17 2 202 (dk_at dksX2_worthBy_3 10 rfl rfl)
theorem dX2_worthBy_84 : decode cX2_worthBy 84 = .ok (.iload_n 1, 1) := dk_27 (dk_at dksX2_worthBy_3 13 rfl rfl)
theorem dX2_worthBy_85 : decode cX2_worthBy 85 = .ok (.imul, 1) := dk_104 (dk_at dksX2_worthBy_3 14 rfl rfl)
theorem dX2_worthBy_86 : decode cX2_worthBy 86 = .ok (.iaload, 1) := dk_46 (dk_at dksX2_worthBy_3 15 rfl rfl)
theorem dX2_worthBy_87 : decode cX2_worthBy 87 = .ok (.if_icmp .ge 44, 3) := dk_162 0 44 (dk_at dksX2_worthBy_3 16 rfl rfl)
theorem dX2_worthBy_90 : decode cX2_worthBy 90 = .ok (.aload_n 0, 1) := dk_42 (dk_at dksX2_worthBy_3 19 rfl rfl)
theorem dX2_worthBy_91 : decode cX2_worthBy 91 = .ok (.getfield 16, 3) := dk_180 0 16 (dk_at dksX2_worthBy_3 20 rfl rfl)
theorem dX2_worthBy_94 : decode cX2_worthBy 94 = .ok (.sipush 714, 3) := dk_17 2 202 (dk_at dksX2_worthBy_4 0 rfl rfl)
theorem dX2_worthBy_97 : decode cX2_worthBy 97 = .ok (.iload_n 1, 1) := dk_27 (dk_at dksX2_worthBy_4 3 rfl rfl)
theorem dX2_worthBy_98 : decode cX2_worthBy 98 = .ok (.imul, 1) := dk_104 (dk_at dksX2_worthBy_4 4 rfl rfl)
theorem dX2_worthBy_99 : decode cX2_worthBy 99 = .ok (.iconst 1, 1) := dk_4 (dk_at dksX2_worthBy_4 5 rfl rfl)
theorem dX2_worthBy_100 : decode cX2_worthBy 100 = .ok (.iadd, 1) := dk_96 (dk_at dksX2_worthBy_4 6 rfl rfl)
theorem dX2_worthBy_101 : decode cX2_worthBy 101 = .ok (.iconst 4, 1) := dk_7 (dk_at dksX2_worthBy_4 7 rfl rfl)
theorem dX2_worthBy_102 : decode cX2_worthBy 102 = .ok (.iload 4, 2) := dk_21 4 (dk_at dksX2_worthBy_4 8 rfl rfl)
theorem dX2_worthBy_104 : decode cX2_worthBy 104 = .ok (.imul, 1) := dk_104 (dk_at dksX2_worthBy_4 10 rfl rfl)
theorem dX2_worthBy_105 : decode cX2_worthBy 105 = .ok (.iadd, 1) := dk_96 (dk_at dksX2_worthBy_4 11 rfl rfl)
theorem dX2_worthBy_106 : decode cX2_worthBy 106 = .ok (.iaload, 1) := dk_46 (dk_at dksX2_worthBy_4 12 rfl rfl)
theorem dX2_worthBy_107 : decode cX2_worthBy 107 = .ok (.ifCond .ne 18, 3) := dk_154 0 18 (dk_at dksX2_worthBy_4 13 rfl rfl)
theorem dX2_worthBy_110 : decode cX2_worthBy 110 = .ok (.aload_n 0, 1) := dk_42 (dk_at dksX2_worthBy_4 16 rfl rfl)
theorem dX2_worthBy_111 : decode cX2_worthBy 111 = .ok (.iload_n 1, 1) := dk_27 (dk_at dksX2_worthBy_4 17 rfl rfl)
theorem dX2_worthBy_112 : decode cX2_worthBy 112 = .ok (.iload 4, 2) := dk_21 4 (dk_at dksX2_worthBy_4 18 rfl rfl)
theorem dX2_worthBy_114 : decode cX2_worthBy 114 = .ok (.invokevirtual 309, 3) := dk_182 1 53 (dk_at dksX2_worthBy_4 20 rfl rfl)
theorem dX2_worthBy_117 : decode cX2_worthBy 117 = .ok (.bipush (-99), 2) := dk_16 157 (dk_at dksX2_worthBy_5 0 rfl rfl)
theorem dX2_worthBy_119 : decode cX2_worthBy 119 = .ok (.bipush 99, 2) := dk_16 99 (dk_at dksX2_worthBy_5 2 rfl rfl)
theorem dX2_worthBy_121 : decode cX2_worthBy 121 = .ok (.invokestatic 318, 3) := dk_184 1 62 (dk_at dksX2_worthBy_5 4 rfl rfl)
theorem dX2_worthBy_124 : decode cX2_worthBy 124 = .ok (.ireturn, 1) := dk_172 (dk_at dksX2_worthBy_5 7 rfl rfl)
theorem dX2_worthBy_125 : decode cX2_worthBy 125 = .ok (.iinc 4 1, 3) := dk_132 4 1 (dk_at dksX2_worthBy_5 8 rfl rfl)
theorem dX2_worthBy_128 : decode cX2_worthBy 128 = .ok (.goto (-57), 3) := dk_167 255 199 (dk_at dksX2_worthBy_5 11 rfl rfl)
theorem dX2_worthBy_131 : decode cX2_worthBy 131 = .ok (.aload_n 0, 1) := dk_42 (dk_at dksX2_worthBy_5 14 rfl rfl)
theorem dX2_worthBy_132 : decode cX2_worthBy 132 = .ok (.getfield 32, 3) := dk_180 0 32 (dk_at dksX2_worthBy_5 15 rfl rfl)
theorem dX2_worthBy_135 : decode cX2_worthBy 135 = .ok (.iconst 5, 1) := dk_8 (dk_at dksX2_worthBy_5 18 rfl rfl)
theorem dX2_worthBy_136 : decode cX2_worthBy 136 = .ok (.iaload, 1) := dk_46 (dk_at dksX2_worthBy_5 19 rfl rfl)
theorem dX2_worthBy_137 : decode cX2_worthBy 137 = .ok (.ireturn, 1) := dk_172 (dk_at dksX2_worthBy_5 20 rfl rfl)
abbrev cX2_wantOf : ByteArray := prog_20_method_16_code
def yX2_wantOf : MethodName := ⟨RX2, "wantOf", "(II)I"⟩
def dkwX2_wantOf_0 : List UInt8 := [42, 180, 0, 7, 16, 37, 8, 27, 104, 96, 28, 96, 46, 172]
abbrev dktX2_wantOf_0 : List UInt8 := dkwX2_wantOf_0 ++ []
theorem dksX2_wantOf_0 : cX2_wantOf.data.toList.drop 0 = dktX2_wantOf_0 := by decide +kernel
theorem dX2_wantOf_0 : decode cX2_wantOf 0 = .ok (.aload_n 0, 1) := dk_42 (dk_at dksX2_wantOf_0 0 rfl rfl)
theorem dX2_wantOf_1 : decode cX2_wantOf 1 = .ok (.getfield 7, 3) := dk_180 0 7 (dk_at dksX2_wantOf_0 1 rfl rfl)
theorem dX2_wantOf_4 : decode cX2_wantOf 4 = .ok (.bipush 37, 2) := dk_16 37 (dk_at dksX2_wantOf_0 4 rfl rfl)
theorem dX2_wantOf_6 : decode cX2_wantOf 6 = .ok (.iconst 5, 1) := dk_8 (dk_at dksX2_wantOf_0 6 rfl rfl)
theorem dX2_wantOf_7 : decode cX2_wantOf 7 = .ok (.iload_n 1, 1) := dk_27 (dk_at dksX2_wantOf_0 7 rfl rfl)
theorem dX2_wantOf_8 : decode cX2_wantOf 8 = .ok (.imul, 1) := dk_104 (dk_at dksX2_wantOf_0 8 rfl rfl)
theorem dX2_wantOf_9 : decode cX2_wantOf 9 = .ok (.iadd, 1) := dk_96 (dk_at dksX2_wantOf_0 9 rfl rfl)
theorem dX2_wantOf_10 : decode cX2_wantOf 10 = .ok (.iload_n 2, 1) := dk_28 (dk_at dksX2_wantOf_0 10 rfl rfl)
theorem dX2_wantOf_11 : decode cX2_wantOf 11 = .ok (.iadd, 1) := dk_96 (dk_at dksX2_wantOf_0 11 rfl rfl)
theorem dX2_wantOf_12 : decode cX2_wantOf 12 = .ok (.iaload, 1) := dk_46 (dk_at dksX2_wantOf_0 12 rfl rfl)
theorem dX2_wantOf_13 : decode cX2_wantOf 13 = .ok (.ireturn, 1) := dk_172 (dk_at dksX2_wantOf_0 13 rfl rfl)
abbrev cX2_write : ByteArray := prog_20_method_75_code
def yX2_write : MethodName := ⟨RX2, "write", "(IZ)V"⟩
def dkwX2_write_5 : List UInt8 := [167, 0, 4, 3, 96, 79, 42, 180, 0, 7, 16, 8, 92, 46, 4, 96, 79, 177]
abbrev dktX2_write_5 : List UInt8 := dkwX2_write_5 ++ []
def dkwX2_write_4 : List UInt8 := [42, 180, 0, 47, 27, 46, 96, 4, 96, 8, 104, 42, 27, 182, 1, 66, 96, 5, 104, 28, 153, 0, 7, 4]
abbrev dktX2_write_4 : List UInt8 := dkwX2_write_4 ++ dktX2_write_5
def dkwX2_write_3 : List UInt8 := [17, 5, 66, 42, 180, 0, 7, 16, 8, 46, 96, 42, 180, 0, 7, 8, 46, 8, 104, 27, 96, 16, 9, 104]
abbrev dktX2_write_3 : List UInt8 := dkwX2_write_3 ++ dktX2_write_4
def dkwX2_write_2 : List UInt8 := [96, 46, 79, 132, 3, 1, 167, 255, 225, 42, 180, 0, 7, 16, 8, 92, 46, 4, 100, 79, 42, 180, 0, 7]
abbrev dktX2_write_2 : List UInt8 := dkwX2_write_2 ++ dktX2_write_3
def dkwX2_write_1 : List UInt8 := [16, 20, 162, 0, 31, 42, 180, 0, 7, 17, 5, 66, 29, 96, 4, 100, 42, 180, 0, 7, 17, 5, 66, 29]
abbrev dktX2_write_1 : List UInt8 := dkwX2_write_1 ++ dktX2_write_2
def dkwX2_write_0 : List UInt8 := [42, 180, 0, 43, 154, 0, 4, 177, 42, 180, 0, 7, 16, 8, 46, 16, 20, 160, 0, 50, 4, 62, 29]
abbrev dktX2_write_0 : List UInt8 := dkwX2_write_0 ++ dktX2_write_1
theorem dksX2_write_0 : cX2_write.data.toList.drop 0 = dktX2_write_0 := by decide +kernel
theorem dksX2_write_1 : cX2_write.data.toList.drop 23 = dktX2_write_1 := dk_seg dksX2_write_0 23 rfl rfl
theorem dksX2_write_2 : cX2_write.data.toList.drop 47 = dktX2_write_2 := dk_seg dksX2_write_1 24 rfl rfl
theorem dksX2_write_3 : cX2_write.data.toList.drop 71 = dktX2_write_3 := dk_seg dksX2_write_2 24 rfl rfl
theorem dksX2_write_4 : cX2_write.data.toList.drop 95 = dktX2_write_4 := dk_seg dksX2_write_3 24 rfl rfl
theorem dksX2_write_5 : cX2_write.data.toList.drop 119 = dktX2_write_5 := dk_seg dksX2_write_4 24 rfl rfl
theorem dX2_write_0 : decode cX2_write 0 = .ok (.aload_n 0, 1) := dk_42 (dk_at dksX2_write_0 0 rfl rfl)
theorem dX2_write_1 : decode cX2_write 1 = .ok (.getfield 43, 3) := dk_180 0 43 (dk_at dksX2_write_0 1 rfl rfl)
theorem dX2_write_4 : decode cX2_write 4 = .ok (.ifCond .ne 4, 3) := dk_154 0 4 (dk_at dksX2_write_0 4 rfl rfl)
theorem dX2_write_7 : decode cX2_write 7 = .ok (.return_, 1) := dk_177 (dk_at dksX2_write_0 7 rfl rfl)
theorem dX2_write_8 : decode cX2_write 8 = .ok (.aload_n 0, 1) := dk_42 (dk_at dksX2_write_0 8 rfl rfl)
theorem dX2_write_9 : decode cX2_write 9 = .ok (.getfield 7, 3) := dk_180 0 7 (dk_at dksX2_write_0 9 rfl rfl)
theorem dX2_write_12 : decode cX2_write 12 = .ok (.bipush 8, 2) := dk_16 8 (dk_at dksX2_write_0 12 rfl rfl)
theorem dX2_write_14 : decode cX2_write 14 = .ok (.iaload, 1) := dk_46 (dk_at dksX2_write_0 14 rfl rfl)
theorem dX2_write_15 : decode cX2_write 15 = .ok (.bipush 20, 2) := dk_16 20 (dk_at dksX2_write_0 15 rfl rfl)
theorem dX2_write_17 : decode cX2_write 17 = .ok (.if_icmp .ne 50, 3) := dk_160 0 50 (dk_at dksX2_write_0 17 rfl rfl)
theorem dX2_write_20 : decode cX2_write 20 = .ok (.iconst 1, 1) := dk_4 (dk_at dksX2_write_0 20 rfl rfl)
theorem dX2_write_21 : decode cX2_write 21 = .ok (.istore_n 3, 1) := dk_62 (dk_at dksX2_write_0 21 rfl rfl)
theorem dX2_write_22 : decode cX2_write 22 = .ok (.iload_n 3, 1) := dk_29 (dk_at dksX2_write_0 22 rfl rfl)
theorem dX2_write_23 : decode cX2_write 23 = .ok (.bipush 20, 2) := dk_16 20 (dk_at dksX2_write_1 0 rfl rfl)
theorem dX2_write_25 : decode cX2_write 25 = .ok (.if_icmp .ge 31, 3) := dk_162 0 31 (dk_at dksX2_write_1 2 rfl rfl)
theorem dX2_write_28 : decode cX2_write 28 = .ok (.aload_n 0, 1) := dk_42 (dk_at dksX2_write_1 5 rfl rfl)
theorem dX2_write_29 : decode cX2_write 29 = .ok (.getfield 7, 3) := dk_180 0 7 (dk_at dksX2_write_1 6 rfl rfl)
theorem dX2_write_32 : decode cX2_write 32 = .ok (.sipush 1346, 3) := dk_17 5 66 (dk_at dksX2_write_1 9 rfl rfl)
theorem dX2_write_35 : decode cX2_write 35 = .ok (.iload_n 3, 1) := dk_29 (dk_at dksX2_write_1 12 rfl rfl)
theorem dX2_write_36 : decode cX2_write 36 = .ok (.iadd, 1) := dk_96 (dk_at dksX2_write_1 13 rfl rfl)
theorem dX2_write_37 : decode cX2_write 37 = .ok (.iconst 1, 1) := dk_4 (dk_at dksX2_write_1 14 rfl rfl)
theorem dX2_write_38 : decode cX2_write 38 = .ok (.isub, 1) := dk_100 (dk_at dksX2_write_1 15 rfl rfl)
theorem dX2_write_39 : decode cX2_write 39 = .ok (.aload_n 0, 1) := dk_42 (dk_at dksX2_write_1 16 rfl rfl)
theorem dX2_write_40 : decode cX2_write 40 = .ok (.getfield 7, 3) := dk_180 0 7 (dk_at dksX2_write_1 17 rfl rfl)
theorem dX2_write_43 : decode cX2_write 43 = .ok (.sipush 1346, 3) := dk_17 5 66 (dk_at dksX2_write_1 20 rfl rfl)
theorem dX2_write_46 : decode cX2_write 46 = .ok (.iload_n 3, 1) := dk_29 (dk_at dksX2_write_1 23 rfl rfl)
theorem dX2_write_47 : decode cX2_write 47 = .ok (.iadd, 1) := dk_96 (dk_at dksX2_write_2 0 rfl rfl)
theorem dX2_write_48 : decode cX2_write 48 = .ok (.iaload, 1) := dk_46 (dk_at dksX2_write_2 1 rfl rfl)
theorem dX2_write_49 : decode cX2_write 49 = .ok (.iastore, 1) := dk_79 (dk_at dksX2_write_2 2 rfl rfl)
theorem dX2_write_50 : decode cX2_write 50 = .ok (.iinc 3 1, 3) := dk_132 3 1 (dk_at dksX2_write_2 3 rfl rfl)
theorem dX2_write_53 : decode cX2_write 53 = .ok (.goto (-31), 3) := dk_167 255 225 (dk_at dksX2_write_2 6 rfl rfl)
theorem dX2_write_56 : decode cX2_write 56 = .ok (.aload_n 0, 1) := dk_42 (dk_at dksX2_write_2 9 rfl rfl)
theorem dX2_write_57 : decode cX2_write 57 = .ok (.getfield 7, 3) := dk_180 0 7 (dk_at dksX2_write_2 10 rfl rfl)
theorem dX2_write_60 : decode cX2_write 60 = .ok (.bipush 8, 2) := dk_16 8 (dk_at dksX2_write_2 13 rfl rfl)
theorem dX2_write_62 : decode cX2_write 62 = .ok (.dup2, 1) := dk_92 (dk_at dksX2_write_2 15 rfl rfl)
theorem dX2_write_63 : decode cX2_write 63 = .ok (.iaload, 1) := dk_46 (dk_at dksX2_write_2 16 rfl rfl)
theorem dX2_write_64 : decode cX2_write 64 = .ok (.iconst 1, 1) := dk_4 (dk_at dksX2_write_2 17 rfl rfl)
theorem dX2_write_65 : decode cX2_write 65 = .ok (.isub, 1) := dk_100 (dk_at dksX2_write_2 18 rfl rfl)
theorem dX2_write_66 : decode cX2_write 66 = .ok (.iastore, 1) := dk_79 (dk_at dksX2_write_2 19 rfl rfl)
theorem dX2_write_67 : decode cX2_write 67 = .ok (.aload_n 0, 1) := dk_42 (dk_at dksX2_write_2 20 rfl rfl)
theorem dX2_write_68 : decode cX2_write 68 = .ok (.getfield 7, 3) := dk_180 0 7 (dk_at dksX2_write_2 21 rfl rfl)
theorem dX2_write_71 : decode cX2_write 71 = .ok (.sipush 1346, 3) := dk_17 5 66 (dk_at dksX2_write_3 0 rfl rfl)
theorem dX2_write_74 : decode cX2_write 74 = .ok (.aload_n 0, 1) := dk_42 (dk_at dksX2_write_3 3 rfl rfl)
theorem dX2_write_75 : decode cX2_write 75 = .ok (.getfield 7, 3) := dk_180 0 7 (dk_at dksX2_write_3 4 rfl rfl)
theorem dX2_write_78 : decode cX2_write 78 = .ok (.bipush 8, 2) := dk_16 8 (dk_at dksX2_write_3 7 rfl rfl)
theorem dX2_write_80 : decode cX2_write 80 = .ok (.iaload, 1) := dk_46 (dk_at dksX2_write_3 9 rfl rfl)
theorem dX2_write_81 : decode cX2_write 81 = .ok (.iadd, 1) := dk_96 (dk_at dksX2_write_3 10 rfl rfl)
theorem dX2_write_82 : decode cX2_write 82 = .ok (.aload_n 0, 1) := dk_42 (dk_at dksX2_write_3 11 rfl rfl)
theorem dX2_write_83 : decode cX2_write 83 = .ok (.getfield 7, 3) := dk_180 0 7 (dk_at dksX2_write_3 12 rfl rfl)
theorem dX2_write_86 : decode cX2_write 86 = .ok (.iconst 5, 1) := dk_8 (dk_at dksX2_write_3 15 rfl rfl)
theorem dX2_write_87 : decode cX2_write 87 = .ok (.iaload, 1) := dk_46 (dk_at dksX2_write_3 16 rfl rfl)
theorem dX2_write_88 : decode cX2_write 88 = .ok (.iconst 5, 1) := dk_8 (dk_at dksX2_write_3 17 rfl rfl)
theorem dX2_write_89 : decode cX2_write 89 = .ok (.imul, 1) := dk_104 (dk_at dksX2_write_3 18 rfl rfl)
theorem dX2_write_90 : decode cX2_write 90 = .ok (.iload_n 1, 1) := dk_27 (dk_at dksX2_write_3 19 rfl rfl)
theorem dX2_write_91 : decode cX2_write 91 = .ok (.iadd, 1) := dk_96 (dk_at dksX2_write_3 20 rfl rfl)
theorem dX2_write_92 : decode cX2_write 92 = .ok (.bipush 9, 2) := dk_16 9 (dk_at dksX2_write_3 21 rfl rfl)
theorem dX2_write_94 : decode cX2_write 94 = .ok (.imul, 1) := dk_104 (dk_at dksX2_write_3 23 rfl rfl)
theorem dX2_write_95 : decode cX2_write 95 = .ok (.aload_n 0, 1) := dk_42 (dk_at dksX2_write_4 0 rfl rfl)
theorem dX2_write_96 : decode cX2_write 96 = .ok (.getfield 47, 3) := dk_180 0 47 (dk_at dksX2_write_4 1 rfl rfl)
theorem dX2_write_99 : decode cX2_write 99 = .ok (.iload_n 1, 1) := dk_27 (dk_at dksX2_write_4 4 rfl rfl)
theorem dX2_write_100 : decode cX2_write 100 = .ok (.iaload, 1) := dk_46 (dk_at dksX2_write_4 5 rfl rfl)
theorem dX2_write_101 : decode cX2_write 101 = .ok (.iadd, 1) := dk_96 (dk_at dksX2_write_4 6 rfl rfl)
theorem dX2_write_102 : decode cX2_write 102 = .ok (.iconst 1, 1) := dk_4 (dk_at dksX2_write_4 7 rfl rfl)
theorem dX2_write_103 : decode cX2_write 103 = .ok (.iadd, 1) := dk_96 (dk_at dksX2_write_4 8 rfl rfl)
theorem dX2_write_104 : decode cX2_write 104 = .ok (.iconst 5, 1) := dk_8 (dk_at dksX2_write_4 9 rfl rfl)
theorem dX2_write_105 : decode cX2_write 105 = .ok (.imul, 1) := dk_104 (dk_at dksX2_write_4 10 rfl rfl)
theorem dX2_write_106 : decode cX2_write 106 = .ok (.aload_n 0, 1) := dk_42 (dk_at dksX2_write_4 11 rfl rfl)
theorem dX2_write_107 : decode cX2_write 107 = .ok (.iload_n 1, 1) := dk_27 (dk_at dksX2_write_4 12 rfl rfl)
theorem dX2_write_108 : decode cX2_write 108 = .ok (.invokevirtual 322, 3) := dk_182 1 66 (dk_at dksX2_write_4 13 rfl rfl)
theorem dX2_write_111 : decode cX2_write 111 = .ok (.iadd, 1) := dk_96 (dk_at dksX2_write_4 16 rfl rfl)
theorem dX2_write_112 : decode cX2_write 112 = .ok (.iconst 2, 1) := dk_5 (dk_at dksX2_write_4 17 rfl rfl)
theorem dX2_write_113 : decode cX2_write 113 = .ok (.imul, 1) := dk_104 (dk_at dksX2_write_4 18 rfl rfl)
theorem dX2_write_114 : decode cX2_write 114 = .ok (.iload_n 2, 1) := dk_28 (dk_at dksX2_write_4 19 rfl rfl)
theorem dX2_write_115 : decode cX2_write 115 = .ok (.ifCond .eq 7, 3) := dk_153 0 7 (dk_at dksX2_write_4 20 rfl rfl)
theorem dX2_write_118 : decode cX2_write 118 = .ok (.iconst 1, 1) := dk_4 (dk_at dksX2_write_4 23 rfl rfl)
theorem dX2_write_119 : decode cX2_write 119 = .ok (.goto 4, 3) := dk_167 0 4 (dk_at dksX2_write_5 0 rfl rfl)
theorem dX2_write_122 : decode cX2_write 122 = .ok (.iconst 0, 1) := dk_3 (dk_at dksX2_write_5 3 rfl rfl)
theorem dX2_write_123 : decode cX2_write 123 = .ok (.iadd, 1) := dk_96 (dk_at dksX2_write_5 4 rfl rfl)
theorem dX2_write_124 : decode cX2_write 124 = .ok (.iastore, 1) := dk_79 (dk_at dksX2_write_5 5 rfl rfl)
theorem dX2_write_125 : decode cX2_write 125 = .ok (.aload_n 0, 1) := dk_42 (dk_at dksX2_write_5 6 rfl rfl)
theorem dX2_write_126 : decode cX2_write 126 = .ok (.getfield 7, 3) := dk_180 0 7 (dk_at dksX2_write_5 7 rfl rfl)
theorem dX2_write_129 : decode cX2_write 129 = .ok (.bipush 8, 2) := dk_16 8 (dk_at dksX2_write_5 10 rfl rfl)
theorem dX2_write_131 : decode cX2_write 131 = .ok (.dup2, 1) := dk_92 (dk_at dksX2_write_5 12 rfl rfl)
theorem dX2_write_132 : decode cX2_write 132 = .ok (.iaload, 1) := dk_46 (dk_at dksX2_write_5 13 rfl rfl)
theorem dX2_write_133 : decode cX2_write 133 = .ok (.iconst 1, 1) := dk_4 (dk_at dksX2_write_5 14 rfl rfl)
theorem dX2_write_134 : decode cX2_write 134 = .ok (.iadd, 1) := dk_96 (dk_at dksX2_write_5 15 rfl rfl)
theorem dX2_write_135 : decode cX2_write 135 = .ok (.iastore, 1) := dk_79 (dk_at dksX2_write_5 16 rfl rfl)
theorem dX2_write_136 : decode cX2_write 136 = .ok (.return_, 1) := dk_177 (dk_at dksX2_write_5 17 rfl rfl)
abbrev cX2_fieldOf : ByteArray := prog_20_method_17_code
def yX2_fieldOf : MethodName := ⟨RX2, "fieldOf", "(I)I"⟩
def dkwX2_fieldOf_0 : List UInt8 := [42, 180, 0, 7, 16, 17, 5, 27, 104, 96, 46, 172]
abbrev dktX2_fieldOf_0 : List UInt8 := dkwX2_fieldOf_0 ++ []
theorem dksX2_fieldOf_0 : cX2_fieldOf.data.toList.drop 0 = dktX2_fieldOf_0 := by decide +kernel
theorem dX2_fieldOf_0 : decode cX2_fieldOf 0 = .ok (.aload_n 0, 1) := dk_42 (dk_at dksX2_fieldOf_0 0 rfl rfl)
theorem dX2_fieldOf_1 : decode cX2_fieldOf 1 = .ok (.getfield 7, 3) := dk_180 0 7 (dk_at dksX2_fieldOf_0 1 rfl rfl)
theorem dX2_fieldOf_4 : decode cX2_fieldOf 4 = .ok (.bipush 17, 2) := dk_16 17 (dk_at dksX2_fieldOf_0 4 rfl rfl)
theorem dX2_fieldOf_6 : decode cX2_fieldOf 6 = .ok (.iconst 2, 1) := dk_5 (dk_at dksX2_fieldOf_0 6 rfl rfl)
theorem dX2_fieldOf_7 : decode cX2_fieldOf 7 = .ok (.iload_n 1, 1) := dk_27 (dk_at dksX2_fieldOf_0 7 rfl rfl)
theorem dX2_fieldOf_8 : decode cX2_fieldOf 8 = .ok (.imul, 1) := dk_104 (dk_at dksX2_fieldOf_0 8 rfl rfl)
theorem dX2_fieldOf_9 : decode cX2_fieldOf 9 = .ok (.iadd, 1) := dk_96 (dk_at dksX2_fieldOf_0 9 rfl rfl)
theorem dX2_fieldOf_10 : decode cX2_fieldOf 10 = .ok (.iaload, 1) := dk_46 (dk_at dksX2_fieldOf_0 10 rfl rfl)
theorem dX2_fieldOf_11 : decode cX2_fieldOf 11 = .ok (.ireturn, 1) := dk_172 (dk_at dksX2_fieldOf_0 11 rfl rfl)
abbrev cX2_played : ByteArray := prog_20_method_92_code
def yX2_played : MethodName := ⟨RX2, "played", "(I)I"⟩
def dkwX2_played_2 : List UInt8 := [182, 1, 145, 154, 0, 5, 28, 172, 132, 2, 1, 167, 255, 219, 2, 172]
abbrev dktX2_played_2 : List UInt8 := dkwX2_played_2 ++ []
def dkwX2_played_1 : List UInt8 := [180, 0, 16, 17, 2, 202, 27, 104, 46, 162, 0, 29, 42, 17, 2, 202, 27, 104, 4, 96, 7, 28, 104, 96]
abbrev dktX2_played_1 : List UInt8 := dkwX2_played_1 ++ dktX2_played_2
def dkwX2_played_0 : List UInt8 := [27, 3, 42, 180, 0, 7, 4, 46, 4, 100, 184, 0, 75, 154, 0, 6, 16, 254, 172, 3, 61, 28, 42]
abbrev dktX2_played_0 : List UInt8 := dkwX2_played_0 ++ dktX2_played_1
theorem dksX2_played_0 : cX2_played.data.toList.drop 0 = dktX2_played_0 := by decide +kernel
theorem dksX2_played_1 : cX2_played.data.toList.drop 23 = dktX2_played_1 := dk_seg dksX2_played_0 23 rfl rfl
theorem dksX2_played_2 : cX2_played.data.toList.drop 47 = dktX2_played_2 := dk_seg dksX2_played_1 24 rfl rfl
theorem dX2_played_0 : decode cX2_played 0 = .ok (.iload_n 1, 1) := dk_27 (dk_at dksX2_played_0 0 rfl rfl)
theorem dX2_played_1 : decode cX2_played 1 = .ok (.iconst 0, 1) := dk_3 (dk_at dksX2_played_0 1 rfl rfl)
theorem dX2_played_2 : decode cX2_played 2 = .ok (.aload_n 0, 1) := dk_42 (dk_at dksX2_played_0 2 rfl rfl)
theorem dX2_played_3 : decode cX2_played 3 = .ok (.getfield 7, 3) := dk_180 0 7 (dk_at dksX2_played_0 3 rfl rfl)
theorem dX2_played_6 : decode cX2_played 6 = .ok (.iconst 1, 1) := dk_4 (dk_at dksX2_played_0 6 rfl rfl)
theorem dX2_played_7 : decode cX2_played 7 = .ok (.iaload, 1) := dk_46 (dk_at dksX2_played_0 7 rfl rfl)
theorem dX2_played_8 : decode cX2_played 8 = .ok (.iconst 1, 1) := dk_4 (dk_at dksX2_played_0 8 rfl rfl)
theorem dX2_played_9 : decode cX2_played 9 = .ok (.isub, 1) := dk_100 (dk_at dksX2_played_0 9 rfl rfl)
theorem dX2_played_10 : decode cX2_played 10 = .ok (.invokestatic 75, 3) := dk_184 0 75 (dk_at dksX2_played_0 10 rfl rfl)
theorem dX2_played_13 : decode cX2_played 13 = .ok (.ifCond .ne 6, 3) := dk_154 0 6 (dk_at dksX2_played_0 13 rfl rfl)
theorem dX2_played_16 : decode cX2_played 16 = .ok (.bipush (-2), 2) := dk_16 254 (dk_at dksX2_played_0 16 rfl rfl)
theorem dX2_played_18 : decode cX2_played 18 = .ok (.ireturn, 1) := dk_172 (dk_at dksX2_played_0 18 rfl rfl)
theorem dX2_played_19 : decode cX2_played 19 = .ok (.iconst 0, 1) := dk_3 (dk_at dksX2_played_0 19 rfl rfl)
theorem dX2_played_20 : decode cX2_played 20 = .ok (.istore_n 2, 1) := dk_61 (dk_at dksX2_played_0 20 rfl rfl)
theorem dX2_played_21 : decode cX2_played 21 = .ok (.iload_n 2, 1) := dk_28 (dk_at dksX2_played_0 21 rfl rfl)
theorem dX2_played_22 : decode cX2_played 22 = .ok (.aload_n 0, 1) := dk_42 (dk_at dksX2_played_0 22 rfl rfl)
theorem dX2_played_23 : decode cX2_played 23 = .ok (.getfield 16, 3) := dk_180 0 16 (dk_at dksX2_played_1 0 rfl rfl)
theorem dX2_played_26 : decode cX2_played 26 = .ok (.sipush 714, 3) := dk_17 2 202 (dk_at dksX2_played_1 3 rfl rfl)
theorem dX2_played_29 : decode cX2_played 29 = .ok (.iload_n 1, 1) := dk_27 (dk_at dksX2_played_1 6 rfl rfl)
theorem dX2_played_30 : decode cX2_played 30 = .ok (.imul, 1) := dk_104 (dk_at dksX2_played_1 7 rfl rfl)
theorem dX2_played_31 : decode cX2_played 31 = .ok (.iaload, 1) := dk_46 (dk_at dksX2_played_1 8 rfl rfl)
theorem dX2_played_32 : decode cX2_played 32 = .ok (.if_icmp .ge 29, 3) := dk_162 0 29 (dk_at dksX2_played_1 9 rfl rfl)
theorem dX2_played_35 : decode cX2_played 35 = .ok (.aload_n 0, 1) := dk_42 (dk_at dksX2_played_1 12 rfl rfl)
theorem dX2_played_36 : decode cX2_played 36 = .ok (.sipush 714, 3) := dk_17 2 202 (dk_at dksX2_played_1 13 rfl rfl)
theorem dX2_played_39 : decode cX2_played 39 = .ok (.iload_n 1, 1) := dk_27 (dk_at dksX2_played_1 16 rfl rfl)
theorem dX2_played_40 : decode cX2_played 40 = .ok (.imul, 1) := dk_104 (dk_at dksX2_played_1 17 rfl rfl)
theorem dX2_played_41 : decode cX2_played 41 = .ok (.iconst 1, 1) := dk_4 (dk_at dksX2_played_1 18 rfl rfl)
theorem dX2_played_42 : decode cX2_played 42 = .ok (.iadd, 1) := dk_96 (dk_at dksX2_played_1 19 rfl rfl)
theorem dX2_played_43 : decode cX2_played 43 = .ok (.iconst 4, 1) := dk_7 (dk_at dksX2_played_1 20 rfl rfl)
theorem dX2_played_44 : decode cX2_played 44 = .ok (.iload_n 2, 1) := dk_28 (dk_at dksX2_played_1 21 rfl rfl)
theorem dX2_played_45 : decode cX2_played 45 = .ok (.imul, 1) := dk_104 (dk_at dksX2_played_1 22 rfl rfl)
theorem dX2_played_46 : decode cX2_played 46 = .ok (.iadd, 1) := dk_96 (dk_at dksX2_played_1 23 rfl rfl)
theorem dX2_played_47 : decode cX2_played 47 = .ok (.invokevirtual 401, 3) := dk_182 1 145 (dk_at dksX2_played_2 0 rfl rfl)
theorem dX2_played_50 : decode cX2_played 50 = .ok (.ifCond .ne 5, 3) := dk_154 0 5 (dk_at dksX2_played_2 3 rfl rfl)
theorem dX2_played_53 : decode cX2_played 53 = .ok (.iload_n 2, 1) := dk_28 (dk_at dksX2_played_2 6 rfl rfl)
theorem dX2_played_54 : decode cX2_played 54 = .ok (.ireturn, 1) := dk_172 (dk_at dksX2_played_2 7 rfl rfl)
theorem dX2_played_55 : decode cX2_played 55 = .ok (.iinc 2 1, 3) := dk_132 2 1 (dk_at dksX2_played_2 8 rfl rfl)
theorem dX2_played_58 : decode cX2_played 58 = .ok (.goto (-37), 3) := dk_167 255 219 (dk_at dksX2_played_2 11 rfl rfl)
theorem dX2_played_61 : decode cX2_played 61 = .ok (.iconst (-1), 1) := dk_2 (dk_at dksX2_played_2 14 rfl rfl)
theorem dX2_played_62 : decode cX2_played 62 = .ok (.ireturn, 1) := dk_172 (dk_at dksX2_played_2 15 rfl rfl)
abbrev cX2_isPlayed : ByteArray := prog_20_method_91_code
def yX2_isPlayed : MethodName := ⟨RX2, "isPlayed", "(I)Z"⟩
def dkwX2_isPlayed_5 : List UInt8 := [182, 1, 124, 172, 4, 172]
abbrev dktX2_isPlayed_5 : List UInt8 := dkwX2_isPlayed_5 ++ []
def dkwX2_isPlayed_4 : List UInt8 := [182, 1, 133, 172, 42, 28, 182, 1, 136, 172, 42, 28, 182, 1, 139, 172, 42, 28, 182, 1, 142, 172, 42, 28]
abbrev dktX2_isPlayed_4 : List UInt8 := dkwX2_isPlayed_4 ++ dktX2_isPlayed_5
def dkwX2_isPlayed_3 : List UInt8 := [182, 1, 130, 172, 42, 42, 180, 0, 16, 27, 6, 96, 46, 42, 180, 0, 16, 27, 5, 96, 46, 28]
abbrev dktX2_isPlayed_3 : List UInt8 := dkwX2_isPlayed_3 ++ dktX2_isPlayed_4
def dkwX2_isPlayed_2 : List UInt8 := [42, 28, 182, 1, 127, 155, 0, 7, 4, 167, 0, 4, 3, 172, 42, 42, 180, 0, 16, 27, 5, 96, 46, 28]
abbrev dktX2_isPlayed_2 : List UInt8 := dkwX2_isPlayed_2 ++ dktX2_isPlayed_3
def dkwX2_isPlayed_1 : List UInt8 := [170, 0, 0, 0, 115, 0, 0, 0, 2, 0, 0, 0, 8, 0, 0, 0, 41, 0, 0, 0, 55, 0, 0, 0, 69, 0, 0, 0, 91, 0, 0, 0, 97, 0, 0, 0, 103, 0, 0, 0, 109]
abbrev dktX2_isPlayed_1 : List UInt8 := dkwX2_isPlayed_1 ++ dktX2_isPlayed_2
def dkwX2_isPlayed_0 : List UInt8 := [42, 180, 0, 16, 27, 4, 96, 46, 61, 42, 180, 0, 16, 27, 46]
abbrev dktX2_isPlayed_0 : List UInt8 := dkwX2_isPlayed_0 ++ dktX2_isPlayed_1
theorem dksX2_isPlayed_0 : cX2_isPlayed.data.toList.drop 0 = dktX2_isPlayed_0 := by decide +kernel
theorem dksX2_isPlayed_1 : cX2_isPlayed.data.toList.drop 15 = dktX2_isPlayed_1 := dk_seg dksX2_isPlayed_0 15 rfl rfl
theorem dksX2_isPlayed_2 : cX2_isPlayed.data.toList.drop 56 = dktX2_isPlayed_2 := dk_seg dksX2_isPlayed_1 41 rfl rfl
theorem dksX2_isPlayed_3 : cX2_isPlayed.data.toList.drop 80 = dktX2_isPlayed_3 := dk_seg dksX2_isPlayed_2 24 rfl rfl
theorem dksX2_isPlayed_4 : cX2_isPlayed.data.toList.drop 102 = dktX2_isPlayed_4 := dk_seg dksX2_isPlayed_3 22 rfl rfl
theorem dksX2_isPlayed_5 : cX2_isPlayed.data.toList.drop 126 = dktX2_isPlayed_5 := dk_seg dksX2_isPlayed_4 24 rfl rfl
theorem dX2_isPlayed_0 : decode cX2_isPlayed 0 = .ok (.aload_n 0, 1) := dk_42 (dk_at dksX2_isPlayed_0 0 rfl rfl)
theorem dX2_isPlayed_1 : decode cX2_isPlayed 1 = .ok (.getfield 16, 3) := dk_180 0 16 (dk_at dksX2_isPlayed_0 1 rfl rfl)
theorem dX2_isPlayed_4 : decode cX2_isPlayed 4 = .ok (.iload_n 1, 1) := dk_27 (dk_at dksX2_isPlayed_0 4 rfl rfl)
theorem dX2_isPlayed_5 : decode cX2_isPlayed 5 = .ok (.iconst 1, 1) := dk_4 (dk_at dksX2_isPlayed_0 5 rfl rfl)
theorem dX2_isPlayed_6 : decode cX2_isPlayed 6 = .ok (.iadd, 1) := dk_96 (dk_at dksX2_isPlayed_0 6 rfl rfl)
theorem dX2_isPlayed_7 : decode cX2_isPlayed 7 = .ok (.iaload, 1) := dk_46 (dk_at dksX2_isPlayed_0 7 rfl rfl)
theorem dX2_isPlayed_8 : decode cX2_isPlayed 8 = .ok (.istore_n 2, 1) := dk_61 (dk_at dksX2_isPlayed_0 8 rfl rfl)
theorem dX2_isPlayed_9 : decode cX2_isPlayed 9 = .ok (.aload_n 0, 1) := dk_42 (dk_at dksX2_isPlayed_0 9 rfl rfl)
theorem dX2_isPlayed_10 : decode cX2_isPlayed 10 = .ok (.getfield 16, 3) := dk_180 0 16 (dk_at dksX2_isPlayed_0 10 rfl rfl)
theorem dX2_isPlayed_13 : decode cX2_isPlayed 13 = .ok (.iload_n 1, 1) := dk_27 (dk_at dksX2_isPlayed_0 13 rfl rfl)
theorem dX2_isPlayed_14 : decode cX2_isPlayed 14 = .ok (.iaload, 1) := dk_46 (dk_at dksX2_isPlayed_0 14 rfl rfl)
theorem dX2_isPlayed_15 : decode cX2_isPlayed 15 = .ok (.tableswitch 115 2 8 #[41, 55, 69, 91, 97, 103, 109], 41) := by decide +kernel
theorem dX2_isPlayed_56 : decode cX2_isPlayed 56 = .ok (.aload_n 0, 1) := dk_42 (dk_at dksX2_isPlayed_2 0 rfl rfl)
theorem dX2_isPlayed_57 : decode cX2_isPlayed 57 = .ok (.iload_n 2, 1) := dk_28 (dk_at dksX2_isPlayed_2 1 rfl rfl)
theorem dX2_isPlayed_58 : decode cX2_isPlayed 58 = .ok (.invokevirtual 383, 3) := dk_182 1 127 (dk_at dksX2_isPlayed_2 2 rfl rfl)
theorem dX2_isPlayed_61 : decode cX2_isPlayed 61 = .ok (.ifCond .lt 7, 3) := dk_155 0 7 (dk_at dksX2_isPlayed_2 5 rfl rfl)
theorem dX2_isPlayed_64 : decode cX2_isPlayed 64 = .ok (.iconst 1, 1) := dk_4 (dk_at dksX2_isPlayed_2 8 rfl rfl)
theorem dX2_isPlayed_65 : decode cX2_isPlayed 65 = .ok (.goto 4, 3) := dk_167 0 4 (dk_at dksX2_isPlayed_2 9 rfl rfl)
theorem dX2_isPlayed_68 : decode cX2_isPlayed 68 = .ok (.iconst 0, 1) := dk_3 (dk_at dksX2_isPlayed_2 12 rfl rfl)
theorem dX2_isPlayed_69 : decode cX2_isPlayed 69 = .ok (.ireturn, 1) := dk_172 (dk_at dksX2_isPlayed_2 13 rfl rfl)
theorem dX2_isPlayed_70 : decode cX2_isPlayed 70 = .ok (.aload_n 0, 1) := dk_42 (dk_at dksX2_isPlayed_2 14 rfl rfl)
theorem dX2_isPlayed_71 : decode cX2_isPlayed 71 = .ok (.aload_n 0, 1) := dk_42 (dk_at dksX2_isPlayed_2 15 rfl rfl)
theorem dX2_isPlayed_72 : decode cX2_isPlayed 72 = .ok (.getfield 16, 3) := dk_180 0 16 (dk_at dksX2_isPlayed_2 16 rfl rfl)
theorem dX2_isPlayed_75 : decode cX2_isPlayed 75 = .ok (.iload_n 1, 1) := dk_27 (dk_at dksX2_isPlayed_2 19 rfl rfl)
theorem dX2_isPlayed_76 : decode cX2_isPlayed 76 = .ok (.iconst 2, 1) := dk_5 (dk_at dksX2_isPlayed_2 20 rfl rfl)
theorem dX2_isPlayed_77 : decode cX2_isPlayed 77 = .ok (.iadd, 1) := dk_96 (dk_at dksX2_isPlayed_2 21 rfl rfl)
theorem dX2_isPlayed_78 : decode cX2_isPlayed 78 = .ok (.iaload, 1) := dk_46 (dk_at dksX2_isPlayed_2 22 rfl rfl)
theorem dX2_isPlayed_79 : decode cX2_isPlayed 79 = .ok (.iload_n 2, 1) := dk_28 (dk_at dksX2_isPlayed_2 23 rfl rfl)
theorem dX2_isPlayed_80 : decode cX2_isPlayed 80 = .ok (.invokevirtual 386, 3) := dk_182 1 130 (dk_at dksX2_isPlayed_3 0 rfl rfl)
theorem dX2_isPlayed_83 : decode cX2_isPlayed 83 = .ok (.ireturn, 1) := dk_172 (dk_at dksX2_isPlayed_3 3 rfl rfl)
theorem dX2_isPlayed_84 : decode cX2_isPlayed 84 = .ok (.aload_n 0, 1) := dk_42 (dk_at dksX2_isPlayed_3 4 rfl rfl)
theorem dX2_isPlayed_85 : decode cX2_isPlayed 85 = .ok (.aload_n 0, 1) := dk_42 (dk_at dksX2_isPlayed_3 5 rfl rfl)
theorem dX2_isPlayed_86 : decode cX2_isPlayed 86 = .ok (.getfield 16, 3) := dk_180 0 16 (dk_at dksX2_isPlayed_3 6 rfl rfl)
theorem dX2_isPlayed_89 : decode cX2_isPlayed 89 = .ok (.iload_n 1, 1) := dk_27 (dk_at dksX2_isPlayed_3 9 rfl rfl)
theorem dX2_isPlayed_90 : decode cX2_isPlayed 90 = .ok (.iconst 3, 1) := dk_6 (dk_at dksX2_isPlayed_3 10 rfl rfl)
theorem dX2_isPlayed_91 : decode cX2_isPlayed 91 = .ok (.iadd, 1) := dk_96 (dk_at dksX2_isPlayed_3 11 rfl rfl)
theorem dX2_isPlayed_92 : decode cX2_isPlayed 92 = .ok (.iaload, 1) := dk_46 (dk_at dksX2_isPlayed_3 12 rfl rfl)
theorem dX2_isPlayed_93 : decode cX2_isPlayed 93 = .ok (.aload_n 0, 1) := dk_42 (dk_at dksX2_isPlayed_3 13 rfl rfl)
theorem dX2_isPlayed_94 : decode cX2_isPlayed 94 = .ok (.getfield 16, 3) := dk_180 0 16 (dk_at dksX2_isPlayed_3 14 rfl rfl)
theorem dX2_isPlayed_97 : decode cX2_isPlayed 97 = .ok (.iload_n 1, 1) := dk_27 (dk_at dksX2_isPlayed_3 17 rfl rfl)
theorem dX2_isPlayed_98 : decode cX2_isPlayed 98 = .ok (.iconst 2, 1) := dk_5 (dk_at dksX2_isPlayed_3 18 rfl rfl)
theorem dX2_isPlayed_99 : decode cX2_isPlayed 99 = .ok (.iadd, 1) := dk_96 (dk_at dksX2_isPlayed_3 19 rfl rfl)
theorem dX2_isPlayed_100 : decode cX2_isPlayed 100 = .ok (.iaload, 1) := dk_46 (dk_at dksX2_isPlayed_3 20 rfl rfl)
theorem dX2_isPlayed_101 : decode cX2_isPlayed 101 = .ok (.iload_n 2, 1) := dk_28 (dk_at dksX2_isPlayed_3 21 rfl rfl)
theorem dX2_isPlayed_102 : decode cX2_isPlayed 102 = .ok (.invokevirtual 389, 3) := dk_182 1 133 (dk_at dksX2_isPlayed_4 0 rfl rfl)
theorem dX2_isPlayed_105 : decode cX2_isPlayed 105 = .ok (.ireturn, 1) := dk_172 (dk_at dksX2_isPlayed_4 3 rfl rfl)
theorem dX2_isPlayed_106 : decode cX2_isPlayed 106 = .ok (.aload_n 0, 1) := dk_42 (dk_at dksX2_isPlayed_4 4 rfl rfl)
theorem dX2_isPlayed_107 : decode cX2_isPlayed 107 = .ok (.iload_n 2, 1) := dk_28 (dk_at dksX2_isPlayed_4 5 rfl rfl)
theorem dX2_isPlayed_108 : decode cX2_isPlayed 108 = .ok (.invokevirtual 392, 3) := dk_182 1 136 (dk_at dksX2_isPlayed_4 6 rfl rfl)
theorem dX2_isPlayed_111 : decode cX2_isPlayed 111 = .ok (.ireturn, 1) := dk_172 (dk_at dksX2_isPlayed_4 9 rfl rfl)
theorem dX2_isPlayed_112 : decode cX2_isPlayed 112 = .ok (.aload_n 0, 1) := dk_42 (dk_at dksX2_isPlayed_4 10 rfl rfl)
theorem dX2_isPlayed_113 : decode cX2_isPlayed 113 = .ok (.iload_n 2, 1) := dk_28 (dk_at dksX2_isPlayed_4 11 rfl rfl)
theorem dX2_isPlayed_114 : decode cX2_isPlayed 114 = .ok (.invokevirtual 395, 3) := dk_182 1 139 (dk_at dksX2_isPlayed_4 12 rfl rfl)
theorem dX2_isPlayed_117 : decode cX2_isPlayed 117 = .ok (.ireturn, 1) := dk_172 (dk_at dksX2_isPlayed_4 15 rfl rfl)
theorem dX2_isPlayed_118 : decode cX2_isPlayed 118 = .ok (.aload_n 0, 1) := dk_42 (dk_at dksX2_isPlayed_4 16 rfl rfl)
theorem dX2_isPlayed_119 : decode cX2_isPlayed 119 = .ok (.iload_n 2, 1) := dk_28 (dk_at dksX2_isPlayed_4 17 rfl rfl)
theorem dX2_isPlayed_120 : decode cX2_isPlayed 120 = .ok (.invokevirtual 398, 3) := dk_182 1 142 (dk_at dksX2_isPlayed_4 18 rfl rfl)
theorem dX2_isPlayed_123 : decode cX2_isPlayed 123 = .ok (.ireturn, 1) := dk_172 (dk_at dksX2_isPlayed_4 21 rfl rfl)
theorem dX2_isPlayed_124 : decode cX2_isPlayed 124 = .ok (.aload_n 0, 1) := dk_42 (dk_at dksX2_isPlayed_4 22 rfl rfl)
theorem dX2_isPlayed_125 : decode cX2_isPlayed 125 = .ok (.iload_n 2, 1) := dk_28 (dk_at dksX2_isPlayed_4 23 rfl rfl)
theorem dX2_isPlayed_126 : decode cX2_isPlayed 126 = .ok (.invokevirtual 380, 3) := dk_182 1 124 (dk_at dksX2_isPlayed_5 0 rfl rfl)
theorem dX2_isPlayed_129 : decode cX2_isPlayed 129 = .ok (.ireturn, 1) := dk_172 (dk_at dksX2_isPlayed_5 3 rfl rfl)
theorem dX2_isPlayed_130 : decode cX2_isPlayed 130 = .ok (.iconst 1, 1) := dk_4 (dk_at dksX2_isPlayed_5 4 rfl rfl)
theorem dX2_isPlayed_131 : decode cX2_isPlayed 131 = .ok (.ireturn, 1) := dk_172 (dk_at dksX2_isPlayed_5 5 rfl rfl)
abbrev cX2_years : ByteArray := prog_20_method_94_code
def yX2_years : MethodName := ⟨RX2, "years", "(II)I"⟩
def dkwX2_years_3 : List UInt8 := [167, 255, 229, 42, 180, 0, 7, 8, 46, 172]
abbrev dktX2_years_3 : List UInt8 := dkwX2_years_3 ++ []
def dkwX2_years_2 : List UInt8 := [42, 180, 0, 7, 16, 6, 46, 54, 4, 42, 182, 1, 69, 42, 21, 4, 182, 1, 148, 132, 3, 1]
abbrev dktX2_years_2 : List UInt8 := dkwX2_years_2 ++ dktX2_years_3
def dkwX2_years_1 : List UInt8 := [182, 1, 112, 42, 180, 0, 7, 16, 6, 27, 5, 104, 17, 1, 103, 96, 79, 3, 62, 29, 28, 162, 0, 28]
abbrev dktX2_years_1 : List UInt8 := dkwX2_years_1 ++ dktX2_years_2
def dkwX2_years_0 : List UInt8 := [27, 3, 17, 39, 15, 184, 0, 75, 153, 0, 13, 28, 4, 16, 40, 184, 0, 75, 154, 0, 5, 2, 172, 42]
abbrev dktX2_years_0 : List UInt8 := dkwX2_years_0 ++ dktX2_years_1
theorem dksX2_years_0 : cX2_years.data.toList.drop 0 = dktX2_years_0 := by decide +kernel
theorem dksX2_years_1 : cX2_years.data.toList.drop 24 = dktX2_years_1 := dk_seg dksX2_years_0 24 rfl rfl
theorem dksX2_years_2 : cX2_years.data.toList.drop 48 = dktX2_years_2 := dk_seg dksX2_years_1 24 rfl rfl
theorem dksX2_years_3 : cX2_years.data.toList.drop 70 = dktX2_years_3 := dk_seg dksX2_years_2 22 rfl rfl
theorem dX2_years_0 : decode cX2_years 0 = .ok (.iload_n 1, 1) := dk_27 (dk_at dksX2_years_0 0 rfl rfl)
theorem dX2_years_1 : decode cX2_years 1 = .ok (.iconst 0, 1) := dk_3 (dk_at dksX2_years_0 1 rfl rfl)
theorem dX2_years_2 : decode cX2_years 2 = .ok (.sipush 9999, 3) := dk_17 39 15 (dk_at dksX2_years_0 2 rfl rfl)
theorem dX2_years_5 : decode cX2_years 5 = .ok (.invokestatic 75, 3) := dk_184 0 75 (dk_at dksX2_years_0 5 rfl rfl)
theorem dX2_years_8 : decode cX2_years 8 = .ok (.ifCond .eq 13, 3) := dk_153 0 13 (dk_at dksX2_years_0 8 rfl rfl)
theorem dX2_years_11 : decode cX2_years 11 = .ok (.iload_n 2, 1) := dk_28 (dk_at dksX2_years_0 11 rfl rfl)
theorem dX2_years_12 : decode cX2_years 12 = .ok (.iconst 1, 1) := dk_4 (dk_at dksX2_years_0 12 rfl rfl)
theorem dX2_years_13 : decode cX2_years 13 = .ok (.bipush 40, 2) := dk_16 40 (dk_at dksX2_years_0 13 rfl rfl)
theorem dX2_years_15 : decode cX2_years 15 = .ok (.invokestatic 75, 3) := dk_184 0 75 (dk_at dksX2_years_0 15 rfl rfl)
theorem dX2_years_18 : decode cX2_years 18 = .ok (.ifCond .ne 5, 3) := dk_154 0 5 (dk_at dksX2_years_0 18 rfl rfl)
theorem dX2_years_21 : decode cX2_years 21 = .ok (.iconst (-1), 1) := dk_2 (dk_at dksX2_years_0 21 rfl rfl)
theorem dX2_years_22 : decode cX2_years 22 = .ok (.ireturn, 1) := dk_172 (dk_at dksX2_years_0 22 rfl rfl)
theorem dX2_years_23 : decode cX2_years 23 = .ok (.aload_n 0, 1) := dk_42 (dk_at dksX2_years_0 23 rfl rfl)
theorem dX2_years_24 : decode cX2_years 24 = .ok (.invokevirtual 368, 3) := dk_182 1 112 (dk_at dksX2_years_1 0 rfl rfl)
theorem dX2_years_27 : decode cX2_years 27 = .ok (.aload_n 0, 1) := dk_42 (dk_at dksX2_years_1 3 rfl rfl)
theorem dX2_years_28 : decode cX2_years 28 = .ok (.getfield 7, 3) := dk_180 0 7 (dk_at dksX2_years_1 4 rfl rfl)
theorem dX2_years_31 : decode cX2_years 31 = .ok (.bipush 6, 2) := dk_16 6 (dk_at dksX2_years_1 7 rfl rfl)
theorem dX2_years_33 : decode cX2_years 33 = .ok (.iload_n 1, 1) := dk_27 (dk_at dksX2_years_1 9 rfl rfl)
theorem dX2_years_34 : decode cX2_years 34 = .ok (.iconst 2, 1) := dk_5 (dk_at dksX2_years_1 10 rfl rfl)
theorem dX2_years_35 : decode cX2_years 35 = .ok (.imul, 1) := dk_104 (dk_at dksX2_years_1 11 rfl rfl)
theorem dX2_years_36 : decode cX2_years 36 = .ok (.sipush 359, 3) := dk_17 1 103 (dk_at dksX2_years_1 12 rfl rfl)
theorem dX2_years_39 : decode cX2_years 39 = .ok (.iadd, 1) := dk_96 (dk_at dksX2_years_1 15 rfl rfl)
theorem dX2_years_40 : decode cX2_years 40 = .ok (.iastore, 1) := dk_79 (dk_at dksX2_years_1 16 rfl rfl)
theorem dX2_years_41 : decode cX2_years 41 = .ok (.iconst 0, 1) := dk_3 (dk_at dksX2_years_1 17 rfl rfl)
theorem dX2_years_42 : decode cX2_years 42 = .ok (.istore_n 3, 1) := dk_62 (dk_at dksX2_years_1 18 rfl rfl)
theorem dX2_years_43 : decode cX2_years 43 = .ok (.iload_n 3, 1) := dk_29 (dk_at dksX2_years_1 19 rfl rfl)
theorem dX2_years_44 : decode cX2_years 44 = .ok (.iload_n 2, 1) := dk_28 (dk_at dksX2_years_1 20 rfl rfl)
theorem dX2_years_45 : decode cX2_years 45 = .ok (.if_icmp .ge 28, 3) := dk_162 0 28 (dk_at dksX2_years_1 21 rfl rfl)
theorem dX2_years_48 : decode cX2_years 48 = .ok (.aload_n 0, 1) := dk_42 (dk_at dksX2_years_2 0 rfl rfl)
theorem dX2_years_49 : decode cX2_years 49 = .ok (.getfield 7, 3) := dk_180 0 7 (dk_at dksX2_years_2 1 rfl rfl)
theorem dX2_years_52 : decode cX2_years 52 = .ok (.bipush 6, 2) := dk_16 6 (dk_at dksX2_years_2 4 rfl rfl)
theorem dX2_years_54 : decode cX2_years 54 = .ok (.iaload, 1) := dk_46 (dk_at dksX2_years_2 6 rfl rfl)
theorem dX2_years_55 : decode cX2_years 55 = .ok (.istore 4, 2) := dk_54 4 (dk_at dksX2_years_2 7 rfl rfl)
theorem dX2_years_57 : decode cX2_years 57 = .ok (.aload_n 0, 1) := dk_42 (dk_at dksX2_years_2 9 rfl rfl)
theorem dX2_years_58 : decode cX2_years 58 = .ok (.invokevirtual 325, 3) := dk_182 1 69 (dk_at dksX2_years_2 10 rfl rfl)
theorem dX2_years_61 : decode cX2_years 61 = .ok (.aload_n 0, 1) := dk_42 (dk_at dksX2_years_2 13 rfl rfl)
theorem dX2_years_62 : decode cX2_years 62 = .ok (.iload 4, 2) := dk_21 4 (dk_at dksX2_years_2 14 rfl rfl)
theorem dX2_years_64 : decode cX2_years 64 = .ok (.invokevirtual 404, 3) := dk_182 1 148 (dk_at dksX2_years_2 16 rfl rfl)
theorem dX2_years_67 : decode cX2_years 67 = .ok (.iinc 3 1, 3) := dk_132 3 1 (dk_at dksX2_years_2 19 rfl rfl)
theorem dX2_years_70 : decode cX2_years 70 = .ok (.goto (-27), 3) := dk_167 255 229 (dk_at dksX2_years_3 0 rfl rfl)
theorem dX2_years_73 : decode cX2_years 73 = .ok (.aload_n 0, 1) := dk_42 (dk_at dksX2_years_3 3 rfl rfl)
theorem dX2_years_74 : decode cX2_years 74 = .ok (.getfield 7, 3) := dk_180 0 7 (dk_at dksX2_years_3 4 rfl rfl)
theorem dX2_years_77 : decode cX2_years 77 = .ok (.iconst 5, 1) := dk_8 (dk_at dksX2_years_3 7 rfl rfl)
theorem dX2_years_78 : decode cX2_years 78 = .ok (.iaload, 1) := dk_46 (dk_at dksX2_years_3 8 rfl rfl)
theorem dX2_years_79 : decode cX2_years 79 = .ok (.ireturn, 1) := dk_172 (dk_at dksX2_years_3 9 rfl rfl)
abbrev cX2_happens : ByteArray := prog_20_method_93_code
def yX2_happens : MethodName := ⟨RX2, "happens", "(I)V"⟩
def dkwX2_happens_5 : List UInt8 := [42, 180, 0, 7, 8, 46, 17, 39, 15, 162, 0, 7, 42, 182, 1, 121, 177]
abbrev dktX2_happens_5 : List UInt8 := dkwX2_happens_5 ++ []
def dkwX2_happens_4 : List UInt8 := [167, 0, 40, 42, 28, 182, 1, 118, 153, 0, 32, 42, 180, 0, 7, 16, 9, 28, 96, 3, 79, 167, 0, 19]
abbrev dktX2_happens_4 : List UInt8 := dkwX2_happens_4 ++ dktX2_happens_5
def dkwX2_happens_3 : List UInt8 := [42, 28, 182, 1, 115, 153, 0, 58, 42, 180, 0, 7, 16, 7, 92, 46, 4, 28, 120, 2, 130, 126, 79]
abbrev dktX2_happens_3 : List UInt8 := dkwX2_happens_3 ++ dktX2_happens_4
def dkwX2_happens_2 : List UInt8 := [42, 28, 182, 1, 90, 153, 0, 82, 42, 180, 0, 7, 16, 7, 92, 46, 4, 28, 120, 128, 79, 167, 0, 66]
abbrev dktX2_happens_2 : List UInt8 := dkwX2_happens_2 ++ dktX2_happens_3
def dkwX2_happens_1 : List UInt8 := [170, 0, 0, 0, 0, 0, 0, 103, 0, 0, 0, 0, 0, 0, 0, 3, 0, 0, 0, 32, 0, 0, 0, 32, 0, 0, 0, 56, 0, 0, 0, 82]
abbrev dktX2_happens_1 : List UInt8 := dkwX2_happens_1 ++ dktX2_happens_2
def dkwX2_happens_0 : List UInt8 := [27, 16, 6, 108, 16, 8, 112, 61, 27, 16, 6, 112]
abbrev dktX2_happens_0 : List UInt8 := dkwX2_happens_0 ++ dktX2_happens_1
theorem dksX2_happens_0 : cX2_happens.data.toList.drop 0 = dktX2_happens_0 := by decide +kernel
theorem dksX2_happens_1 : cX2_happens.data.toList.drop 12 = dktX2_happens_1 := dk_seg dksX2_happens_0 12 rfl rfl
theorem dksX2_happens_2 : cX2_happens.data.toList.drop 44 = dktX2_happens_2 := dk_seg dksX2_happens_1 32 rfl rfl
theorem dksX2_happens_3 : cX2_happens.data.toList.drop 68 = dktX2_happens_3 := dk_seg dksX2_happens_2 24 rfl rfl
theorem dksX2_happens_4 : cX2_happens.data.toList.drop 91 = dktX2_happens_4 := dk_seg dksX2_happens_3 23 rfl rfl
theorem dksX2_happens_5 : cX2_happens.data.toList.drop 115 = dktX2_happens_5 := dk_seg dksX2_happens_4 24 rfl rfl
theorem dX2_happens_0 : decode cX2_happens 0 = .ok (.iload_n 1, 1) := dk_27 (dk_at dksX2_happens_0 0 rfl rfl)
theorem dX2_happens_1 : decode cX2_happens 1 = .ok (.bipush 6, 2) := dk_16 6 (dk_at dksX2_happens_0 1 rfl rfl)
theorem dX2_happens_3 : decode cX2_happens 3 = .ok (.idiv, 1) := dk_108 (dk_at dksX2_happens_0 3 rfl rfl)
theorem dX2_happens_4 : decode cX2_happens 4 = .ok (.bipush 8, 2) := dk_16 8 (dk_at dksX2_happens_0 4 rfl rfl)
theorem dX2_happens_6 : decode cX2_happens 6 = .ok (.irem, 1) := dk_112 (dk_at dksX2_happens_0 6 rfl rfl)
theorem dX2_happens_7 : decode cX2_happens 7 = .ok (.istore_n 2, 1) := dk_61 (dk_at dksX2_happens_0 7 rfl rfl)
theorem dX2_happens_8 : decode cX2_happens 8 = .ok (.iload_n 1, 1) := dk_27 (dk_at dksX2_happens_0 8 rfl rfl)
theorem dX2_happens_9 : decode cX2_happens 9 = .ok (.bipush 6, 2) := dk_16 6 (dk_at dksX2_happens_0 9 rfl rfl)
theorem dX2_happens_11 : decode cX2_happens 11 = .ok (.irem, 1) := dk_112 (dk_at dksX2_happens_0 11 rfl rfl)
theorem dX2_happens_12 : decode cX2_happens 12 = .ok (.tableswitch 103 0 3 #[32, 32, 56, 82], 32) := by decide +kernel
theorem dX2_happens_44 : decode cX2_happens 44 = .ok (.aload_n 0, 1) := dk_42 (dk_at dksX2_happens_2 0 rfl rfl)
theorem dX2_happens_45 : decode cX2_happens 45 = .ok (.iload_n 2, 1) := dk_28 (dk_at dksX2_happens_2 1 rfl rfl)
theorem dX2_happens_46 : decode cX2_happens 46 = .ok (.invokevirtual 346, 3) := dk_182 1 90 (dk_at dksX2_happens_2 2 rfl rfl)
theorem dX2_happens_49 : decode cX2_happens 49 = .ok (.ifCond .eq 82, 3) := dk_153 0 82 (dk_at dksX2_happens_2 5 rfl rfl)
theorem dX2_happens_52 : decode cX2_happens 52 = .ok (.aload_n 0, 1) := dk_42 (dk_at dksX2_happens_2 8 rfl rfl)
theorem dX2_happens_53 : decode cX2_happens 53 = .ok (.getfield 7, 3) := dk_180 0 7 (dk_at dksX2_happens_2 9 rfl rfl)
theorem dX2_happens_56 : decode cX2_happens 56 = .ok (.bipush 7, 2) := dk_16 7 (dk_at dksX2_happens_2 12 rfl rfl)
theorem dX2_happens_58 : decode cX2_happens 58 = .ok (.dup2, 1) := dk_92 (dk_at dksX2_happens_2 14 rfl rfl)
theorem dX2_happens_59 : decode cX2_happens 59 = .ok (.iaload, 1) := dk_46 (dk_at dksX2_happens_2 15 rfl rfl)
theorem dX2_happens_60 : decode cX2_happens 60 = .ok (.iconst 1, 1) := dk_4 (dk_at dksX2_happens_2 16 rfl rfl)
theorem dX2_happens_61 : decode cX2_happens 61 = .ok (.iload_n 2, 1) := dk_28 (dk_at dksX2_happens_2 17 rfl rfl)
theorem dX2_happens_62 : decode cX2_happens 62 = .ok (.ishl, 1) := dk_120 (dk_at dksX2_happens_2 18 rfl rfl)
theorem dX2_happens_63 : decode cX2_happens 63 = .ok (.ior, 1) := dk_128 (dk_at dksX2_happens_2 19 rfl rfl)
theorem dX2_happens_64 : decode cX2_happens 64 = .ok (.iastore, 1) := dk_79 (dk_at dksX2_happens_2 20 rfl rfl)
theorem dX2_happens_65 : decode cX2_happens 65 = .ok (.goto 66, 3) := dk_167 0 66 (dk_at dksX2_happens_2 21 rfl rfl)
theorem dX2_happens_68 : decode cX2_happens 68 = .ok (.aload_n 0, 1) := dk_42 (dk_at dksX2_happens_3 0 rfl rfl)
theorem dX2_happens_69 : decode cX2_happens 69 = .ok (.iload_n 2, 1) := dk_28 (dk_at dksX2_happens_3 1 rfl rfl)
theorem dX2_happens_70 : decode cX2_happens 70 = .ok (.invokevirtual 371, 3) := dk_182 1 115 (dk_at dksX2_happens_3 2 rfl rfl)
theorem dX2_happens_73 : decode cX2_happens 73 = .ok (.ifCond .eq 58, 3) := dk_153 0 58 (dk_at dksX2_happens_3 5 rfl rfl)
theorem dX2_happens_76 : decode cX2_happens 76 = .ok (.aload_n 0, 1) := dk_42 (dk_at dksX2_happens_3 8 rfl rfl)
theorem dX2_happens_77 : decode cX2_happens 77 = .ok (.getfield 7, 3) := dk_180 0 7 (dk_at dksX2_happens_3 9 rfl rfl)
theorem dX2_happens_80 : decode cX2_happens 80 = .ok (.bipush 7, 2) := dk_16 7 (dk_at dksX2_happens_3 12 rfl rfl)
theorem dX2_happens_82 : decode cX2_happens 82 = .ok (.dup2, 1) := dk_92 (dk_at dksX2_happens_3 14 rfl rfl)
theorem dX2_happens_83 : decode cX2_happens 83 = .ok (.iaload, 1) := dk_46 (dk_at dksX2_happens_3 15 rfl rfl)
theorem dX2_happens_84 : decode cX2_happens 84 = .ok (.iconst 1, 1) := dk_4 (dk_at dksX2_happens_3 16 rfl rfl)
theorem dX2_happens_85 : decode cX2_happens 85 = .ok (.iload_n 2, 1) := dk_28 (dk_at dksX2_happens_3 17 rfl rfl)
theorem dX2_happens_86 : decode cX2_happens 86 = .ok (.ishl, 1) := dk_120 (dk_at dksX2_happens_3 18 rfl rfl)
theorem dX2_happens_87 : decode cX2_happens 87 = .ok (.iconst (-1), 1) := dk_2 (dk_at dksX2_happens_3 19 rfl rfl)
theorem dX2_happens_88 : decode cX2_happens 88 = .ok (.ixor, 1) := dk_130 (dk_at dksX2_happens_3 20 rfl rfl)
theorem dX2_happens_89 : decode cX2_happens 89 = .ok (.iand, 1) := dk_126 (dk_at dksX2_happens_3 21 rfl rfl)
theorem dX2_happens_90 : decode cX2_happens 90 = .ok (.iastore, 1) := dk_79 (dk_at dksX2_happens_3 22 rfl rfl)
theorem dX2_happens_91 : decode cX2_happens 91 = .ok (.goto 40, 3) := dk_167 0 40 (dk_at dksX2_happens_4 0 rfl rfl)
theorem dX2_happens_94 : decode cX2_happens 94 = .ok (.aload_n 0, 1) := dk_42 (dk_at dksX2_happens_4 3 rfl rfl)
theorem dX2_happens_95 : decode cX2_happens 95 = .ok (.iload_n 2, 1) := dk_28 (dk_at dksX2_happens_4 4 rfl rfl)
theorem dX2_happens_96 : decode cX2_happens 96 = .ok (.invokevirtual 374, 3) := dk_182 1 118 (dk_at dksX2_happens_4 5 rfl rfl)
theorem dX2_happens_99 : decode cX2_happens 99 = .ok (.ifCond .eq 32, 3) := dk_153 0 32 (dk_at dksX2_happens_4 8 rfl rfl)
theorem dX2_happens_102 : decode cX2_happens 102 = .ok (.aload_n 0, 1) := dk_42 (dk_at dksX2_happens_4 11 rfl rfl)
theorem dX2_happens_103 : decode cX2_happens 103 = .ok (.getfield 7, 3) := dk_180 0 7 (dk_at dksX2_happens_4 12 rfl rfl)
theorem dX2_happens_106 : decode cX2_happens 106 = .ok (.bipush 9, 2) := dk_16 9 (dk_at dksX2_happens_4 15 rfl rfl)
theorem dX2_happens_108 : decode cX2_happens 108 = .ok (.iload_n 2, 1) := dk_28 (dk_at dksX2_happens_4 17 rfl rfl)
theorem dX2_happens_109 : decode cX2_happens 109 = .ok (.iadd, 1) := dk_96 (dk_at dksX2_happens_4 18 rfl rfl)
theorem dX2_happens_110 : decode cX2_happens 110 = .ok (.iconst 0, 1) := dk_3 (dk_at dksX2_happens_4 19 rfl rfl)
theorem dX2_happens_111 : decode cX2_happens 111 = .ok (.iastore, 1) := dk_79 (dk_at dksX2_happens_4 20 rfl rfl)
theorem dX2_happens_112 : decode cX2_happens 112 = .ok (.goto 19, 3) := dk_167 0 19 (dk_at dksX2_happens_4 21 rfl rfl)
theorem dX2_happens_115 : decode cX2_happens 115 = .ok (.aload_n 0, 1) := dk_42 (dk_at dksX2_happens_5 0 rfl rfl)
theorem dX2_happens_116 : decode cX2_happens 116 = .ok (.getfield 7, 3) := dk_180 0 7 (dk_at dksX2_happens_5 1 rfl rfl)
theorem dX2_happens_119 : decode cX2_happens 119 = .ok (.iconst 5, 1) := dk_8 (dk_at dksX2_happens_5 4 rfl rfl)
theorem dX2_happens_120 : decode cX2_happens 120 = .ok (.iaload, 1) := dk_46 (dk_at dksX2_happens_5 5 rfl rfl)
theorem dX2_happens_121 : decode cX2_happens 121 = .ok (.sipush 9999, 3) := dk_17 39 15 (dk_at dksX2_happens_5 6 rfl rfl)
theorem dX2_happens_124 : decode cX2_happens 124 = .ok (.if_icmp .ge 7, 3) := dk_162 0 7 (dk_at dksX2_happens_5 9 rfl rfl)
theorem dX2_happens_127 : decode cX2_happens 127 = .ok (.aload_n 0, 1) := dk_42 (dk_at dksX2_happens_5 12 rfl rfl)
theorem dX2_happens_128 : decode cX2_happens 128 = .ok (.invokevirtual 377, 3) := dk_182 1 121 (dk_at dksX2_happens_5 13 rfl rfl)
theorem dX2_happens_131 : decode cX2_happens 131 = .ok (.return_, 1) := dk_177 (dk_at dksX2_happens_5 16 rfl rfl)
abbrev cX2_of : ByteArray := prog_20_method_95_code
def yX2_of : MethodName := ⟨RX2, "of", "(II)I"⟩
def dkwX2_of_2 : List UInt8 := [4, 100, 46, 167, 0, 5, 16, 254, 172]
abbrev dktX2_of_2 : List UInt8 := dkwX2_of_2 ++ []
def dkwX2_of_1 : List UInt8 := [167, 0, 32, 28, 4, 5, 184, 0, 75, 153, 0, 21, 42, 180, 0, 7, 16, 17, 5, 27, 104, 96, 28, 96]
abbrev dktX2_of_1 : List UInt8 := dkwX2_of_1 ++ dktX2_of_2
def dkwX2_of_0 : List UInt8 := [42, 27, 182, 1, 151, 154, 0, 6, 16, 254, 172, 28, 154, 0, 15, 42, 180, 0, 7, 16, 27, 27, 96, 46]
abbrev dktX2_of_0 : List UInt8 := dkwX2_of_0 ++ dktX2_of_1
theorem dksX2_of_0 : cX2_of.data.toList.drop 0 = dktX2_of_0 := by decide +kernel
theorem dksX2_of_1 : cX2_of.data.toList.drop 24 = dktX2_of_1 := dk_seg dksX2_of_0 24 rfl rfl
theorem dksX2_of_2 : cX2_of.data.toList.drop 48 = dktX2_of_2 := dk_seg dksX2_of_1 24 rfl rfl
theorem dX2_of_0 : decode cX2_of 0 = .ok (.aload_n 0, 1) := dk_42 (dk_at dksX2_of_0 0 rfl rfl)
theorem dX2_of_1 : decode cX2_of 1 = .ok (.iload_n 1, 1) := dk_27 (dk_at dksX2_of_0 1 rfl rfl)
theorem dX2_of_2 : decode cX2_of 2 = .ok (.invokevirtual 407, 3) := dk_182 1 151 (dk_at dksX2_of_0 2 rfl rfl)
theorem dX2_of_5 : decode cX2_of 5 = .ok (.ifCond .ne 6, 3) := dk_154 0 6 (dk_at dksX2_of_0 5 rfl rfl)
theorem dX2_of_8 : decode cX2_of 8 = .ok (.bipush (-2), 2) := dk_16 254 (dk_at dksX2_of_0 8 rfl rfl)
theorem dX2_of_10 : decode cX2_of 10 = .ok (.ireturn, 1) := dk_172 (dk_at dksX2_of_0 10 rfl rfl)
theorem dX2_of_11 : decode cX2_of 11 = .ok (.iload_n 2, 1) := dk_28 (dk_at dksX2_of_0 11 rfl rfl)
theorem dX2_of_12 : decode cX2_of 12 = .ok (.ifCond .ne 15, 3) := dk_154 0 15 (dk_at dksX2_of_0 12 rfl rfl)
theorem dX2_of_15 : decode cX2_of 15 = .ok (.aload_n 0, 1) := dk_42 (dk_at dksX2_of_0 15 rfl rfl)
theorem dX2_of_16 : decode cX2_of 16 = .ok (.getfield 7, 3) := dk_180 0 7 (dk_at dksX2_of_0 16 rfl rfl)
theorem dX2_of_19 : decode cX2_of 19 = .ok (.bipush 27, 2) := dk_16 27 (dk_at dksX2_of_0 19 rfl rfl)
theorem dX2_of_21 : decode cX2_of 21 = .ok (.iload_n 1, 1) := dk_27 (dk_at dksX2_of_0 21 rfl rfl)
theorem dX2_of_22 : decode cX2_of 22 = .ok (.iadd, 1) := dk_96 (dk_at dksX2_of_0 22 rfl rfl)
theorem dX2_of_23 : decode cX2_of 23 = .ok (.iaload, 1) := dk_46 (dk_at dksX2_of_0 23 rfl rfl)
theorem dX2_of_24 : decode cX2_of 24 = .ok (.goto 32, 3) := dk_167 0 32 (dk_at dksX2_of_1 0 rfl rfl)
theorem dX2_of_27 : decode cX2_of 27 = .ok (.iload_n 2, 1) := dk_28 (dk_at dksX2_of_1 3 rfl rfl)
theorem dX2_of_28 : decode cX2_of 28 = .ok (.iconst 1, 1) := dk_4 (dk_at dksX2_of_1 4 rfl rfl)
theorem dX2_of_29 : decode cX2_of 29 = .ok (.iconst 2, 1) := dk_5 (dk_at dksX2_of_1 5 rfl rfl)
theorem dX2_of_30 : decode cX2_of 30 = .ok (.invokestatic 75, 3) := dk_184 0 75 (dk_at dksX2_of_1 6 rfl rfl)
theorem dX2_of_33 : decode cX2_of 33 = .ok (.ifCond .eq 21, 3) := dk_153 0 21 (dk_at dksX2_of_1 9 rfl rfl)
theorem dX2_of_36 : decode cX2_of 36 = .ok (.aload_n 0, 1) := dk_42 (dk_at dksX2_of_1 12 rfl rfl)
theorem dX2_of_37 : decode cX2_of 37 = .ok (.getfield 7, 3) := dk_180 0 7 (dk_at dksX2_of_1 13 rfl rfl)
theorem dX2_of_40 : decode cX2_of 40 = .ok (.bipush 17, 2) := dk_16 17 (dk_at dksX2_of_1 16 rfl rfl)
theorem dX2_of_42 : decode cX2_of 42 = .ok (.iconst 2, 1) := dk_5 (dk_at dksX2_of_1 18 rfl rfl)
theorem dX2_of_43 : decode cX2_of 43 = .ok (.iload_n 1, 1) := dk_27 (dk_at dksX2_of_1 19 rfl rfl)
theorem dX2_of_44 : decode cX2_of 44 = .ok (.imul, 1) := dk_104 (dk_at dksX2_of_1 20 rfl rfl)
theorem dX2_of_45 : decode cX2_of 45 = .ok (.iadd, 1) := dk_96 (dk_at dksX2_of_1 21 rfl rfl)
theorem dX2_of_46 : decode cX2_of 46 = .ok (.iload_n 2, 1) := dk_28 (dk_at dksX2_of_1 22 rfl rfl)
theorem dX2_of_47 : decode cX2_of 47 = .ok (.iadd, 1) := dk_96 (dk_at dksX2_of_1 23 rfl rfl)
theorem dX2_of_48 : decode cX2_of 48 = .ok (.iconst 1, 1) := dk_4 (dk_at dksX2_of_2 0 rfl rfl)
theorem dX2_of_49 : decode cX2_of 49 = .ok (.isub, 1) := dk_100 (dk_at dksX2_of_2 1 rfl rfl)
theorem dX2_of_50 : decode cX2_of 50 = .ok (.iaload, 1) := dk_46 (dk_at dksX2_of_2 2 rfl rfl)
theorem dX2_of_51 : decode cX2_of 51 = .ok (.goto 5, 3) := dk_167 0 5 (dk_at dksX2_of_2 3 rfl rfl)
theorem dX2_of_54 : decode cX2_of 54 = .ok (.bipush (-2), 2) := dk_16 254 (dk_at dksX2_of_2 6 rfl rfl)
theorem dX2_of_56 : decode cX2_of 56 = .ok (.ireturn, 1) := dk_172 (dk_at dksX2_of_2 8 rfl rfl)
abbrev cX2_isFarmer : ByteArray := prog_20_method_7_code
def yX2_isFarmer : MethodName := ⟨RX2, "isFarmer", "(I)Z"⟩
def dkwX2_isFarmer_0 : List UInt8 := [27, 3, 42, 180, 0, 7, 3, 46, 4, 100, 184, 0, 75, 172]
abbrev dktX2_isFarmer_0 : List UInt8 := dkwX2_isFarmer_0 ++ []
theorem dksX2_isFarmer_0 : cX2_isFarmer.data.toList.drop 0 = dktX2_isFarmer_0 := by decide +kernel
theorem dX2_isFarmer_0 : decode cX2_isFarmer 0 = .ok (.iload_n 1, 1) := dk_27 (dk_at dksX2_isFarmer_0 0 rfl rfl)
theorem dX2_isFarmer_1 : decode cX2_isFarmer 1 = .ok (.iconst 0, 1) := dk_3 (dk_at dksX2_isFarmer_0 1 rfl rfl)
theorem dX2_isFarmer_2 : decode cX2_isFarmer 2 = .ok (.aload_n 0, 1) := dk_42 (dk_at dksX2_isFarmer_0 2 rfl rfl)
theorem dX2_isFarmer_3 : decode cX2_isFarmer 3 = .ok (.getfield 7, 3) := dk_180 0 7 (dk_at dksX2_isFarmer_0 3 rfl rfl)
theorem dX2_isFarmer_6 : decode cX2_isFarmer 6 = .ok (.iconst 0, 1) := dk_3 (dk_at dksX2_isFarmer_0 6 rfl rfl)
theorem dX2_isFarmer_7 : decode cX2_isFarmer 7 = .ok (.iaload, 1) := dk_46 (dk_at dksX2_isFarmer_0 7 rfl rfl)
theorem dX2_isFarmer_8 : decode cX2_isFarmer 8 = .ok (.iconst 1, 1) := dk_4 (dk_at dksX2_isFarmer_0 8 rfl rfl)
theorem dX2_isFarmer_9 : decode cX2_isFarmer 9 = .ok (.isub, 1) := dk_100 (dk_at dksX2_isFarmer_0 9 rfl rfl)
theorem dX2_isFarmer_10 : decode cX2_isFarmer 10 = .ok (.invokestatic 75, 3) := dk_184 0 75 (dk_at dksX2_isFarmer_0 10 rfl rfl)
theorem dX2_isFarmer_13 : decode cX2_isFarmer 13 = .ok (.ireturn, 1) := dk_172 (dk_at dksX2_isFarmer_0 13 rfl rfl)
abbrev cX2_claim : ByteArray := prog_20_method_96_code
def yX2_claim : MethodName := ⟨RX2, "claim", "(II)I"⟩
def dkwX2_claim_2 : List UInt8 := [180, 0, 7, 16, 9, 27, 96, 46, 167, 0, 4, 2, 172]
abbrev dktX2_claim_2 : List UInt8 := dkwX2_claim_2 ++ []
def dkwX2_claim_1 : List UInt8 := [160, 0, 17, 42, 180, 0, 7, 16, 7, 46, 27, 122, 4, 126, 167, 0, 21, 28, 5, 160, 0, 15, 42]
abbrev dktX2_claim_1 : List UInt8 := dkwX2_claim_1 ++ dktX2_claim_2
def dkwX2_claim_0 : List UInt8 := [42, 27, 182, 1, 78, 154, 0, 5, 2, 172, 28, 154, 0, 11, 42, 27, 182, 0, 91, 167, 0, 40, 28, 4]
abbrev dktX2_claim_0 : List UInt8 := dkwX2_claim_0 ++ dktX2_claim_1
theorem dksX2_claim_0 : cX2_claim.data.toList.drop 0 = dktX2_claim_0 := by decide +kernel
theorem dksX2_claim_1 : cX2_claim.data.toList.drop 24 = dktX2_claim_1 := dk_seg dksX2_claim_0 24 rfl rfl
theorem dksX2_claim_2 : cX2_claim.data.toList.drop 47 = dktX2_claim_2 := dk_seg dksX2_claim_1 23 rfl rfl
theorem dX2_claim_0 : decode cX2_claim 0 = .ok (.aload_n 0, 1) := dk_42 (dk_at dksX2_claim_0 0 rfl rfl)
theorem dX2_claim_1 : decode cX2_claim 1 = .ok (.iload_n 1, 1) := dk_27 (dk_at dksX2_claim_0 1 rfl rfl)
theorem dX2_claim_2 : decode cX2_claim 2 = .ok (.invokevirtual 334, 3) := dk_182 1 78 (dk_at dksX2_claim_0 2 rfl rfl)
theorem dX2_claim_5 : decode cX2_claim 5 = .ok (.ifCond .ne 5, 3) := dk_154 0 5 (dk_at dksX2_claim_0 5 rfl rfl)
theorem dX2_claim_8 : decode cX2_claim 8 = .ok (.iconst (-1), 1) := dk_2 (dk_at dksX2_claim_0 8 rfl rfl)
theorem dX2_claim_9 : decode cX2_claim 9 = .ok (.ireturn, 1) := dk_172 (dk_at dksX2_claim_0 9 rfl rfl)
theorem dX2_claim_10 : decode cX2_claim 10 = .ok (.iload_n 2, 1) := dk_28 (dk_at dksX2_claim_0 10 rfl rfl)
theorem dX2_claim_11 : decode cX2_claim 11 = .ok (.ifCond .ne 11, 3) := dk_154 0 11 (dk_at dksX2_claim_0 11 rfl rfl)
theorem dX2_claim_14 : decode cX2_claim 14 = .ok (.aload_n 0, 1) := dk_42 (dk_at dksX2_claim_0 14 rfl rfl)
theorem dX2_claim_15 : decode cX2_claim 15 = .ok (.iload_n 1, 1) := dk_27 (dk_at dksX2_claim_0 15 rfl rfl)
theorem dX2_claim_16 : decode cX2_claim 16 = .ok (.invokevirtual 91, 3) := dk_182 0 91 (dk_at dksX2_claim_0 16 rfl rfl)
theorem dX2_claim_19 : decode cX2_claim 19 = .ok (.goto 40, 3) := dk_167 0 40 (dk_at dksX2_claim_0 19 rfl rfl)
theorem dX2_claim_22 : decode cX2_claim 22 = .ok (.iload_n 2, 1) := dk_28 (dk_at dksX2_claim_0 22 rfl rfl)
theorem dX2_claim_23 : decode cX2_claim 23 = .ok (.iconst 1, 1) := dk_4 (dk_at dksX2_claim_0 23 rfl rfl)
theorem dX2_claim_24 : decode cX2_claim 24 = .ok (.if_icmp .ne 17, 3) := dk_160 0 17 (dk_at dksX2_claim_1 0 rfl rfl)
theorem dX2_claim_27 : decode cX2_claim 27 = .ok (.aload_n 0, 1) := dk_42 (dk_at dksX2_claim_1 3 rfl rfl)
theorem dX2_claim_28 : decode cX2_claim 28 = .ok (.getfield 7, 3) := dk_180 0 7 (dk_at dksX2_claim_1 4 rfl rfl)
theorem dX2_claim_31 : decode cX2_claim 31 = .ok (.bipush 7, 2) := dk_16 7 (dk_at dksX2_claim_1 7 rfl rfl)
theorem dX2_claim_33 : decode cX2_claim 33 = .ok (.iaload, 1) := dk_46 (dk_at dksX2_claim_1 9 rfl rfl)
theorem dX2_claim_34 : decode cX2_claim 34 = .ok (.iload_n 1, 1) := dk_27 (dk_at dksX2_claim_1 10 rfl rfl)
theorem dX2_claim_35 : decode cX2_claim 35 = .ok (.ishr, 1) := dk_122 (dk_at dksX2_claim_1 11 rfl rfl)
theorem dX2_claim_36 : decode cX2_claim 36 = .ok (.iconst 1, 1) := dk_4 (dk_at dksX2_claim_1 12 rfl rfl)
theorem dX2_claim_37 : decode cX2_claim 37 = .ok (.iand, 1) := dk_126 (dk_at dksX2_claim_1 13 rfl rfl)
theorem dX2_claim_38 : decode cX2_claim 38 = .ok (.goto 21, 3) := dk_167 0 21 (dk_at dksX2_claim_1 14 rfl rfl)
theorem dX2_claim_41 : decode cX2_claim 41 = .ok (.iload_n 2, 1) := dk_28 (dk_at dksX2_claim_1 17 rfl rfl)
theorem dX2_claim_42 : decode cX2_claim 42 = .ok (.iconst 2, 1) := dk_5 (dk_at dksX2_claim_1 18 rfl rfl)
theorem dX2_claim_43 : decode cX2_claim 43 = .ok (.if_icmp .ne 15, 3) := dk_160 0 15 (dk_at dksX2_claim_1 19 rfl rfl)
theorem dX2_claim_46 : decode cX2_claim 46 = .ok (.aload_n 0, 1) := dk_42 (dk_at dksX2_claim_1 22 rfl rfl)
theorem dX2_claim_47 : decode cX2_claim 47 = .ok (.getfield 7, 3) := dk_180 0 7 (dk_at dksX2_claim_2 0 rfl rfl)
theorem dX2_claim_50 : decode cX2_claim 50 = .ok (.bipush 9, 2) := dk_16 9 (dk_at dksX2_claim_2 3 rfl rfl)
theorem dX2_claim_52 : decode cX2_claim 52 = .ok (.iload_n 1, 1) := dk_27 (dk_at dksX2_claim_2 5 rfl rfl)
theorem dX2_claim_53 : decode cX2_claim 53 = .ok (.iadd, 1) := dk_96 (dk_at dksX2_claim_2 6 rfl rfl)
theorem dX2_claim_54 : decode cX2_claim 54 = .ok (.iaload, 1) := dk_46 (dk_at dksX2_claim_2 7 rfl rfl)
theorem dX2_claim_55 : decode cX2_claim 55 = .ok (.goto 4, 3) := dk_167 0 4 (dk_at dksX2_claim_2 8 rfl rfl)
theorem dX2_claim_58 : decode cX2_claim 58 = .ok (.iconst (-1), 1) := dk_2 (dk_at dksX2_claim_2 11 rfl rfl)
theorem dX2_claim_59 : decode cX2_claim 59 = .ok (.ireturn, 1) := dk_172 (dk_at dksX2_claim_2 12 rfl rfl)
abbrev cX2_is : ByteArray := prog_20_method_98_code
def yX2_is : MethodName := ⟨RX2, "is", "(I)I"⟩
def dkwX2_is_2 : List UInt8 := [160, 0, 10, 42, 182, 0, 79, 167, 0, 5, 16, 254, 172]
abbrev dktX2_is_2 : List UInt8 := dkwX2_is_2 ++ []
def dkwX2_is_1 : List UInt8 := [160, 0, 10, 42, 182, 1, 81, 167, 0, 29, 27, 6, 160, 0, 10, 42, 182, 1, 154, 167, 0, 17, 27, 7]
abbrev dktX2_is_1 : List UInt8 := dkwX2_is_1 ++ dktX2_is_2
def dkwX2_is_0 : List UInt8 := [27, 3, 4, 184, 0, 75, 153, 0, 14, 42, 180, 0, 7, 8, 27, 96, 46, 167, 0, 41, 27, 5]
abbrev dktX2_is_0 : List UInt8 := dkwX2_is_0 ++ dktX2_is_1
theorem dksX2_is_0 : cX2_is.data.toList.drop 0 = dktX2_is_0 := by decide +kernel
theorem dksX2_is_1 : cX2_is.data.toList.drop 22 = dktX2_is_1 := dk_seg dksX2_is_0 22 rfl rfl
theorem dksX2_is_2 : cX2_is.data.toList.drop 46 = dktX2_is_2 := dk_seg dksX2_is_1 24 rfl rfl
theorem dX2_is_0 : decode cX2_is 0 = .ok (.iload_n 1, 1) := dk_27 (dk_at dksX2_is_0 0 rfl rfl)
theorem dX2_is_1 : decode cX2_is 1 = .ok (.iconst 0, 1) := dk_3 (dk_at dksX2_is_0 1 rfl rfl)
theorem dX2_is_2 : decode cX2_is 2 = .ok (.iconst 1, 1) := dk_4 (dk_at dksX2_is_0 2 rfl rfl)
theorem dX2_is_3 : decode cX2_is 3 = .ok (.invokestatic 75, 3) := dk_184 0 75 (dk_at dksX2_is_0 3 rfl rfl)
theorem dX2_is_6 : decode cX2_is 6 = .ok (.ifCond .eq 14, 3) := dk_153 0 14 (dk_at dksX2_is_0 6 rfl rfl)
theorem dX2_is_9 : decode cX2_is 9 = .ok (.aload_n 0, 1) := dk_42 (dk_at dksX2_is_0 9 rfl rfl)
theorem dX2_is_10 : decode cX2_is 10 = .ok (.getfield 7, 3) := dk_180 0 7 (dk_at dksX2_is_0 10 rfl rfl)
theorem dX2_is_13 : decode cX2_is 13 = .ok (.iconst 5, 1) := dk_8 (dk_at dksX2_is_0 13 rfl rfl)
theorem dX2_is_14 : decode cX2_is 14 = .ok (.iload_n 1, 1) := dk_27 (dk_at dksX2_is_0 14 rfl rfl)
theorem dX2_is_15 : decode cX2_is 15 = .ok (.iadd, 1) := dk_96 (dk_at dksX2_is_0 15 rfl rfl)
theorem dX2_is_16 : decode cX2_is 16 = .ok (.iaload, 1) := dk_46 (dk_at dksX2_is_0 16 rfl rfl)
theorem dX2_is_17 : decode cX2_is 17 = .ok (.goto 41, 3) := dk_167 0 41 (dk_at dksX2_is_0 17 rfl rfl)
theorem dX2_is_20 : decode cX2_is 20 = .ok (.iload_n 1, 1) := dk_27 (dk_at dksX2_is_0 20 rfl rfl)
theorem dX2_is_21 : decode cX2_is 21 = .ok (.iconst 2, 1) := dk_5 (dk_at dksX2_is_0 21 rfl rfl)
theorem dX2_is_22 : decode cX2_is 22 = .ok (.if_icmp .ne 10, 3) := dk_160 0 10 (dk_at dksX2_is_1 0 rfl rfl)
theorem dX2_is_25 : decode cX2_is 25 = .ok (.aload_n 0, 1) := dk_42 (dk_at dksX2_is_1 3 rfl rfl)
theorem dX2_is_26 : decode cX2_is 26 = .ok (.invokevirtual 337, 3) := dk_182 1 81 (dk_at dksX2_is_1 4 rfl rfl)
theorem dX2_is_29 : decode cX2_is 29 = .ok (.goto 29, 3) := dk_167 0 29 (dk_at dksX2_is_1 7 rfl rfl)
theorem dX2_is_32 : decode cX2_is 32 = .ok (.iload_n 1, 1) := dk_27 (dk_at dksX2_is_1 10 rfl rfl)
theorem dX2_is_33 : decode cX2_is 33 = .ok (.iconst 3, 1) := dk_6 (dk_at dksX2_is_1 11 rfl rfl)
theorem dX2_is_34 : decode cX2_is 34 = .ok (.if_icmp .ne 10, 3) := dk_160 0 10 (dk_at dksX2_is_1 12 rfl rfl)
theorem dX2_is_37 : decode cX2_is 37 = .ok (.aload_n 0, 1) := dk_42 (dk_at dksX2_is_1 15 rfl rfl)
theorem dX2_is_38 : decode cX2_is 38 = .ok (.invokevirtual 410, 3) := dk_182 1 154 (dk_at dksX2_is_1 16 rfl rfl)
theorem dX2_is_41 : decode cX2_is 41 = .ok (.goto 17, 3) := dk_167 0 17 (dk_at dksX2_is_1 19 rfl rfl)
theorem dX2_is_44 : decode cX2_is 44 = .ok (.iload_n 1, 1) := dk_27 (dk_at dksX2_is_1 22 rfl rfl)
theorem dX2_is_45 : decode cX2_is 45 = .ok (.iconst 4, 1) := dk_7 (dk_at dksX2_is_1 23 rfl rfl)
theorem dX2_is_46 : decode cX2_is 46 = .ok (.if_icmp .ne 10, 3) := dk_160 0 10 (dk_at dksX2_is_2 0 rfl rfl)
theorem dX2_is_49 : decode cX2_is 49 = .ok (.aload_n 0, 1) := dk_42 (dk_at dksX2_is_2 3 rfl rfl)
theorem dX2_is_50 : decode cX2_is 50 = .ok (.invokevirtual 79, 3) := dk_182 0 79 (dk_at dksX2_is_2 4 rfl rfl)
theorem dX2_is_53 : decode cX2_is 53 = .ok (.goto 5, 3) := dk_167 0 5 (dk_at dksX2_is_2 7 rfl rfl)
theorem dX2_is_56 : decode cX2_is 56 = .ok (.bipush (-2), 2) := dk_16 254 (dk_at dksX2_is_2 10 rfl rfl)
theorem dX2_is_58 : decode cX2_is 58 = .ok (.ireturn, 1) := dk_172 (dk_at dksX2_is_2 12 rfl rfl)
abbrev cX2_barredNow : ByteArray := prog_20_method_97_code
def yX2_barredNow : MethodName := ⟨RX2, "barredNow", "()I"⟩
def dkwX2_barredNow_1 : List UInt8 := [153, 0, 9, 4, 28, 120, 167, 0, 4, 3, 128, 60, 132, 2, 1, 167, 255, 223, 27, 172]
abbrev dktX2_barredNow_1 : List UInt8 := dkwX2_barredNow_1 ++ []
def dkwX2_barredNow_0 : List UInt8 := [3, 60, 3, 61, 28, 42, 182, 0, 79, 162, 0, 31, 27, 42, 180, 0, 7, 16, 9, 28, 96, 46]
abbrev dktX2_barredNow_0 : List UInt8 := dkwX2_barredNow_0 ++ dktX2_barredNow_1
theorem dksX2_barredNow_0 : cX2_barredNow.data.toList.drop 0 = dktX2_barredNow_0 := by decide +kernel
theorem dksX2_barredNow_1 : cX2_barredNow.data.toList.drop 22 = dktX2_barredNow_1 := dk_seg dksX2_barredNow_0 22 rfl rfl
theorem dX2_barredNow_0 : decode cX2_barredNow 0 = .ok (.iconst 0, 1) := dk_3 (dk_at dksX2_barredNow_0 0 rfl rfl)
theorem dX2_barredNow_1 : decode cX2_barredNow 1 = .ok (.istore_n 1, 1) := dk_60 (dk_at dksX2_barredNow_0 1 rfl rfl)
theorem dX2_barredNow_2 : decode cX2_barredNow 2 = .ok (.iconst 0, 1) := dk_3 (dk_at dksX2_barredNow_0 2 rfl rfl)
theorem dX2_barredNow_3 : decode cX2_barredNow 3 = .ok (.istore_n 2, 1) := dk_61 (dk_at dksX2_barredNow_0 3 rfl rfl)
theorem dX2_barredNow_4 : decode cX2_barredNow 4 = .ok (.iload_n 2, 1) := dk_28 (dk_at dksX2_barredNow_0 4 rfl rfl)
theorem dX2_barredNow_5 : decode cX2_barredNow 5 = .ok (.aload_n 0, 1) := dk_42 (dk_at dksX2_barredNow_0 5 rfl rfl)
theorem dX2_barredNow_6 : decode cX2_barredNow 6 = .ok (.invokevirtual 79, 3) := dk_182 0 79 (dk_at dksX2_barredNow_0 6 rfl rfl)
theorem dX2_barredNow_9 : decode cX2_barredNow 9 = .ok (.if_icmp .ge 31, 3) := dk_162 0 31 (dk_at dksX2_barredNow_0 9 rfl rfl)
theorem dX2_barredNow_12 : decode cX2_barredNow 12 = .ok (.iload_n 1, 1) := dk_27 (dk_at dksX2_barredNow_0 12 rfl rfl)
theorem dX2_barredNow_13 : decode cX2_barredNow 13 = .ok (.aload_n 0, 1) := dk_42 (dk_at dksX2_barredNow_0 13 rfl rfl)
theorem dX2_barredNow_14 : decode cX2_barredNow 14 = .ok (.getfield 7, 3) := dk_180 0 7 (dk_at dksX2_barredNow_0 14 rfl rfl)
theorem dX2_barredNow_17 : decode cX2_barredNow 17 = .ok (.bipush 9, 2) := dk_16 9 (dk_at dksX2_barredNow_0 17 rfl rfl)
theorem dX2_barredNow_19 : decode cX2_barredNow 19 = .ok (.iload_n 2, 1) := dk_28 (dk_at dksX2_barredNow_0 19 rfl rfl)
theorem dX2_barredNow_20 : decode cX2_barredNow 20 = .ok (.iadd, 1) := dk_96 (dk_at dksX2_barredNow_0 20 rfl rfl)
theorem dX2_barredNow_21 : decode cX2_barredNow 21 = .ok (.iaload, 1) := dk_46 (dk_at dksX2_barredNow_0 21 rfl rfl)
theorem dX2_barredNow_22 : decode cX2_barredNow 22 = .ok (.ifCond .eq 9, 3) := dk_153 0 9 (dk_at dksX2_barredNow_1 0 rfl rfl)
theorem dX2_barredNow_25 : decode cX2_barredNow 25 = .ok (.iconst 1, 1) := dk_4 (dk_at dksX2_barredNow_1 3 rfl rfl)
theorem dX2_barredNow_26 : decode cX2_barredNow 26 = .ok (.iload_n 2, 1) := dk_28 (dk_at dksX2_barredNow_1 4 rfl rfl)
theorem dX2_barredNow_27 : decode cX2_barredNow 27 = .ok (.ishl, 1) := dk_120 (dk_at dksX2_barredNow_1 5 rfl rfl)
theorem dX2_barredNow_28 : decode cX2_barredNow 28 = .ok (.goto 4, 3) := dk_167 0 4 (dk_at dksX2_barredNow_1 6 rfl rfl)
theorem dX2_barredNow_31 : decode cX2_barredNow 31 = .ok (.iconst 0, 1) := dk_3 (dk_at dksX2_barredNow_1 9 rfl rfl)
theorem dX2_barredNow_32 : decode cX2_barredNow 32 = .ok (.ior, 1) := dk_128 (dk_at dksX2_barredNow_1 10 rfl rfl)
theorem dX2_barredNow_33 : decode cX2_barredNow 33 = .ok (.istore_n 1, 1) := dk_60 (dk_at dksX2_barredNow_1 11 rfl rfl)
theorem dX2_barredNow_34 : decode cX2_barredNow 34 = .ok (.iinc 2 1, 3) := dk_132 2 1 (dk_at dksX2_barredNow_1 12 rfl rfl)
theorem dX2_barredNow_37 : decode cX2_barredNow 37 = .ok (.goto (-33), 3) := dk_167 255 223 (dk_at dksX2_barredNow_1 15 rfl rfl)
theorem dX2_barredNow_40 : decode cX2_barredNow 40 = .ok (.iload_n 1, 1) := dk_27 (dk_at dksX2_barredNow_1 18 rfl rfl)
theorem dX2_barredNow_41 : decode cX2_barredNow 41 = .ok (.ireturn, 1) := dk_172 (dk_at dksX2_barredNow_1 19 rfl rfl)
abbrev cX2_worth : ByteArray := prog_20_method_99_code
def yX2_worth : MethodName := ⟨RX2, "worth", "(II)I"⟩
def dkwX2_worth_1 : List UInt8 := [182, 1, 93, 167, 0, 5, 16, 156, 172]
abbrev dktX2_worth_1 : List UInt8 := dkwX2_worth_1 ++ []
def dkwX2_worth_0 : List UInt8 := [42, 27, 182, 1, 151, 153, 0, 25, 28, 184, 0, 95, 153, 0, 18, 42, 42, 180, 0, 7, 5, 46, 27, 28]
abbrev dktX2_worth_0 : List UInt8 := dkwX2_worth_0 ++ dktX2_worth_1
theorem dksX2_worth_0 : cX2_worth.data.toList.drop 0 = dktX2_worth_0 := by decide +kernel
theorem dksX2_worth_1 : cX2_worth.data.toList.drop 24 = dktX2_worth_1 := dk_seg dksX2_worth_0 24 rfl rfl
theorem dX2_worth_0 : decode cX2_worth 0 = .ok (.aload_n 0, 1) := dk_42 (dk_at dksX2_worth_0 0 rfl rfl)
theorem dX2_worth_1 : decode cX2_worth 1 = .ok (.iload_n 1, 1) := dk_27 (dk_at dksX2_worth_0 1 rfl rfl)
theorem dX2_worth_2 : decode cX2_worth 2 = .ok (.invokevirtual 407, 3) := dk_182 1 151 (dk_at dksX2_worth_0 2 rfl rfl)
theorem dX2_worth_5 : decode cX2_worth 5 = .ok (.ifCond .eq 25, 3) := dk_153 0 25 (dk_at dksX2_worth_0 5 rfl rfl)
theorem dX2_worth_8 : decode cX2_worth 8 = .ok (.iload_n 2, 1) := dk_28 (dk_at dksX2_worth_0 8 rfl rfl)
theorem dX2_worth_9 : decode cX2_worth 9 = .ok (.invokestatic 95, 3) := dk_184 0 95 (dk_at dksX2_worth_0 9 rfl rfl)
theorem dX2_worth_12 : decode cX2_worth 12 = .ok (.ifCond .eq 18, 3) := dk_153 0 18 (dk_at dksX2_worth_0 12 rfl rfl)
theorem dX2_worth_15 : decode cX2_worth 15 = .ok (.aload_n 0, 1) := dk_42 (dk_at dksX2_worth_0 15 rfl rfl)
theorem dX2_worth_16 : decode cX2_worth 16 = .ok (.aload_n 0, 1) := dk_42 (dk_at dksX2_worth_0 16 rfl rfl)
theorem dX2_worth_17 : decode cX2_worth 17 = .ok (.getfield 7, 3) := dk_180 0 7 (dk_at dksX2_worth_0 17 rfl rfl)
theorem dX2_worth_20 : decode cX2_worth 20 = .ok (.iconst 2, 1) := dk_5 (dk_at dksX2_worth_0 20 rfl rfl)
theorem dX2_worth_21 : decode cX2_worth 21 = .ok (.iaload, 1) := dk_46 (dk_at dksX2_worth_0 21 rfl rfl)
theorem dX2_worth_22 : decode cX2_worth 22 = .ok (.iload_n 1, 1) := dk_27 (dk_at dksX2_worth_0 22 rfl rfl)
theorem dX2_worth_23 : decode cX2_worth 23 = .ok (.iload_n 2, 1) := dk_28 (dk_at dksX2_worth_0 23 rfl rfl)
theorem dX2_worth_24 : decode cX2_worth 24 = .ok (.invokevirtual 349, 3) := dk_182 1 93 (dk_at dksX2_worth_1 0 rfl rfl)
theorem dX2_worth_27 : decode cX2_worth 27 = .ok (.goto 5, 3) := dk_167 0 5 (dk_at dksX2_worth_1 3 rfl rfl)
theorem dX2_worth_30 : decode cX2_worth 30 = .ok (.bipush (-100), 2) := dk_16 156 (dk_at dksX2_worth_1 6 rfl rfl)
theorem dX2_worth_32 : decode cX2_worth 32 = .ok (.ireturn, 1) := dk_172 (dk_at dksX2_worth_1 8 rfl rfl)
abbrev cX2_book : ByteArray := prog_20_method_101_code
def yX2_book : MethodName := ⟨RX2, "book", "(II)I"⟩
def dkwX2_book_2 : List UInt8 := [16, 254, 172]
abbrev dktX2_book_2 : List UInt8 := dkwX2_book_2 ++ []
def dkwX2_book_1 : List UInt8 := [184, 0, 75, 153, 0, 21, 28, 3, 7, 184, 0, 75, 153, 0, 12, 42, 27, 28, 182, 1, 157, 167, 0, 5]
abbrev dktX2_book_1 : List UInt8 := dkwX2_book_1 ++ dktX2_book_2
def dkwX2_book_0 : List UInt8 := [27, 2, 160, 0, 11, 42, 180, 0, 7, 16, 8, 46, 172, 27, 3, 42, 180, 0, 7, 16, 8, 46, 4, 100]
abbrev dktX2_book_0 : List UInt8 := dkwX2_book_0 ++ dktX2_book_1
theorem dksX2_book_0 : cX2_book.data.toList.drop 0 = dktX2_book_0 := by decide +kernel
theorem dksX2_book_1 : cX2_book.data.toList.drop 24 = dktX2_book_1 := dk_seg dksX2_book_0 24 rfl rfl
theorem dksX2_book_2 : cX2_book.data.toList.drop 48 = dktX2_book_2 := dk_seg dksX2_book_1 24 rfl rfl
theorem dX2_book_0 : decode cX2_book 0 = .ok (.iload_n 1, 1) := dk_27 (dk_at dksX2_book_0 0 rfl rfl)
theorem dX2_book_1 : decode cX2_book 1 = .ok (.iconst (-1), 1) := dk_2 (dk_at dksX2_book_0 1 rfl rfl)
theorem dX2_book_2 : decode cX2_book 2 = .ok (.if_icmp .ne 11, 3) := dk_160 0 11 (dk_at dksX2_book_0 2 rfl rfl)
theorem dX2_book_5 : decode cX2_book 5 = .ok (.aload_n 0, 1) := dk_42 (dk_at dksX2_book_0 5 rfl rfl)
theorem dX2_book_6 : decode cX2_book 6 = .ok (.getfield 7, 3) := dk_180 0 7 (dk_at dksX2_book_0 6 rfl rfl)
theorem dX2_book_9 : decode cX2_book 9 = .ok (.bipush 8, 2) := dk_16 8 (dk_at dksX2_book_0 9 rfl rfl)
theorem dX2_book_11 : decode cX2_book 11 = .ok (.iaload, 1) := dk_46 (dk_at dksX2_book_0 11 rfl rfl)
theorem dX2_book_12 : decode cX2_book 12 = .ok (.ireturn, 1) := dk_172 (dk_at dksX2_book_0 12 rfl rfl)
theorem dX2_book_13 : decode cX2_book 13 = .ok (.iload_n 1, 1) := dk_27 (dk_at dksX2_book_0 13 rfl rfl)
theorem dX2_book_14 : decode cX2_book 14 = .ok (.iconst 0, 1) := dk_3 (dk_at dksX2_book_0 14 rfl rfl)
theorem dX2_book_15 : decode cX2_book 15 = .ok (.aload_n 0, 1) := dk_42 (dk_at dksX2_book_0 15 rfl rfl)
theorem dX2_book_16 : decode cX2_book 16 = .ok (.getfield 7, 3) := dk_180 0 7 (dk_at dksX2_book_0 16 rfl rfl)
theorem dX2_book_19 : decode cX2_book 19 = .ok (.bipush 8, 2) := dk_16 8 (dk_at dksX2_book_0 19 rfl rfl)
theorem dX2_book_21 : decode cX2_book 21 = .ok (.iaload, 1) := dk_46 (dk_at dksX2_book_0 21 rfl rfl)
theorem dX2_book_22 : decode cX2_book 22 = .ok (.iconst 1, 1) := dk_4 (dk_at dksX2_book_0 22 rfl rfl)
theorem dX2_book_23 : decode cX2_book 23 = .ok (.isub, 1) := dk_100 (dk_at dksX2_book_0 23 rfl rfl)
theorem dX2_book_24 : decode cX2_book 24 = .ok (.invokestatic 75, 3) := dk_184 0 75 (dk_at dksX2_book_1 0 rfl rfl)
theorem dX2_book_27 : decode cX2_book 27 = .ok (.ifCond .eq 21, 3) := dk_153 0 21 (dk_at dksX2_book_1 3 rfl rfl)
theorem dX2_book_30 : decode cX2_book 30 = .ok (.iload_n 2, 1) := dk_28 (dk_at dksX2_book_1 6 rfl rfl)
theorem dX2_book_31 : decode cX2_book 31 = .ok (.iconst 0, 1) := dk_3 (dk_at dksX2_book_1 7 rfl rfl)
theorem dX2_book_32 : decode cX2_book 32 = .ok (.iconst 4, 1) := dk_7 (dk_at dksX2_book_1 8 rfl rfl)
theorem dX2_book_33 : decode cX2_book 33 = .ok (.invokestatic 75, 3) := dk_184 0 75 (dk_at dksX2_book_1 9 rfl rfl)
theorem dX2_book_36 : decode cX2_book 36 = .ok (.ifCond .eq 12, 3) := dk_153 0 12 (dk_at dksX2_book_1 12 rfl rfl)
theorem dX2_book_39 : decode cX2_book 39 = .ok (.aload_n 0, 1) := dk_42 (dk_at dksX2_book_1 15 rfl rfl)
theorem dX2_book_40 : decode cX2_book 40 = .ok (.iload_n 1, 1) := dk_27 (dk_at dksX2_book_1 16 rfl rfl)
theorem dX2_book_41 : decode cX2_book 41 = .ok (.iload_n 2, 1) := dk_28 (dk_at dksX2_book_1 17 rfl rfl)
theorem dX2_book_42 : decode cX2_book 42 = .ok (.invokevirtual 413, 3) := dk_182 1 157 (dk_at dksX2_book_1 18 rfl rfl)
theorem dX2_book_45 : decode cX2_book 45 = .ok (.goto 5, 3) := dk_167 0 5 (dk_at dksX2_book_1 21 rfl rfl)
theorem dX2_book_48 : decode cX2_book 48 = .ok (.bipush (-2), 2) := dk_16 254 (dk_at dksX2_book_2 0 rfl rfl)
theorem dX2_book_50 : decode cX2_book 50 = .ok (.ireturn, 1) := dk_172 (dk_at dksX2_book_2 2 rfl rfl)
abbrev cX2_entry : ByteArray := prog_20_method_100_code
def yX2_entry : MethodName := ⟨RX2, "entry", "(II)I"⟩
def dkwX2_entry_2 : List UInt8 := [112, 4, 100, 167, 0, 19, 28, 6, 160, 0, 11, 29, 5, 108, 8, 112, 167, 0, 6, 29, 5, 112, 172]
abbrev dktX2_entry_2 : List UInt8 := dkwX2_entry_2 ++ []
def dkwX2_entry_1 : List UInt8 := [4, 160, 0, 12, 29, 16, 90, 108, 8, 112, 167, 0, 36, 28, 5, 160, 0, 15, 29, 16, 10, 108, 16, 9]
abbrev dktX2_entry_1 : List UInt8 := dkwX2_entry_1 ++ dktX2_entry_2
def dkwX2_entry_0 : List UInt8 := [42, 180, 0, 7, 17, 5, 66, 27, 96, 46, 62, 28, 154, 0, 11, 29, 17, 1, 194, 108, 167, 0, 50, 28]
abbrev dktX2_entry_0 : List UInt8 := dkwX2_entry_0 ++ dktX2_entry_1
theorem dksX2_entry_0 : cX2_entry.data.toList.drop 0 = dktX2_entry_0 := by decide +kernel
theorem dksX2_entry_1 : cX2_entry.data.toList.drop 24 = dktX2_entry_1 := dk_seg dksX2_entry_0 24 rfl rfl
theorem dksX2_entry_2 : cX2_entry.data.toList.drop 48 = dktX2_entry_2 := dk_seg dksX2_entry_1 24 rfl rfl
theorem dX2_entry_0 : decode cX2_entry 0 = .ok (.aload_n 0, 1) := dk_42 (dk_at dksX2_entry_0 0 rfl rfl)
theorem dX2_entry_1 : decode cX2_entry 1 = .ok (.getfield 7, 3) := dk_180 0 7 (dk_at dksX2_entry_0 1 rfl rfl)
theorem dX2_entry_4 : decode cX2_entry 4 = .ok (.sipush 1346, 3) := dk_17 5 66 (dk_at dksX2_entry_0 4 rfl rfl)
theorem dX2_entry_7 : decode cX2_entry 7 = .ok (.iload_n 1, 1) := dk_27 (dk_at dksX2_entry_0 7 rfl rfl)
theorem dX2_entry_8 : decode cX2_entry 8 = .ok (.iadd, 1) := dk_96 (dk_at dksX2_entry_0 8 rfl rfl)
theorem dX2_entry_9 : decode cX2_entry 9 = .ok (.iaload, 1) := dk_46 (dk_at dksX2_entry_0 9 rfl rfl)
theorem dX2_entry_10 : decode cX2_entry 10 = .ok (.istore_n 3, 1) := dk_62 (dk_at dksX2_entry_0 10 rfl rfl)
theorem dX2_entry_11 : decode cX2_entry 11 = .ok (.iload_n 2, 1) := dk_28 (dk_at dksX2_entry_0 11 rfl rfl)
theorem dX2_entry_12 : decode cX2_entry 12 = .ok (.ifCond .ne 11, 3) := dk_154 0 11 (dk_at dksX2_entry_0 12 rfl rfl)
theorem dX2_entry_15 : decode cX2_entry 15 = .ok (.iload_n 3, 1) := dk_29 (dk_at dksX2_entry_0 15 rfl rfl)
theorem dX2_entry_16 : decode cX2_entry 16 = .ok (.sipush 450, 3) := dk_17 1 194 (dk_at dksX2_entry_0 16 rfl rfl)
theorem dX2_entry_19 : decode cX2_entry 19 = .ok (.idiv, 1) := dk_108 (dk_at dksX2_entry_0 19 rfl rfl)
theorem dX2_entry_20 : decode cX2_entry 20 = .ok (.goto 50, 3) := dk_167 0 50 (dk_at dksX2_entry_0 20 rfl rfl)
theorem dX2_entry_23 : decode cX2_entry 23 = .ok (.iload_n 2, 1) := dk_28 (dk_at dksX2_entry_0 23 rfl rfl)
theorem dX2_entry_24 : decode cX2_entry 24 = .ok (.iconst 1, 1) := dk_4 (dk_at dksX2_entry_1 0 rfl rfl)
theorem dX2_entry_25 : decode cX2_entry 25 = .ok (.if_icmp .ne 12, 3) := dk_160 0 12 (dk_at dksX2_entry_1 1 rfl rfl)
theorem dX2_entry_28 : decode cX2_entry 28 = .ok (.iload_n 3, 1) := dk_29 (dk_at dksX2_entry_1 4 rfl rfl)
theorem dX2_entry_29 : decode cX2_entry 29 = .ok (.bipush 90, 2) := dk_16 90 (dk_at dksX2_entry_1 5 rfl rfl)
theorem dX2_entry_31 : decode cX2_entry 31 = .ok (.idiv, 1) := dk_108 (dk_at dksX2_entry_1 7 rfl rfl)
theorem dX2_entry_32 : decode cX2_entry 32 = .ok (.iconst 5, 1) := dk_8 (dk_at dksX2_entry_1 8 rfl rfl)
theorem dX2_entry_33 : decode cX2_entry 33 = .ok (.irem, 1) := dk_112 (dk_at dksX2_entry_1 9 rfl rfl)
theorem dX2_entry_34 : decode cX2_entry 34 = .ok (.goto 36, 3) := dk_167 0 36 (dk_at dksX2_entry_1 10 rfl rfl)
theorem dX2_entry_37 : decode cX2_entry 37 = .ok (.iload_n 2, 1) := dk_28 (dk_at dksX2_entry_1 13 rfl rfl)
theorem dX2_entry_38 : decode cX2_entry 38 = .ok (.iconst 2, 1) := dk_5 (dk_at dksX2_entry_1 14 rfl rfl)
theorem dX2_entry_39 : decode cX2_entry 39 = .ok (.if_icmp .ne 15, 3) := dk_160 0 15 (dk_at dksX2_entry_1 15 rfl rfl)
theorem dX2_entry_42 : decode cX2_entry 42 = .ok (.iload_n 3, 1) := dk_29 (dk_at dksX2_entry_1 18 rfl rfl)
theorem dX2_entry_43 : decode cX2_entry 43 = .ok (.bipush 10, 2) := dk_16 10 (dk_at dksX2_entry_1 19 rfl rfl)
theorem dX2_entry_45 : decode cX2_entry 45 = .ok (.idiv, 1) := dk_108 (dk_at dksX2_entry_1 21 rfl rfl)
theorem dX2_entry_46 : decode cX2_entry 46 = .ok (.bipush 9, 2) := dk_16 9 (dk_at dksX2_entry_1 22 rfl rfl)
theorem dX2_entry_48 : decode cX2_entry 48 = .ok (.irem, 1) := dk_112 (dk_at dksX2_entry_2 0 rfl rfl)
theorem dX2_entry_49 : decode cX2_entry 49 = .ok (.iconst 1, 1) := dk_4 (dk_at dksX2_entry_2 1 rfl rfl)
theorem dX2_entry_50 : decode cX2_entry 50 = .ok (.isub, 1) := dk_100 (dk_at dksX2_entry_2 2 rfl rfl)
theorem dX2_entry_51 : decode cX2_entry 51 = .ok (.goto 19, 3) := dk_167 0 19 (dk_at dksX2_entry_2 3 rfl rfl)
theorem dX2_entry_54 : decode cX2_entry 54 = .ok (.iload_n 2, 1) := dk_28 (dk_at dksX2_entry_2 6 rfl rfl)
theorem dX2_entry_55 : decode cX2_entry 55 = .ok (.iconst 3, 1) := dk_6 (dk_at dksX2_entry_2 7 rfl rfl)
theorem dX2_entry_56 : decode cX2_entry 56 = .ok (.if_icmp .ne 11, 3) := dk_160 0 11 (dk_at dksX2_entry_2 8 rfl rfl)
theorem dX2_entry_59 : decode cX2_entry 59 = .ok (.iload_n 3, 1) := dk_29 (dk_at dksX2_entry_2 11 rfl rfl)
theorem dX2_entry_60 : decode cX2_entry 60 = .ok (.iconst 2, 1) := dk_5 (dk_at dksX2_entry_2 12 rfl rfl)
theorem dX2_entry_61 : decode cX2_entry 61 = .ok (.idiv, 1) := dk_108 (dk_at dksX2_entry_2 13 rfl rfl)
theorem dX2_entry_62 : decode cX2_entry 62 = .ok (.iconst 5, 1) := dk_8 (dk_at dksX2_entry_2 14 rfl rfl)
theorem dX2_entry_63 : decode cX2_entry 63 = .ok (.irem, 1) := dk_112 (dk_at dksX2_entry_2 15 rfl rfl)
theorem dX2_entry_64 : decode cX2_entry 64 = .ok (.goto 6, 3) := dk_167 0 6 (dk_at dksX2_entry_2 16 rfl rfl)
theorem dX2_entry_67 : decode cX2_entry 67 = .ok (.iload_n 3, 1) := dk_29 (dk_at dksX2_entry_2 19 rfl rfl)
theorem dX2_entry_68 : decode cX2_entry 68 = .ok (.iconst 2, 1) := dk_5 (dk_at dksX2_entry_2 20 rfl rfl)
theorem dX2_entry_69 : decode cX2_entry 69 = .ok (.irem, 1) := dk_112 (dk_at dksX2_entry_2 21 rfl rfl)
theorem dX2_entry_70 : decode cX2_entry 70 = .ok (.ireturn, 1) := dk_172 (dk_at dksX2_entry_2 22 rfl rfl)
abbrev cX2_ledger : ByteArray := prog_20_method_102_code
def yX2_ledger : MethodName := ⟨RX2, "ledger", "(I)I"⟩
def dkwX2_ledger_2 : List UInt8 := [160, 0, 12, 42, 29, 7, 182, 1, 157, 167, 0, 4, 3, 96, 61, 132, 3, 1, 167, 255, 214, 28, 172]
abbrev dktX2_ledger_2 : List UInt8 := dkwX2_ledger_2 ++ []
def dkwX2_ledger_1 : List UInt8 := [180, 0, 7, 16, 8, 46, 162, 0, 37, 28, 27, 2, 159, 0, 13, 42, 29, 4, 182, 1, 157, 27]
abbrev dktX2_ledger_1 : List UInt8 := dkwX2_ledger_1 ++ dktX2_ledger_2
def dkwX2_ledger_0 : List UInt8 := [27, 2, 159, 0, 14, 42, 27, 182, 1, 151, 154, 0, 6, 16, 254, 172, 3, 61, 3, 62, 29, 42]
abbrev dktX2_ledger_0 : List UInt8 := dkwX2_ledger_0 ++ dktX2_ledger_1
theorem dksX2_ledger_0 : cX2_ledger.data.toList.drop 0 = dktX2_ledger_0 := by decide +kernel
theorem dksX2_ledger_1 : cX2_ledger.data.toList.drop 22 = dktX2_ledger_1 := dk_seg dksX2_ledger_0 22 rfl rfl
theorem dksX2_ledger_2 : cX2_ledger.data.toList.drop 44 = dktX2_ledger_2 := dk_seg dksX2_ledger_1 22 rfl rfl
theorem dX2_ledger_0 : decode cX2_ledger 0 = .ok (.iload_n 1, 1) := dk_27 (dk_at dksX2_ledger_0 0 rfl rfl)
theorem dX2_ledger_1 : decode cX2_ledger 1 = .ok (.iconst (-1), 1) := dk_2 (dk_at dksX2_ledger_0 1 rfl rfl)
theorem dX2_ledger_2 : decode cX2_ledger 2 = .ok (.if_icmp .eq 14, 3) := dk_159 0 14 (dk_at dksX2_ledger_0 2 rfl rfl)
theorem dX2_ledger_5 : decode cX2_ledger 5 = .ok (.aload_n 0, 1) := dk_42 (dk_at dksX2_ledger_0 5 rfl rfl)
theorem dX2_ledger_6 : decode cX2_ledger 6 = .ok (.iload_n 1, 1) := dk_27 (dk_at dksX2_ledger_0 6 rfl rfl)
theorem dX2_ledger_7 : decode cX2_ledger 7 = .ok (.invokevirtual 407, 3) := dk_182 1 151 (dk_at dksX2_ledger_0 7 rfl rfl)
theorem dX2_ledger_10 : decode cX2_ledger 10 = .ok (.ifCond .ne 6, 3) := dk_154 0 6 (dk_at dksX2_ledger_0 10 rfl rfl)
theorem dX2_ledger_13 : decode cX2_ledger 13 = .ok (.bipush (-2), 2) := dk_16 254 (dk_at dksX2_ledger_0 13 rfl rfl)
theorem dX2_ledger_15 : decode cX2_ledger 15 = .ok (.ireturn, 1) := dk_172 (dk_at dksX2_ledger_0 15 rfl rfl)
theorem dX2_ledger_16 : decode cX2_ledger 16 = .ok (.iconst 0, 1) := dk_3 (dk_at dksX2_ledger_0 16 rfl rfl)
theorem dX2_ledger_17 : decode cX2_ledger 17 = .ok (.istore_n 2, 1) := dk_61 (dk_at dksX2_ledger_0 17 rfl rfl)
theorem dX2_ledger_18 : decode cX2_ledger 18 = .ok (.iconst 0, 1) := dk_3 (dk_at dksX2_ledger_0 18 rfl rfl)
theorem dX2_ledger_19 : decode cX2_ledger 19 = .ok (.istore_n 3, 1) := dk_62 (dk_at dksX2_ledger_0 19 rfl rfl)
theorem dX2_ledger_20 : decode cX2_ledger 20 = .ok (.iload_n 3, 1) := dk_29 (dk_at dksX2_ledger_0 20 rfl rfl)
theorem dX2_ledger_21 : decode cX2_ledger 21 = .ok (.aload_n 0, 1) := dk_42 (dk_at dksX2_ledger_0 21 rfl rfl)
theorem dX2_ledger_22 : decode cX2_ledger 22 = .ok (.getfield 7, 3) := dk_180 0 7 (dk_at dksX2_ledger_1 0 rfl rfl)
theorem dX2_ledger_25 : decode cX2_ledger 25 = .ok (.bipush 8, 2) := dk_16 8 (dk_at dksX2_ledger_1 3 rfl rfl)
theorem dX2_ledger_27 : decode cX2_ledger 27 = .ok (.iaload, 1) := dk_46 (dk_at dksX2_ledger_1 5 rfl rfl)
theorem dX2_ledger_28 : decode cX2_ledger 28 = .ok (.if_icmp .ge 37, 3) := dk_162 0 37 (dk_at dksX2_ledger_1 6 rfl rfl)
theorem dX2_ledger_31 : decode cX2_ledger 31 = .ok (.iload_n 2, 1) := dk_28 (dk_at dksX2_ledger_1 9 rfl rfl)
theorem dX2_ledger_32 : decode cX2_ledger 32 = .ok (.iload_n 1, 1) := dk_27 (dk_at dksX2_ledger_1 10 rfl rfl)
theorem dX2_ledger_33 : decode cX2_ledger 33 = .ok (.iconst (-1), 1) := dk_2 (dk_at dksX2_ledger_1 11 rfl rfl)
theorem dX2_ledger_34 : decode cX2_ledger 34 = .ok (.if_icmp .eq 13, 3) := dk_159 0 13 (dk_at dksX2_ledger_1 12 rfl rfl)
theorem dX2_ledger_37 : decode cX2_ledger 37 = .ok (.aload_n 0, 1) := dk_42 (dk_at dksX2_ledger_1 15 rfl rfl)
theorem dX2_ledger_38 : decode cX2_ledger 38 = .ok (.iload_n 3, 1) := dk_29 (dk_at dksX2_ledger_1 16 rfl rfl)
theorem dX2_ledger_39 : decode cX2_ledger 39 = .ok (.iconst 1, 1) := dk_4 (dk_at dksX2_ledger_1 17 rfl rfl)
theorem dX2_ledger_40 : decode cX2_ledger 40 = .ok (.invokevirtual 413, 3) := dk_182 1 157 (dk_at dksX2_ledger_1 18 rfl rfl)
theorem dX2_ledger_43 : decode cX2_ledger 43 = .ok (.iload_n 1, 1) := dk_27 (dk_at dksX2_ledger_1 21 rfl rfl)
theorem dX2_ledger_44 : decode cX2_ledger 44 = .ok (.if_icmp .ne 12, 3) := dk_160 0 12 (dk_at dksX2_ledger_2 0 rfl rfl)
theorem dX2_ledger_47 : decode cX2_ledger 47 = .ok (.aload_n 0, 1) := dk_42 (dk_at dksX2_ledger_2 3 rfl rfl)
theorem dX2_ledger_48 : decode cX2_ledger 48 = .ok (.iload_n 3, 1) := dk_29 (dk_at dksX2_ledger_2 4 rfl rfl)
theorem dX2_ledger_49 : decode cX2_ledger 49 = .ok (.iconst 4, 1) := dk_7 (dk_at dksX2_ledger_2 5 rfl rfl)
theorem dX2_ledger_50 : decode cX2_ledger 50 = .ok (.invokevirtual 413, 3) := dk_182 1 157 (dk_at dksX2_ledger_2 6 rfl rfl)
theorem dX2_ledger_53 : decode cX2_ledger 53 = .ok (.goto 4, 3) := dk_167 0 4 (dk_at dksX2_ledger_2 9 rfl rfl)
theorem dX2_ledger_56 : decode cX2_ledger 56 = .ok (.iconst 0, 1) := dk_3 (dk_at dksX2_ledger_2 12 rfl rfl)
theorem dX2_ledger_57 : decode cX2_ledger 57 = .ok (.iadd, 1) := dk_96 (dk_at dksX2_ledger_2 13 rfl rfl)
theorem dX2_ledger_58 : decode cX2_ledger 58 = .ok (.istore_n 2, 1) := dk_61 (dk_at dksX2_ledger_2 14 rfl rfl)
theorem dX2_ledger_59 : decode cX2_ledger 59 = .ok (.iinc 3 1, 3) := dk_132 3 1 (dk_at dksX2_ledger_2 15 rfl rfl)
theorem dX2_ledger_62 : decode cX2_ledger 62 = .ok (.goto (-42), 3) := dk_167 255 214 (dk_at dksX2_ledger_2 18 rfl rfl)
theorem dX2_ledger_65 : decode cX2_ledger 65 = .ok (.iload_n 2, 1) := dk_28 (dk_at dksX2_ledger_2 21 rfl rfl)
theorem dX2_ledger_66 : decode cX2_ledger 66 = .ok (.ireturn, 1) := dk_172 (dk_at dksX2_ledger_2 22 rfl rfl)
abbrev cX2_ground : ByteArray := prog_20_method_103_code
def yX2_ground : MethodName := ⟨RX2, "ground", "()I"⟩
def dkwX2_ground_3 : List UInt8 := [167, 0, 4, 3, 96, 61, 132, 3, 1, 167, 255, 224, 28, 172]
abbrev dktX2_ground_3 : List UInt8 := dkwX2_ground_3 ++ []
def dkwX2_ground_2 : List UInt8 := [8, 162, 0, 33, 28, 27, 29, 184, 0, 87, 153, 0, 15, 42, 180, 0, 7, 16, 32, 29, 96, 46]
abbrev dktX2_ground_2 : List UInt8 := dkwX2_ground_2 ++ dktX2_ground_3
def dkwX2_ground_1 : List UInt8 := [3, 167, 0, 10, 4, 42, 28, 182, 1, 66, 120, 128, 60, 132, 2, 1, 167, 255, 220, 3, 61, 3, 62, 29]
abbrev dktX2_ground_1 : List UInt8 := dkwX2_ground_1 ++ dktX2_ground_2
def dkwX2_ground_0 : List UInt8 := [3, 60, 3, 61, 28, 42, 180, 0, 7, 3, 46, 162, 0, 32, 27, 42, 28, 182, 1, 66, 2, 160, 0, 7]
abbrev dktX2_ground_0 : List UInt8 := dkwX2_ground_0 ++ dktX2_ground_1
theorem dksX2_ground_0 : cX2_ground.data.toList.drop 0 = dktX2_ground_0 := by decide +kernel
theorem dksX2_ground_1 : cX2_ground.data.toList.drop 24 = dktX2_ground_1 := dk_seg dksX2_ground_0 24 rfl rfl
theorem dksX2_ground_2 : cX2_ground.data.toList.drop 48 = dktX2_ground_2 := dk_seg dksX2_ground_1 24 rfl rfl
theorem dksX2_ground_3 : cX2_ground.data.toList.drop 70 = dktX2_ground_3 := dk_seg dksX2_ground_2 22 rfl rfl
theorem dX2_ground_0 : decode cX2_ground 0 = .ok (.iconst 0, 1) := dk_3 (dk_at dksX2_ground_0 0 rfl rfl)
theorem dX2_ground_1 : decode cX2_ground 1 = .ok (.istore_n 1, 1) := dk_60 (dk_at dksX2_ground_0 1 rfl rfl)
theorem dX2_ground_2 : decode cX2_ground 2 = .ok (.iconst 0, 1) := dk_3 (dk_at dksX2_ground_0 2 rfl rfl)
theorem dX2_ground_3 : decode cX2_ground 3 = .ok (.istore_n 2, 1) := dk_61 (dk_at dksX2_ground_0 3 rfl rfl)
theorem dX2_ground_4 : decode cX2_ground 4 = .ok (.iload_n 2, 1) := dk_28 (dk_at dksX2_ground_0 4 rfl rfl)
theorem dX2_ground_5 : decode cX2_ground 5 = .ok (.aload_n 0, 1) := dk_42 (dk_at dksX2_ground_0 5 rfl rfl)
theorem dX2_ground_6 : decode cX2_ground 6 = .ok (.getfield 7, 3) := dk_180 0 7 (dk_at dksX2_ground_0 6 rfl rfl)
theorem dX2_ground_9 : decode cX2_ground 9 = .ok (.iconst 0, 1) := dk_3 (dk_at dksX2_ground_0 9 rfl rfl)
theorem dX2_ground_10 : decode cX2_ground 10 = .ok (.iaload, 1) := dk_46 (dk_at dksX2_ground_0 10 rfl rfl)
theorem dX2_ground_11 : decode cX2_ground 11 = .ok (.if_icmp .ge 32, 3) := dk_162 0 32 (dk_at dksX2_ground_0 11 rfl rfl)
theorem dX2_ground_14 : decode cX2_ground 14 = .ok (.iload_n 1, 1) := dk_27 (dk_at dksX2_ground_0 14 rfl rfl)
theorem dX2_ground_15 : decode cX2_ground 15 = .ok (.aload_n 0, 1) := dk_42 (dk_at dksX2_ground_0 15 rfl rfl)
theorem dX2_ground_16 : decode cX2_ground 16 = .ok (.iload_n 2, 1) := dk_28 (dk_at dksX2_ground_0 16 rfl rfl)
theorem dX2_ground_17 : decode cX2_ground 17 = .ok (.invokevirtual 322, 3) := dk_182 1 66 (dk_at dksX2_ground_0 17 rfl rfl)
theorem dX2_ground_20 : decode cX2_ground 20 = .ok (.iconst (-1), 1) := dk_2 (dk_at dksX2_ground_0 20 rfl rfl)
theorem dX2_ground_21 : decode cX2_ground 21 = .ok (.if_icmp .ne 7, 3) := dk_160 0 7 (dk_at dksX2_ground_0 21 rfl rfl)
theorem dX2_ground_24 : decode cX2_ground 24 = .ok (.iconst 0, 1) := dk_3 (dk_at dksX2_ground_1 0 rfl rfl)
theorem dX2_ground_25 : decode cX2_ground 25 = .ok (.goto 10, 3) := dk_167 0 10 (dk_at dksX2_ground_1 1 rfl rfl)
theorem dX2_ground_28 : decode cX2_ground 28 = .ok (.iconst 1, 1) := dk_4 (dk_at dksX2_ground_1 4 rfl rfl)
theorem dX2_ground_29 : decode cX2_ground 29 = .ok (.aload_n 0, 1) := dk_42 (dk_at dksX2_ground_1 5 rfl rfl)
theorem dX2_ground_30 : decode cX2_ground 30 = .ok (.iload_n 2, 1) := dk_28 (dk_at dksX2_ground_1 6 rfl rfl)
theorem dX2_ground_31 : decode cX2_ground 31 = .ok (.invokevirtual 322, 3) := dk_182 1 66 (dk_at dksX2_ground_1 7 rfl rfl)
theorem dX2_ground_34 : decode cX2_ground 34 = .ok (.ishl, 1) := dk_120 (dk_at dksX2_ground_1 10 rfl rfl)
theorem dX2_ground_35 : decode cX2_ground 35 = .ok (.ior, 1) := dk_128 (dk_at dksX2_ground_1 11 rfl rfl)
theorem dX2_ground_36 : decode cX2_ground 36 = .ok (.istore_n 1, 1) := dk_60 (dk_at dksX2_ground_1 12 rfl rfl)
theorem dX2_ground_37 : decode cX2_ground 37 = .ok (.iinc 2 1, 3) := dk_132 2 1 (dk_at dksX2_ground_1 13 rfl rfl)
theorem dX2_ground_40 : decode cX2_ground 40 = .ok (.goto (-36), 3) := dk_167 255 220 (dk_at dksX2_ground_1 16 rfl rfl)
theorem dX2_ground_43 : decode cX2_ground 43 = .ok (.iconst 0, 1) := dk_3 (dk_at dksX2_ground_1 19 rfl rfl)
theorem dX2_ground_44 : decode cX2_ground 44 = .ok (.istore_n 2, 1) := dk_61 (dk_at dksX2_ground_1 20 rfl rfl)
theorem dX2_ground_45 : decode cX2_ground 45 = .ok (.iconst 0, 1) := dk_3 (dk_at dksX2_ground_1 21 rfl rfl)
theorem dX2_ground_46 : decode cX2_ground 46 = .ok (.istore_n 3, 1) := dk_62 (dk_at dksX2_ground_1 22 rfl rfl)
theorem dX2_ground_47 : decode cX2_ground 47 = .ok (.iload_n 3, 1) := dk_29 (dk_at dksX2_ground_1 23 rfl rfl)
theorem dX2_ground_48 : decode cX2_ground 48 = .ok (.iconst 5, 1) := dk_8 (dk_at dksX2_ground_2 0 rfl rfl)
theorem dX2_ground_49 : decode cX2_ground 49 = .ok (.if_icmp .ge 33, 3) := dk_162 0 33 (dk_at dksX2_ground_2 1 rfl rfl)
theorem dX2_ground_52 : decode cX2_ground 52 = .ok (.iload_n 2, 1) := dk_28 (dk_at dksX2_ground_2 4 rfl rfl)
theorem dX2_ground_53 : decode cX2_ground 53 = .ok (.iload_n 1, 1) := dk_27 (dk_at dksX2_ground_2 5 rfl rfl)
theorem dX2_ground_54 : decode cX2_ground 54 = .ok (.iload_n 3, 1) := dk_29 (dk_at dksX2_ground_2 6 rfl rfl)
theorem dX2_ground_55 : decode cX2_ground 55 = .ok (.invokestatic 87, 3) := dk_184 0 87 (dk_at dksX2_ground_2 7 rfl rfl)
theorem dX2_ground_58 : decode cX2_ground 58 = .ok (.ifCond .eq 15, 3) := dk_153 0 15 (dk_at dksX2_ground_2 10 rfl rfl)
theorem dX2_ground_61 : decode cX2_ground 61 = .ok (.aload_n 0, 1) := dk_42 (dk_at dksX2_ground_2 13 rfl rfl)
theorem dX2_ground_62 : decode cX2_ground 62 = .ok (.getfield 7, 3) := dk_180 0 7 (dk_at dksX2_ground_2 14 rfl rfl)
theorem dX2_ground_65 : decode cX2_ground 65 = .ok (.bipush 32, 2) := dk_16 32 (dk_at dksX2_ground_2 17 rfl rfl)
theorem dX2_ground_67 : decode cX2_ground 67 = .ok (.iload_n 3, 1) := dk_29 (dk_at dksX2_ground_2 19 rfl rfl)
theorem dX2_ground_68 : decode cX2_ground 68 = .ok (.iadd, 1) := dk_96 (dk_at dksX2_ground_2 20 rfl rfl)
theorem dX2_ground_69 : decode cX2_ground 69 = .ok (.iaload, 1) := dk_46 (dk_at dksX2_ground_2 21 rfl rfl)
theorem dX2_ground_70 : decode cX2_ground 70 = .ok (.goto 4, 3) := dk_167 0 4 (dk_at dksX2_ground_3 0 rfl rfl)
theorem dX2_ground_73 : decode cX2_ground 73 = .ok (.iconst 0, 1) := dk_3 (dk_at dksX2_ground_3 3 rfl rfl)
theorem dX2_ground_74 : decode cX2_ground 74 = .ok (.iadd, 1) := dk_96 (dk_at dksX2_ground_3 4 rfl rfl)
theorem dX2_ground_75 : decode cX2_ground 75 = .ok (.istore_n 2, 1) := dk_61 (dk_at dksX2_ground_3 5 rfl rfl)
theorem dX2_ground_76 : decode cX2_ground 76 = .ok (.iinc 3 1, 3) := dk_132 3 1 (dk_at dksX2_ground_3 6 rfl rfl)
theorem dX2_ground_79 : decode cX2_ground 79 = .ok (.goto (-32), 3) := dk_167 255 224 (dk_at dksX2_ground_3 9 rfl rfl)
theorem dX2_ground_82 : decode cX2_ground 82 = .ok (.iload_n 2, 1) := dk_28 (dk_at dksX2_ground_3 12 rfl rfl)
theorem dX2_ground_83 : decode cX2_ground 83 = .ok (.ireturn, 1) := dk_172 (dk_at dksX2_ground_3 13 rfl rfl)
abbrev cX2_landless : ByteArray := prog_20_method_104_code
def yX2_landless : MethodName := ⟨RX2, "landless", "()I"⟩
def dkwX2_landless_1 : List UInt8 := [4, 28, 120, 167, 0, 4, 3, 128, 60, 132, 2, 1, 167, 255, 224, 27, 172]
abbrev dktX2_landless_1 : List UInt8 := dkwX2_landless_1 ++ []
def dkwX2_landless_0 : List UInt8 := [3, 60, 3, 61, 28, 42, 180, 0, 7, 3, 46, 162, 0, 28, 27, 42, 28, 182, 1, 66, 2, 160, 0, 9]
abbrev dktX2_landless_0 : List UInt8 := dkwX2_landless_0 ++ dktX2_landless_1
theorem dksX2_landless_0 : cX2_landless.data.toList.drop 0 = dktX2_landless_0 := by decide +kernel
theorem dksX2_landless_1 : cX2_landless.data.toList.drop 24 = dktX2_landless_1 := dk_seg dksX2_landless_0 24 rfl rfl
theorem dX2_landless_0 : decode cX2_landless 0 = .ok (.iconst 0, 1) := dk_3 (dk_at dksX2_landless_0 0 rfl rfl)
theorem dX2_landless_1 : decode cX2_landless 1 = .ok (.istore_n 1, 1) := dk_60 (dk_at dksX2_landless_0 1 rfl rfl)
theorem dX2_landless_2 : decode cX2_landless 2 = .ok (.iconst 0, 1) := dk_3 (dk_at dksX2_landless_0 2 rfl rfl)
theorem dX2_landless_3 : decode cX2_landless 3 = .ok (.istore_n 2, 1) := dk_61 (dk_at dksX2_landless_0 3 rfl rfl)
theorem dX2_landless_4 : decode cX2_landless 4 = .ok (.iload_n 2, 1) := dk_28 (dk_at dksX2_landless_0 4 rfl rfl)
theorem dX2_landless_5 : decode cX2_landless 5 = .ok (.aload_n 0, 1) := dk_42 (dk_at dksX2_landless_0 5 rfl rfl)
theorem dX2_landless_6 : decode cX2_landless 6 = .ok (.getfield 7, 3) := dk_180 0 7 (dk_at dksX2_landless_0 6 rfl rfl)
theorem dX2_landless_9 : decode cX2_landless 9 = .ok (.iconst 0, 1) := dk_3 (dk_at dksX2_landless_0 9 rfl rfl)
theorem dX2_landless_10 : decode cX2_landless 10 = .ok (.iaload, 1) := dk_46 (dk_at dksX2_landless_0 10 rfl rfl)
theorem dX2_landless_11 : decode cX2_landless 11 = .ok (.if_icmp .ge 28, 3) := dk_162 0 28 (dk_at dksX2_landless_0 11 rfl rfl)
theorem dX2_landless_14 : decode cX2_landless 14 = .ok (.iload_n 1, 1) := dk_27 (dk_at dksX2_landless_0 14 rfl rfl)
theorem dX2_landless_15 : decode cX2_landless 15 = .ok (.aload_n 0, 1) := dk_42 (dk_at dksX2_landless_0 15 rfl rfl)
theorem dX2_landless_16 : decode cX2_landless 16 = .ok (.iload_n 2, 1) := dk_28 (dk_at dksX2_landless_0 16 rfl rfl)
theorem dX2_landless_17 : decode cX2_landless 17 = .ok (.invokevirtual 322, 3) := dk_182 1 66 (dk_at dksX2_landless_0 17 rfl rfl)
theorem dX2_landless_20 : decode cX2_landless 20 = .ok (.iconst (-1), 1) := dk_2 (dk_at dksX2_landless_0 20 rfl rfl)
theorem dX2_landless_21 : decode cX2_landless 21 = .ok (.if_icmp .ne 9, 3) := dk_160 0 9 (dk_at dksX2_landless_0 21 rfl rfl)
theorem dX2_landless_24 : decode cX2_landless 24 = .ok (.iconst 1, 1) := dk_4 (dk_at dksX2_landless_1 0 rfl rfl)
theorem dX2_landless_25 : decode cX2_landless 25 = .ok (.iload_n 2, 1) := dk_28 (dk_at dksX2_landless_1 1 rfl rfl)
theorem dX2_landless_26 : decode cX2_landless 26 = .ok (.ishl, 1) := dk_120 (dk_at dksX2_landless_1 2 rfl rfl)
theorem dX2_landless_27 : decode cX2_landless 27 = .ok (.goto 4, 3) := dk_167 0 4 (dk_at dksX2_landless_1 3 rfl rfl)
theorem dX2_landless_30 : decode cX2_landless 30 = .ok (.iconst 0, 1) := dk_3 (dk_at dksX2_landless_1 6 rfl rfl)
theorem dX2_landless_31 : decode cX2_landless 31 = .ok (.ior, 1) := dk_128 (dk_at dksX2_landless_1 7 rfl rfl)
theorem dX2_landless_32 : decode cX2_landless 32 = .ok (.istore_n 1, 1) := dk_60 (dk_at dksX2_landless_1 8 rfl rfl)
theorem dX2_landless_33 : decode cX2_landless 33 = .ok (.iinc 2 1, 3) := dk_132 2 1 (dk_at dksX2_landless_1 9 rfl rfl)
theorem dX2_landless_36 : decode cX2_landless 36 = .ok (.goto (-32), 3) := dk_167 255 224 (dk_at dksX2_landless_1 12 rfl rfl)
theorem dX2_landless_39 : decode cX2_landless 39 = .ok (.iload_n 1, 1) := dk_27 (dk_at dksX2_landless_1 15 rfl rfl)
theorem dX2_landless_40 : decode cX2_landless 40 = .ok (.ireturn, 1) := dk_172 (dk_at dksX2_landless_1 16 rfl rfl)
abbrev cX2_wisest : ByteArray := prog_20_method_105_code
def yX2_wisest : MethodName := ⟨RX2, "wisest", "()I"⟩
def dkwX2_wisest_2 : List UInt8 := [162, 0, 5, 28, 60, 132, 2, 1, 167, 255, 207, 27, 172]
abbrev dktX2_wisest_2 : List UInt8 := dkwX2_wisest_2 ++ []
def dkwX2_wisest_1 : List UInt8 := [16, 17, 5, 28, 104, 96, 4, 96, 46, 42, 180, 0, 7, 16, 17, 5, 27, 104, 96, 4, 96, 46]
abbrev dktX2_wisest_1 : List UInt8 := dkwX2_wisest_1 ++ dktX2_wisest_2
def dkwX2_wisest_0 : List UInt8 := [2, 60, 3, 61, 28, 42, 180, 0, 7, 3, 46, 162, 0, 45, 27, 2, 159, 0, 32, 42, 180, 0, 7]
abbrev dktX2_wisest_0 : List UInt8 := dkwX2_wisest_0 ++ dktX2_wisest_1
theorem dksX2_wisest_0 : cX2_wisest.data.toList.drop 0 = dktX2_wisest_0 := by decide +kernel
theorem dksX2_wisest_1 : cX2_wisest.data.toList.drop 23 = dktX2_wisest_1 := dk_seg dksX2_wisest_0 23 rfl rfl
theorem dksX2_wisest_2 : cX2_wisest.data.toList.drop 45 = dktX2_wisest_2 := dk_seg dksX2_wisest_1 22 rfl rfl
theorem dX2_wisest_0 : decode cX2_wisest 0 = .ok (.iconst (-1), 1) := dk_2 (dk_at dksX2_wisest_0 0 rfl rfl)
theorem dX2_wisest_1 : decode cX2_wisest 1 = .ok (.istore_n 1, 1) := dk_60 (dk_at dksX2_wisest_0 1 rfl rfl)
theorem dX2_wisest_2 : decode cX2_wisest 2 = .ok (.iconst 0, 1) := dk_3 (dk_at dksX2_wisest_0 2 rfl rfl)
theorem dX2_wisest_3 : decode cX2_wisest 3 = .ok (.istore_n 2, 1) := dk_61 (dk_at dksX2_wisest_0 3 rfl rfl)
theorem dX2_wisest_4 : decode cX2_wisest 4 = .ok (.iload_n 2, 1) := dk_28 (dk_at dksX2_wisest_0 4 rfl rfl)
theorem dX2_wisest_5 : decode cX2_wisest 5 = .ok (.aload_n 0, 1) := dk_42 (dk_at dksX2_wisest_0 5 rfl rfl)
theorem dX2_wisest_6 : decode cX2_wisest 6 = .ok (.getfield 7, 3) := dk_180 0 7 (dk_at dksX2_wisest_0 6 rfl rfl)
theorem dX2_wisest_9 : decode cX2_wisest 9 = .ok (.iconst 0, 1) := dk_3 (dk_at dksX2_wisest_0 9 rfl rfl)
theorem dX2_wisest_10 : decode cX2_wisest 10 = .ok (.iaload, 1) := dk_46 (dk_at dksX2_wisest_0 10 rfl rfl)
theorem dX2_wisest_11 : decode cX2_wisest 11 = .ok (.if_icmp .ge 45, 3) := dk_162 0 45 (dk_at dksX2_wisest_0 11 rfl rfl)
theorem dX2_wisest_14 : decode cX2_wisest 14 = .ok (.iload_n 1, 1) := dk_27 (dk_at dksX2_wisest_0 14 rfl rfl)
theorem dX2_wisest_15 : decode cX2_wisest 15 = .ok (.iconst (-1), 1) := dk_2 (dk_at dksX2_wisest_0 15 rfl rfl)
theorem dX2_wisest_16 : decode cX2_wisest 16 = .ok (.if_icmp .eq 32, 3) := dk_159 0 32 (dk_at dksX2_wisest_0 16 rfl rfl)
theorem dX2_wisest_19 : decode cX2_wisest 19 = .ok (.aload_n 0, 1) := dk_42 (dk_at dksX2_wisest_0 19 rfl rfl)
theorem dX2_wisest_20 : decode cX2_wisest 20 = .ok (.getfield 7, 3) := dk_180 0 7 (dk_at dksX2_wisest_0 20 rfl rfl)
theorem dX2_wisest_23 : decode cX2_wisest 23 = .ok (.bipush 17, 2) := dk_16 17 (dk_at dksX2_wisest_1 0 rfl rfl)
theorem dX2_wisest_25 : decode cX2_wisest 25 = .ok (.iconst 2, 1) := dk_5 (dk_at dksX2_wisest_1 2 rfl rfl)
theorem dX2_wisest_26 : decode cX2_wisest 26 = .ok (.iload_n 2, 1) := dk_28 (dk_at dksX2_wisest_1 3 rfl rfl)
theorem dX2_wisest_27 : decode cX2_wisest 27 = .ok (.imul, 1) := dk_104 (dk_at dksX2_wisest_1 4 rfl rfl)
theorem dX2_wisest_28 : decode cX2_wisest 28 = .ok (.iadd, 1) := dk_96 (dk_at dksX2_wisest_1 5 rfl rfl)
theorem dX2_wisest_29 : decode cX2_wisest 29 = .ok (.iconst 1, 1) := dk_4 (dk_at dksX2_wisest_1 6 rfl rfl)
theorem dX2_wisest_30 : decode cX2_wisest 30 = .ok (.iadd, 1) := dk_96 (dk_at dksX2_wisest_1 7 rfl rfl)
theorem dX2_wisest_31 : decode cX2_wisest 31 = .ok (.iaload, 1) := dk_46 (dk_at dksX2_wisest_1 8 rfl rfl)
theorem dX2_wisest_32 : decode cX2_wisest 32 = .ok (.aload_n 0, 1) := dk_42 (dk_at dksX2_wisest_1 9 rfl rfl)
theorem dX2_wisest_33 : decode cX2_wisest 33 = .ok (.getfield 7, 3) := dk_180 0 7 (dk_at dksX2_wisest_1 10 rfl rfl)
theorem dX2_wisest_36 : decode cX2_wisest 36 = .ok (.bipush 17, 2) := dk_16 17 (dk_at dksX2_wisest_1 13 rfl rfl)
theorem dX2_wisest_38 : decode cX2_wisest 38 = .ok (.iconst 2, 1) := dk_5 (dk_at dksX2_wisest_1 15 rfl rfl)
theorem dX2_wisest_39 : decode cX2_wisest 39 = .ok (.iload_n 1, 1) := dk_27 (dk_at dksX2_wisest_1 16 rfl rfl)
theorem dX2_wisest_40 : decode cX2_wisest 40 = .ok (.imul, 1) := dk_104 (dk_at dksX2_wisest_1 17 rfl rfl)
theorem dX2_wisest_41 : decode cX2_wisest 41 = .ok (.iadd, 1) := dk_96 (dk_at dksX2_wisest_1 18 rfl rfl)
theorem dX2_wisest_42 : decode cX2_wisest 42 = .ok (.iconst 1, 1) := dk_4 (dk_at dksX2_wisest_1 19 rfl rfl)
theorem dX2_wisest_43 : decode cX2_wisest 43 = .ok (.iadd, 1) := dk_96 (dk_at dksX2_wisest_1 20 rfl rfl)
theorem dX2_wisest_44 : decode cX2_wisest 44 = .ok (.iaload, 1) := dk_46 (dk_at dksX2_wisest_1 21 rfl rfl)
theorem dX2_wisest_45 : decode cX2_wisest 45 = .ok (.if_icmp .ge 5, 3) := dk_162 0 5 (dk_at dksX2_wisest_2 0 rfl rfl)
theorem dX2_wisest_48 : decode cX2_wisest 48 = .ok (.iload_n 2, 1) := dk_28 (dk_at dksX2_wisest_2 3 rfl rfl)
theorem dX2_wisest_49 : decode cX2_wisest 49 = .ok (.istore_n 1, 1) := dk_60 (dk_at dksX2_wisest_2 4 rfl rfl)
theorem dX2_wisest_50 : decode cX2_wisest 50 = .ok (.iinc 2 1, 3) := dk_132 2 1 (dk_at dksX2_wisest_2 5 rfl rfl)
theorem dX2_wisest_53 : decode cX2_wisest 53 = .ok (.goto (-49), 3) := dk_167 255 207 (dk_at dksX2_wisest_2 8 rfl rfl)
theorem dX2_wisest_56 : decode cX2_wisest 56 = .ok (.iload_n 1, 1) := dk_27 (dk_at dksX2_wisest_2 11 rfl rfl)
theorem dX2_wisest_57 : decode cX2_wisest 57 = .ok (.ireturn, 1) := dk_172 (dk_at dksX2_wisest_2 12 rfl rfl)
abbrev cX2_free : ByteArray := prog_20_method_106_code
def yX2_free : MethodName := ⟨RX2, "free", "()I"⟩
def dkwX2_free_1 : List UInt8 := [167, 0, 4, 3, 128, 60, 132, 2, 1, 167, 255, 227, 27, 172]
abbrev dktX2_free_1 : List UInt8 := dkwX2_free_1 ++ []
def dkwX2_free_0 : List UInt8 := [3, 60, 3, 61, 28, 42, 182, 0, 79, 162, 0, 27, 27, 42, 28, 182, 1, 90, 153, 0, 9, 4, 28, 120]
abbrev dktX2_free_0 : List UInt8 := dkwX2_free_0 ++ dktX2_free_1
theorem dksX2_free_0 : cX2_free.data.toList.drop 0 = dktX2_free_0 := by decide +kernel
theorem dksX2_free_1 : cX2_free.data.toList.drop 24 = dktX2_free_1 := dk_seg dksX2_free_0 24 rfl rfl
theorem dX2_free_0 : decode cX2_free 0 = .ok (.iconst 0, 1) := dk_3 (dk_at dksX2_free_0 0 rfl rfl)
theorem dX2_free_1 : decode cX2_free 1 = .ok (.istore_n 1, 1) := dk_60 (dk_at dksX2_free_0 1 rfl rfl)
theorem dX2_free_2 : decode cX2_free 2 = .ok (.iconst 0, 1) := dk_3 (dk_at dksX2_free_0 2 rfl rfl)
theorem dX2_free_3 : decode cX2_free 3 = .ok (.istore_n 2, 1) := dk_61 (dk_at dksX2_free_0 3 rfl rfl)
theorem dX2_free_4 : decode cX2_free 4 = .ok (.iload_n 2, 1) := dk_28 (dk_at dksX2_free_0 4 rfl rfl)
theorem dX2_free_5 : decode cX2_free 5 = .ok (.aload_n 0, 1) := dk_42 (dk_at dksX2_free_0 5 rfl rfl)
theorem dX2_free_6 : decode cX2_free 6 = .ok (.invokevirtual 79, 3) := dk_182 0 79 (dk_at dksX2_free_0 6 rfl rfl)
theorem dX2_free_9 : decode cX2_free 9 = .ok (.if_icmp .ge 27, 3) := dk_162 0 27 (dk_at dksX2_free_0 9 rfl rfl)
theorem dX2_free_12 : decode cX2_free 12 = .ok (.iload_n 1, 1) := dk_27 (dk_at dksX2_free_0 12 rfl rfl)
theorem dX2_free_13 : decode cX2_free 13 = .ok (.aload_n 0, 1) := dk_42 (dk_at dksX2_free_0 13 rfl rfl)
theorem dX2_free_14 : decode cX2_free 14 = .ok (.iload_n 2, 1) := dk_28 (dk_at dksX2_free_0 14 rfl rfl)
theorem dX2_free_15 : decode cX2_free 15 = .ok (.invokevirtual 346, 3) := dk_182 1 90 (dk_at dksX2_free_0 15 rfl rfl)
theorem dX2_free_18 : decode cX2_free 18 = .ok (.ifCond .eq 9, 3) := dk_153 0 9 (dk_at dksX2_free_0 18 rfl rfl)
theorem dX2_free_21 : decode cX2_free 21 = .ok (.iconst 1, 1) := dk_4 (dk_at dksX2_free_0 21 rfl rfl)
theorem dX2_free_22 : decode cX2_free 22 = .ok (.iload_n 2, 1) := dk_28 (dk_at dksX2_free_0 22 rfl rfl)
theorem dX2_free_23 : decode cX2_free 23 = .ok (.ishl, 1) := dk_120 (dk_at dksX2_free_0 23 rfl rfl)
theorem dX2_free_24 : decode cX2_free 24 = .ok (.goto 4, 3) := dk_167 0 4 (dk_at dksX2_free_1 0 rfl rfl)
theorem dX2_free_27 : decode cX2_free 27 = .ok (.iconst 0, 1) := dk_3 (dk_at dksX2_free_1 3 rfl rfl)
theorem dX2_free_28 : decode cX2_free 28 = .ok (.ior, 1) := dk_128 (dk_at dksX2_free_1 4 rfl rfl)
theorem dX2_free_29 : decode cX2_free 29 = .ok (.istore_n 1, 1) := dk_60 (dk_at dksX2_free_1 5 rfl rfl)
theorem dX2_free_30 : decode cX2_free 30 = .ok (.iinc 2 1, 3) := dk_132 2 1 (dk_at dksX2_free_1 6 rfl rfl)
theorem dX2_free_33 : decode cX2_free 33 = .ok (.goto (-29), 3) := dk_167 255 227 (dk_at dksX2_free_1 9 rfl rfl)
theorem dX2_free_36 : decode cX2_free 36 = .ok (.iload_n 1, 1) := dk_27 (dk_at dksX2_free_1 12 rfl rfl)
theorem dX2_free_37 : decode cX2_free 37 = .ok (.ireturn, 1) := dk_172 (dk_at dksX2_free_1 13 rfl rfl)
abbrev cX2_foretold : ByteArray := prog_20_method_109_code
def yX2_foretold : MethodName := ⟨RX2, "foretold", "(III)I"⟩
def dkwX2_foretold_3 : List UInt8 := [28, 104, 96, 29, 96, 46, 54, 4, 42, 182, 1, 163, 21, 4, 172]
abbrev dktX2_foretold_3 : List UInt8 := dkwX2_foretold_3 ++ []
def dkwX2_foretold_2 : List UInt8 := [46, 17, 39, 15, 162, 0, 7, 42, 182, 1, 121, 132, 4, 1, 167, 255, 231, 42, 180, 0, 7, 16, 17, 5]
abbrev dktX2_foretold_2 : List UInt8 := dkwX2_foretold_2 ++ dktX2_foretold_3
def dkwX2_foretold_1 : List UInt8 := [154, 0, 6, 16, 254, 172, 42, 182, 1, 160, 3, 54, 4, 21, 4, 27, 162, 0, 25, 42, 180, 0, 7, 8]
abbrev dktX2_foretold_1 : List UInt8 := dkwX2_foretold_1 ++ dktX2_foretold_2
def dkwX2_foretold_0 : List UInt8 := [27, 4, 16, 60, 184, 0, 75, 153, 0, 20, 42, 28, 182, 1, 151, 153, 0, 12, 29, 3, 4, 184, 0, 75]
abbrev dktX2_foretold_0 : List UInt8 := dkwX2_foretold_0 ++ dktX2_foretold_1
theorem dksX2_foretold_0 : cX2_foretold.data.toList.drop 0 = dktX2_foretold_0 := by decide +kernel
theorem dksX2_foretold_1 : cX2_foretold.data.toList.drop 24 = dktX2_foretold_1 := dk_seg dksX2_foretold_0 24 rfl rfl
theorem dksX2_foretold_2 : cX2_foretold.data.toList.drop 48 = dktX2_foretold_2 := dk_seg dksX2_foretold_1 24 rfl rfl
theorem dksX2_foretold_3 : cX2_foretold.data.toList.drop 72 = dktX2_foretold_3 := dk_seg dksX2_foretold_2 24 rfl rfl
theorem dX2_foretold_0 : decode cX2_foretold 0 = .ok (.iload_n 1, 1) := dk_27 (dk_at dksX2_foretold_0 0 rfl rfl)
theorem dX2_foretold_1 : decode cX2_foretold 1 = .ok (.iconst 1, 1) := dk_4 (dk_at dksX2_foretold_0 1 rfl rfl)
theorem dX2_foretold_2 : decode cX2_foretold 2 = .ok (.bipush 60, 2) := dk_16 60 (dk_at dksX2_foretold_0 2 rfl rfl)
theorem dX2_foretold_4 : decode cX2_foretold 4 = .ok (.invokestatic 75, 3) := dk_184 0 75 (dk_at dksX2_foretold_0 4 rfl rfl)
theorem dX2_foretold_7 : decode cX2_foretold 7 = .ok (.ifCond .eq 20, 3) := dk_153 0 20 (dk_at dksX2_foretold_0 7 rfl rfl)
theorem dX2_foretold_10 : decode cX2_foretold 10 = .ok (.aload_n 0, 1) := dk_42 (dk_at dksX2_foretold_0 10 rfl rfl)
theorem dX2_foretold_11 : decode cX2_foretold 11 = .ok (.iload_n 2, 1) := dk_28 (dk_at dksX2_foretold_0 11 rfl rfl)
theorem dX2_foretold_12 : decode cX2_foretold 12 = .ok (.invokevirtual 407, 3) := dk_182 1 151 (dk_at dksX2_foretold_0 12 rfl rfl)
theorem dX2_foretold_15 : decode cX2_foretold 15 = .ok (.ifCond .eq 12, 3) := dk_153 0 12 (dk_at dksX2_foretold_0 15 rfl rfl)
theorem dX2_foretold_18 : decode cX2_foretold 18 = .ok (.iload_n 3, 1) := dk_29 (dk_at dksX2_foretold_0 18 rfl rfl)
theorem dX2_foretold_19 : decode cX2_foretold 19 = .ok (.iconst 0, 1) := dk_3 (dk_at dksX2_foretold_0 19 rfl rfl)
theorem dX2_foretold_20 : decode cX2_foretold 20 = .ok (.iconst 1, 1) := dk_4 (dk_at dksX2_foretold_0 20 rfl rfl)
theorem dX2_foretold_21 : decode cX2_foretold 21 = .ok (.invokestatic 75, 3) := dk_184 0 75 (dk_at dksX2_foretold_0 21 rfl rfl)
theorem dX2_foretold_24 : decode cX2_foretold 24 = .ok (.ifCond .ne 6, 3) := dk_154 0 6 (dk_at dksX2_foretold_1 0 rfl rfl)
theorem dX2_foretold_27 : decode cX2_foretold 27 = .ok (.bipush (-2), 2) := dk_16 254 (dk_at dksX2_foretold_1 3 rfl rfl)
theorem dX2_foretold_29 : decode cX2_foretold 29 = .ok (.ireturn, 1) := dk_172 (dk_at dksX2_foretold_1 5 rfl rfl)
theorem dX2_foretold_30 : decode cX2_foretold 30 = .ok (.aload_n 0, 1) := dk_42 (dk_at dksX2_foretold_1 6 rfl rfl)
theorem dX2_foretold_31 : decode cX2_foretold 31 = .ok (.invokevirtual 416, 3) := dk_182 1 160 (dk_at dksX2_foretold_1 7 rfl rfl)
theorem dX2_foretold_34 : decode cX2_foretold 34 = .ok (.iconst 0, 1) := dk_3 (dk_at dksX2_foretold_1 10 rfl rfl)
theorem dX2_foretold_35 : decode cX2_foretold 35 = .ok (.istore 4, 2) := dk_54 4 (dk_at dksX2_foretold_1 11 rfl rfl)
theorem dX2_foretold_37 : decode cX2_foretold 37 = .ok (.iload 4, 2) := dk_21 4 (dk_at dksX2_foretold_1 13 rfl rfl)
theorem dX2_foretold_39 : decode cX2_foretold 39 = .ok (.iload_n 1, 1) := dk_27 (dk_at dksX2_foretold_1 15 rfl rfl)
theorem dX2_foretold_40 : decode cX2_foretold 40 = .ok (.if_icmp .ge 25, 3) := dk_162 0 25 (dk_at dksX2_foretold_1 16 rfl rfl)
theorem dX2_foretold_43 : decode cX2_foretold 43 = .ok (.aload_n 0, 1) := dk_42 (dk_at dksX2_foretold_1 19 rfl rfl)
theorem dX2_foretold_44 : decode cX2_foretold 44 = .ok (.getfield 7, 3) := dk_180 0 7 (dk_at dksX2_foretold_1 20 rfl rfl)
theorem dX2_foretold_47 : decode cX2_foretold 47 = .ok (.iconst 5, 1) := dk_8 (dk_at dksX2_foretold_1 23 rfl rfl)
theorem dX2_foretold_48 : decode cX2_foretold 48 = .ok (.iaload, 1) := dk_46 (dk_at dksX2_foretold_2 0 rfl rfl)
theorem dX2_foretold_49 : decode cX2_foretold 49 = .ok (.sipush 9999, 3) := dk_17 39 15 (dk_at dksX2_foretold_2 1 rfl rfl)
theorem dX2_foretold_52 : decode cX2_foretold 52 = .ok (.if_icmp .ge 7, 3) := dk_162 0 7 (dk_at dksX2_foretold_2 4 rfl rfl)
theorem dX2_foretold_55 : decode cX2_foretold 55 = .ok (.aload_n 0, 1) := dk_42 (dk_at dksX2_foretold_2 7 rfl rfl)
theorem dX2_foretold_56 : decode cX2_foretold 56 = .ok (.invokevirtual 377, 3) := dk_182 1 121 (dk_at dksX2_foretold_2 8 rfl rfl)
theorem dX2_foretold_59 : decode cX2_foretold 59 = .ok (.iinc 4 1, 3) := dk_132 4 1 (dk_at dksX2_foretold_2 11 rfl rfl)
theorem dX2_foretold_62 : decode cX2_foretold 62 = .ok (.goto (-25), 3) := dk_167 255 231 (dk_at dksX2_foretold_2 14 rfl rfl)
theorem dX2_foretold_65 : decode cX2_foretold 65 = .ok (.aload_n 0, 1) := dk_42 (dk_at dksX2_foretold_2 17 rfl rfl)
theorem dX2_foretold_66 : decode cX2_foretold 66 = .ok (.getfield 7, 3) := dk_180 0 7 (dk_at dksX2_foretold_2 18 rfl rfl)
theorem dX2_foretold_69 : decode cX2_foretold 69 = .ok (.bipush 17, 2) := dk_16 17 (dk_at dksX2_foretold_2 21 rfl rfl)
theorem dX2_foretold_71 : decode cX2_foretold 71 = .ok (.iconst 2, 1) := dk_5 (dk_at dksX2_foretold_2 23 rfl rfl)
theorem dX2_foretold_72 : decode cX2_foretold 72 = .ok (.iload_n 2, 1) := dk_28 (dk_at dksX2_foretold_3 0 rfl rfl)
theorem dX2_foretold_73 : decode cX2_foretold 73 = .ok (.imul, 1) := dk_104 (dk_at dksX2_foretold_3 1 rfl rfl)
theorem dX2_foretold_74 : decode cX2_foretold 74 = .ok (.iadd, 1) := dk_96 (dk_at dksX2_foretold_3 2 rfl rfl)
theorem dX2_foretold_75 : decode cX2_foretold 75 = .ok (.iload_n 3, 1) := dk_29 (dk_at dksX2_foretold_3 3 rfl rfl)
theorem dX2_foretold_76 : decode cX2_foretold 76 = .ok (.iadd, 1) := dk_96 (dk_at dksX2_foretold_3 4 rfl rfl)
theorem dX2_foretold_77 : decode cX2_foretold 77 = .ok (.iaload, 1) := dk_46 (dk_at dksX2_foretold_3 5 rfl rfl)
theorem dX2_foretold_78 : decode cX2_foretold 78 = .ok (.istore 4, 2) := dk_54 4 (dk_at dksX2_foretold_3 6 rfl rfl)
theorem dX2_foretold_80 : decode cX2_foretold 80 = .ok (.aload_n 0, 1) := dk_42 (dk_at dksX2_foretold_3 8 rfl rfl)
theorem dX2_foretold_81 : decode cX2_foretold 81 = .ok (.invokevirtual 419, 3) := dk_182 1 163 (dk_at dksX2_foretold_3 9 rfl rfl)
theorem dX2_foretold_84 : decode cX2_foretold 84 = .ok (.iload 4, 2) := dk_21 4 (dk_at dksX2_foretold_3 12 rfl rfl)
theorem dX2_foretold_86 : decode cX2_foretold 86 = .ok (.ireturn, 1) := dk_172 (dk_at dksX2_foretold_3 14 rfl rfl)
abbrev cX2_setAside : ByteArray := prog_20_method_107_code
def yX2_setAside : MethodName := ⟨RX2, "setAside", "()V"⟩
def dkwX2_setAside_1 : List UInt8 := [167, 255, 235, 42, 3, 181, 0, 43, 177]
abbrev dktX2_setAside_1 : List UInt8 := dkwX2_setAside_1 ++ []
def dkwX2_setAside_0 : List UInt8 := [8, 60, 27, 16, 27, 162, 0, 21, 42, 180, 0, 50, 27, 42, 180, 0, 7, 27, 46, 79, 132, 1, 1]
abbrev dktX2_setAside_0 : List UInt8 := dkwX2_setAside_0 ++ dktX2_setAside_1
theorem dksX2_setAside_0 : cX2_setAside.data.toList.drop 0 = dktX2_setAside_0 := by decide +kernel
theorem dksX2_setAside_1 : cX2_setAside.data.toList.drop 23 = dktX2_setAside_1 := dk_seg dksX2_setAside_0 23 rfl rfl
theorem dX2_setAside_0 : decode cX2_setAside 0 = .ok (.iconst 5, 1) := dk_8 (dk_at dksX2_setAside_0 0 rfl rfl)
theorem dX2_setAside_1 : decode cX2_setAside 1 = .ok (.istore_n 1, 1) := dk_60 (dk_at dksX2_setAside_0 1 rfl rfl)
theorem dX2_setAside_2 : decode cX2_setAside 2 = .ok (.iload_n 1, 1) := dk_27 (dk_at dksX2_setAside_0 2 rfl rfl)
theorem dX2_setAside_3 : decode cX2_setAside 3 = .ok (.bipush 27, 2) := dk_16 27 (dk_at dksX2_setAside_0 3 rfl rfl)
theorem dX2_setAside_5 : decode cX2_setAside 5 = .ok (.if_icmp .ge 21, 3) := dk_162 0 21 (dk_at dksX2_setAside_0 5 rfl rfl)
theorem dX2_setAside_8 : decode cX2_setAside 8 = .ok (.aload_n 0, 1) := dk_42 (dk_at dksX2_setAside_0 8 rfl rfl)
theorem dX2_setAside_9 : decode cX2_setAside 9 = .ok (.getfield 50, 3) := dk_180 0 50 (dk_at dksX2_setAside_0 9 rfl rfl)
theorem dX2_setAside_12 : decode cX2_setAside 12 = .ok (.iload_n 1, 1) := dk_27 (dk_at dksX2_setAside_0 12 rfl rfl)
theorem dX2_setAside_13 : decode cX2_setAside 13 = .ok (.aload_n 0, 1) := dk_42 (dk_at dksX2_setAside_0 13 rfl rfl)
theorem dX2_setAside_14 : decode cX2_setAside 14 = .ok (.getfield 7, 3) := dk_180 0 7 (dk_at dksX2_setAside_0 14 rfl rfl)
theorem dX2_setAside_17 : decode cX2_setAside 17 = .ok (.iload_n 1, 1) := dk_27 (dk_at dksX2_setAside_0 17 rfl rfl)
theorem dX2_setAside_18 : decode cX2_setAside 18 = .ok (.iaload, 1) := dk_46 (dk_at dksX2_setAside_0 18 rfl rfl)
theorem dX2_setAside_19 : decode cX2_setAside 19 = .ok (.iastore, 1) := dk_79 (dk_at dksX2_setAside_0 19 rfl rfl)
theorem dX2_setAside_20 : decode cX2_setAside 20 = .ok (.iinc 1 1, 3) := dk_132 1 1 (dk_at dksX2_setAside_0 20 rfl rfl)
theorem dX2_setAside_23 : decode cX2_setAside 23 = .ok (.goto (-21), 3) := dk_167 255 235 (dk_at dksX2_setAside_1 0 rfl rfl)
theorem dX2_setAside_26 : decode cX2_setAside 26 = .ok (.aload_n 0, 1) := dk_42 (dk_at dksX2_setAside_1 3 rfl rfl)
theorem dX2_setAside_27 : decode cX2_setAside 27 = .ok (.iconst 0, 1) := dk_3 (dk_at dksX2_setAside_1 4 rfl rfl)
theorem dX2_setAside_28 : decode cX2_setAside 28 = .ok (.putfield 43, 3) := dk_181 0 43 (dk_at dksX2_setAside_1 5 rfl rfl)
theorem dX2_setAside_31 : decode cX2_setAside 31 = .ok (.return_, 1) := dk_177 (dk_at dksX2_setAside_1 8 rfl rfl)
abbrev cX2_putBack : ByteArray := prog_20_method_108_code
def yX2_putBack : MethodName := ⟨RX2, "putBack", "()V"⟩
def dkwX2_putBack_1 : List UInt8 := [167, 255, 235, 42, 4, 181, 0, 43, 177]
abbrev dktX2_putBack_1 : List UInt8 := dkwX2_putBack_1 ++ []
def dkwX2_putBack_0 : List UInt8 := [8, 60, 27, 16, 27, 162, 0, 21, 42, 180, 0, 7, 27, 42, 180, 0, 50, 27, 46, 79, 132, 1, 1]
abbrev dktX2_putBack_0 : List UInt8 := dkwX2_putBack_0 ++ dktX2_putBack_1
theorem dksX2_putBack_0 : cX2_putBack.data.toList.drop 0 = dktX2_putBack_0 := by decide +kernel
theorem dksX2_putBack_1 : cX2_putBack.data.toList.drop 23 = dktX2_putBack_1 := dk_seg dksX2_putBack_0 23 rfl rfl
theorem dX2_putBack_0 : decode cX2_putBack 0 = .ok (.iconst 5, 1) := dk_8 (dk_at dksX2_putBack_0 0 rfl rfl)
theorem dX2_putBack_1 : decode cX2_putBack 1 = .ok (.istore_n 1, 1) := dk_60 (dk_at dksX2_putBack_0 1 rfl rfl)
theorem dX2_putBack_2 : decode cX2_putBack 2 = .ok (.iload_n 1, 1) := dk_27 (dk_at dksX2_putBack_0 2 rfl rfl)
theorem dX2_putBack_3 : decode cX2_putBack 3 = .ok (.bipush 27, 2) := dk_16 27 (dk_at dksX2_putBack_0 3 rfl rfl)
theorem dX2_putBack_5 : decode cX2_putBack 5 = .ok (.if_icmp .ge 21, 3) := dk_162 0 21 (dk_at dksX2_putBack_0 5 rfl rfl)
theorem dX2_putBack_8 : decode cX2_putBack 8 = .ok (.aload_n 0, 1) := dk_42 (dk_at dksX2_putBack_0 8 rfl rfl)
theorem dX2_putBack_9 : decode cX2_putBack 9 = .ok (.getfield 7, 3) := dk_180 0 7 (dk_at dksX2_putBack_0 9 rfl rfl)
theorem dX2_putBack_12 : decode cX2_putBack 12 = .ok (.iload_n 1, 1) := dk_27 (dk_at dksX2_putBack_0 12 rfl rfl)
theorem dX2_putBack_13 : decode cX2_putBack 13 = .ok (.aload_n 0, 1) := dk_42 (dk_at dksX2_putBack_0 13 rfl rfl)
theorem dX2_putBack_14 : decode cX2_putBack 14 = .ok (.getfield 50, 3) := dk_180 0 50 (dk_at dksX2_putBack_0 14 rfl rfl)
theorem dX2_putBack_17 : decode cX2_putBack 17 = .ok (.iload_n 1, 1) := dk_27 (dk_at dksX2_putBack_0 17 rfl rfl)
theorem dX2_putBack_18 : decode cX2_putBack 18 = .ok (.iaload, 1) := dk_46 (dk_at dksX2_putBack_0 18 rfl rfl)
theorem dX2_putBack_19 : decode cX2_putBack 19 = .ok (.iastore, 1) := dk_79 (dk_at dksX2_putBack_0 19 rfl rfl)
theorem dX2_putBack_20 : decode cX2_putBack 20 = .ok (.iinc 1 1, 3) := dk_132 1 1 (dk_at dksX2_putBack_0 20 rfl rfl)
theorem dX2_putBack_23 : decode cX2_putBack 23 = .ok (.goto (-21), 3) := dk_167 255 235 (dk_at dksX2_putBack_1 0 rfl rfl)
theorem dX2_putBack_26 : decode cX2_putBack 26 = .ok (.aload_n 0, 1) := dk_42 (dk_at dksX2_putBack_1 3 rfl rfl)
theorem dX2_putBack_27 : decode cX2_putBack 27 = .ok (.iconst 1, 1) := dk_4 (dk_at dksX2_putBack_1 4 rfl rfl)
theorem dX2_putBack_28 : decode cX2_putBack 28 = .ok (.putfield 43, 3) := dk_181 0 43 (dk_at dksX2_putBack_1 5 rfl rfl)
theorem dX2_putBack_31 : decode cX2_putBack 31 = .ok (.return_, 1) := dk_177 (dk_at dksX2_putBack_1 8 rfl rfl)
abbrev cX2_lasts : ByteArray := prog_20_method_110_code
def yX2_lasts : MethodName := ⟨RX2, "lasts", "()I"⟩
def dkwX2_lasts_3 : List UInt8 := [160, 0, 5, 28, 60, 132, 2, 1, 167, 255, 196, 42, 182, 1, 163, 27, 172]
abbrev dktX2_lasts_3 : List UInt8 := dkwX2_lasts_3 ++ []
def dkwX2_lasts_2 : List UInt8 := [182, 1, 121, 42, 180, 0, 7, 3, 46, 158, 0, 18, 42, 180, 1, 99, 42, 180, 0, 7, 3, 46]
abbrev dktX2_lasts_2 : List UInt8 := dkwX2_lasts_2 ++ dktX2_lasts_3
def dkwX2_lasts_1 : List UInt8 := [27, 16, 60, 160, 0, 54, 42, 180, 0, 7, 8, 46, 17, 39, 15, 162, 0, 42, 42, 3, 181, 1, 99, 42]
abbrev dktX2_lasts_1 : List UInt8 := dkwX2_lasts_1 ++ dktX2_lasts_2
def dkwX2_lasts_0 : List UInt8 := [42, 182, 0, 79, 154, 0, 5, 3, 172, 42, 182, 1, 160, 16, 60, 60, 4, 61, 28, 16, 60, 163, 0, 60]
abbrev dktX2_lasts_0 : List UInt8 := dkwX2_lasts_0 ++ dktX2_lasts_1
theorem dksX2_lasts_0 : cX2_lasts.data.toList.drop 0 = dktX2_lasts_0 := by decide +kernel
theorem dksX2_lasts_1 : cX2_lasts.data.toList.drop 24 = dktX2_lasts_1 := dk_seg dksX2_lasts_0 24 rfl rfl
theorem dksX2_lasts_2 : cX2_lasts.data.toList.drop 48 = dktX2_lasts_2 := dk_seg dksX2_lasts_1 24 rfl rfl
theorem dksX2_lasts_3 : cX2_lasts.data.toList.drop 70 = dktX2_lasts_3 := dk_seg dksX2_lasts_2 22 rfl rfl
theorem dX2_lasts_0 : decode cX2_lasts 0 = .ok (.aload_n 0, 1) := dk_42 (dk_at dksX2_lasts_0 0 rfl rfl)
theorem dX2_lasts_1 : decode cX2_lasts 1 = .ok (.invokevirtual 79, 3) := dk_182 0 79 (dk_at dksX2_lasts_0 1 rfl rfl)
theorem dX2_lasts_4 : decode cX2_lasts 4 = .ok (.ifCond .ne 5, 3) := dk_154 0 5 (dk_at dksX2_lasts_0 4 rfl rfl)
theorem dX2_lasts_7 : decode cX2_lasts 7 = .ok (.iconst 0, 1) := dk_3 (dk_at dksX2_lasts_0 7 rfl rfl)
theorem dX2_lasts_8 : decode cX2_lasts 8 = .ok (.ireturn, 1) := dk_172 (dk_at dksX2_lasts_0 8 rfl rfl)
theorem dX2_lasts_9 : decode cX2_lasts 9 = .ok (.aload_n 0, 1) := dk_42 (dk_at dksX2_lasts_0 9 rfl rfl)
theorem dX2_lasts_10 : decode cX2_lasts 10 = .ok (.invokevirtual 416, 3) := dk_182 1 160 (dk_at dksX2_lasts_0 10 rfl rfl)
theorem dX2_lasts_13 : decode cX2_lasts 13 = .ok (.bipush 60, 2) := dk_16 60 (dk_at dksX2_lasts_0 13 rfl rfl)
theorem dX2_lasts_15 : decode cX2_lasts 15 = .ok (.istore_n 1, 1) := dk_60 (dk_at dksX2_lasts_0 15 rfl rfl)
theorem dX2_lasts_16 : decode cX2_lasts 16 = .ok (.iconst 1, 1) := dk_4 (dk_at dksX2_lasts_0 16 rfl rfl)
theorem dX2_lasts_17 : decode cX2_lasts 17 = .ok (.istore_n 2, 1) := dk_61 (dk_at dksX2_lasts_0 17 rfl rfl)
theorem dX2_lasts_18 : decode cX2_lasts 18 = .ok (.iload_n 2, 1) := dk_28 (dk_at dksX2_lasts_0 18 rfl rfl)
theorem dX2_lasts_19 : decode cX2_lasts 19 = .ok (.bipush 60, 2) := dk_16 60 (dk_at dksX2_lasts_0 19 rfl rfl)
theorem dX2_lasts_21 : decode cX2_lasts 21 = .ok (.if_icmp .gt 60, 3) := dk_163 0 60 (dk_at dksX2_lasts_0 21 rfl rfl)
theorem dX2_lasts_24 : decode cX2_lasts 24 = .ok (.iload_n 1, 1) := dk_27 (dk_at dksX2_lasts_1 0 rfl rfl)
theorem dX2_lasts_25 : decode cX2_lasts 25 = .ok (.bipush 60, 2) := dk_16 60 (dk_at dksX2_lasts_1 1 rfl rfl)
theorem dX2_lasts_27 : decode cX2_lasts 27 = .ok (.if_icmp .ne 54, 3) := dk_160 0 54 (dk_at dksX2_lasts_1 3 rfl rfl)
theorem dX2_lasts_30 : decode cX2_lasts 30 = .ok (.aload_n 0, 1) := dk_42 (dk_at dksX2_lasts_1 6 rfl rfl)
theorem dX2_lasts_31 : decode cX2_lasts 31 = .ok (.getfield 7, 3) := dk_180 0 7 (dk_at dksX2_lasts_1 7 rfl rfl)
theorem dX2_lasts_34 : decode cX2_lasts 34 = .ok (.iconst 5, 1) := dk_8 (dk_at dksX2_lasts_1 10 rfl rfl)
theorem dX2_lasts_35 : decode cX2_lasts 35 = .ok (.iaload, 1) := dk_46 (dk_at dksX2_lasts_1 11 rfl rfl)
theorem dX2_lasts_36 : decode cX2_lasts 36 = .ok (.sipush 9999, 3) := dk_17 39 15 (dk_at dksX2_lasts_1 12 rfl rfl)
theorem dX2_lasts_39 : decode cX2_lasts 39 = .ok (.if_icmp .ge 42, 3) := dk_162 0 42 (dk_at dksX2_lasts_1 15 rfl rfl)
theorem dX2_lasts_42 : decode cX2_lasts 42 = .ok (.aload_n 0, 1) := dk_42 (dk_at dksX2_lasts_1 18 rfl rfl)
theorem dX2_lasts_43 : decode cX2_lasts 43 = .ok (.iconst 0, 1) := dk_3 (dk_at dksX2_lasts_1 19 rfl rfl)
theorem dX2_lasts_44 : decode cX2_lasts 44 = .ok (.putfield 355, 3) := dk_181 1 99 (dk_at dksX2_lasts_1 20 rfl rfl)
theorem dX2_lasts_47 : decode cX2_lasts 47 = .ok (.aload_n 0, 1) := dk_42 (dk_at dksX2_lasts_1 23 rfl rfl)
theorem dX2_lasts_48 : decode cX2_lasts 48 = .ok (.invokevirtual 377, 3) := dk_182 1 121 (dk_at dksX2_lasts_2 0 rfl rfl)
theorem dX2_lasts_51 : decode cX2_lasts 51 = .ok (.aload_n 0, 1) := dk_42 (dk_at dksX2_lasts_2 3 rfl rfl)
theorem dX2_lasts_52 : decode cX2_lasts 52 = .ok (.getfield 7, 3) := dk_180 0 7 (dk_at dksX2_lasts_2 4 rfl rfl)
theorem dX2_lasts_55 : decode cX2_lasts 55 = .ok (.iconst 0, 1) := dk_3 (dk_at dksX2_lasts_2 7 rfl rfl)
theorem dX2_lasts_56 : decode cX2_lasts 56 = .ok (.iaload, 1) := dk_46 (dk_at dksX2_lasts_2 8 rfl rfl)
theorem dX2_lasts_57 : decode cX2_lasts 57 = .ok (.ifCond .le 18, 3) := dk_158 0 18 (dk_at dksX2_lasts_2 9 rfl rfl)
theorem dX2_lasts_60 : decode cX2_lasts 60 = .ok (.aload_n 0, 1) := dk_42 (dk_at dksX2_lasts_2 12 rfl rfl)
theorem dX2_lasts_61 : decode cX2_lasts 61 = .ok (.getfield 355, 3) := dk_180 1 99 (dk_at dksX2_lasts_2 13 rfl rfl)
theorem dX2_lasts_64 : decode cX2_lasts 64 = .ok (.aload_n 0, 1) := dk_42 (dk_at dksX2_lasts_2 16 rfl rfl)
theorem dX2_lasts_65 : decode cX2_lasts 65 = .ok (.getfield 7, 3) := dk_180 0 7 (dk_at dksX2_lasts_2 17 rfl rfl)
theorem dX2_lasts_68 : decode cX2_lasts 68 = .ok (.iconst 0, 1) := dk_3 (dk_at dksX2_lasts_2 20 rfl rfl)
theorem dX2_lasts_69 : decode cX2_lasts 69 = .ok (.iaload, 1) := dk_46 (dk_at dksX2_lasts_2 21 rfl rfl)
theorem dX2_lasts_70 : decode cX2_lasts 70 = .ok (.if_icmp .ne 5, 3) := dk_160 0 5 (dk_at dksX2_lasts_3 0 rfl rfl)
theorem dX2_lasts_73 : decode cX2_lasts 73 = .ok (.iload_n 2, 1) := dk_28 (dk_at dksX2_lasts_3 3 rfl rfl)
theorem dX2_lasts_74 : decode cX2_lasts 74 = .ok (.istore_n 1, 1) := dk_60 (dk_at dksX2_lasts_3 4 rfl rfl)
theorem dX2_lasts_75 : decode cX2_lasts 75 = .ok (.iinc 2 1, 3) := dk_132 2 1 (dk_at dksX2_lasts_3 5 rfl rfl)
theorem dX2_lasts_78 : decode cX2_lasts 78 = .ok (.goto (-60), 3) := dk_167 255 196 (dk_at dksX2_lasts_3 8 rfl rfl)
theorem dX2_lasts_81 : decode cX2_lasts 81 = .ok (.aload_n 0, 1) := dk_42 (dk_at dksX2_lasts_3 11 rfl rfl)
theorem dX2_lasts_82 : decode cX2_lasts 82 = .ok (.invokevirtual 419, 3) := dk_182 1 163 (dk_at dksX2_lasts_3 12 rfl rfl)
theorem dX2_lasts_85 : decode cX2_lasts 85 = .ok (.iload_n 1, 1) := dk_27 (dk_at dksX2_lasts_3 15 rfl rfl)
theorem dX2_lasts_86 : decode cX2_lasts 86 = .ok (.ireturn, 1) := dk_172 (dk_at dksX2_lasts_3 16 rfl rfl)
abbrev cX2_worlds : ByteArray := prog_20_method_111_code
def yX2_worlds : MethodName := ⟨RX2, "worlds", "(II)I"⟩
def dkwX2_worlds_3 : List UInt8 := [184, 0, 87, 154, 0, 9, 132, 4, 1, 167, 255, 244, 21, 4, 172]
abbrev dktX2_worlds_3 : List UInt8 := dkwX2_worlds_3 ++ []
def dkwX2_worlds_2 : List UInt8 := [21, 4, 28, 162, 0, 15, 29, 29, 4, 100, 126, 62, 132, 4, 1, 167, 255, 241, 3, 54, 4, 29, 21, 4]
abbrev dktX2_worlds_2 : List UInt8 := dkwX2_worlds_2 ++ dktX2_worlds_3
def dkwX2_worlds_1 : List UInt8 := [184, 1, 102, 172, 28, 3, 29, 184, 1, 102, 4, 100, 184, 0, 75, 154, 0, 6, 16, 254, 172, 3, 54, 4]
abbrev dktX2_worlds_1 : List UInt8 := dkwX2_worlds_1 ++ dktX2_worlds_2
def dkwX2_worlds_0 : List UInt8 := [42, 27, 182, 1, 166, 154, 0, 6, 16, 254, 172, 42, 27, 182, 1, 84, 62, 28, 2, 160, 0, 8, 29]
abbrev dktX2_worlds_0 : List UInt8 := dkwX2_worlds_0 ++ dktX2_worlds_1
theorem dksX2_worlds_0 : cX2_worlds.data.toList.drop 0 = dktX2_worlds_0 := by decide +kernel
theorem dksX2_worlds_1 : cX2_worlds.data.toList.drop 23 = dktX2_worlds_1 := dk_seg dksX2_worlds_0 23 rfl rfl
theorem dksX2_worlds_2 : cX2_worlds.data.toList.drop 47 = dktX2_worlds_2 := dk_seg dksX2_worlds_1 24 rfl rfl
theorem dksX2_worlds_3 : cX2_worlds.data.toList.drop 71 = dktX2_worlds_3 := dk_seg dksX2_worlds_2 24 rfl rfl
theorem dX2_worlds_0 : decode cX2_worlds 0 = .ok (.aload_n 0, 1) := dk_42 (dk_at dksX2_worlds_0 0 rfl rfl)
theorem dX2_worlds_1 : decode cX2_worlds 1 = .ok (.iload_n 1, 1) := dk_27 (dk_at dksX2_worlds_0 1 rfl rfl)
theorem dX2_worlds_2 : decode cX2_worlds 2 = .ok (.invokevirtual 422, 3) := dk_182 1 166 (dk_at dksX2_worlds_0 2 rfl rfl)
theorem dX2_worlds_5 : decode cX2_worlds 5 = .ok (.ifCond .ne 6, 3) := dk_154 0 6 (dk_at dksX2_worlds_0 5 rfl rfl)
theorem dX2_worlds_8 : decode cX2_worlds 8 = .ok (.bipush (-2), 2) := dk_16 254 (dk_at dksX2_worlds_0 8 rfl rfl)
theorem dX2_worlds_10 : decode cX2_worlds 10 = .ok (.ireturn, 1) := dk_172 (dk_at dksX2_worlds_0 10 rfl rfl)
theorem dX2_worlds_11 : decode cX2_worlds 11 = .ok (.aload_n 0, 1) := dk_42 (dk_at dksX2_worlds_0 11 rfl rfl)
theorem dX2_worlds_12 : decode cX2_worlds 12 = .ok (.iload_n 1, 1) := dk_27 (dk_at dksX2_worlds_0 12 rfl rfl)
theorem dX2_worlds_13 : decode cX2_worlds 13 = .ok (.invokevirtual 340, 3) := dk_182 1 84 (dk_at dksX2_worlds_0 13 rfl rfl)
theorem dX2_worlds_16 : decode cX2_worlds 16 = .ok (.istore_n 3, 1) := dk_62 (dk_at dksX2_worlds_0 16 rfl rfl)
theorem dX2_worlds_17 : decode cX2_worlds 17 = .ok (.iload_n 2, 1) := dk_28 (dk_at dksX2_worlds_0 17 rfl rfl)
theorem dX2_worlds_18 : decode cX2_worlds 18 = .ok (.iconst (-1), 1) := dk_2 (dk_at dksX2_worlds_0 18 rfl rfl)
theorem dX2_worlds_19 : decode cX2_worlds 19 = .ok (.if_icmp .ne 8, 3) := dk_160 0 8 (dk_at dksX2_worlds_0 19 rfl rfl)
theorem dX2_worlds_22 : decode cX2_worlds 22 = .ok (.iload_n 3, 1) := dk_29 (dk_at dksX2_worlds_0 22 rfl rfl)
theorem dX2_worlds_23 : decode cX2_worlds 23 = .ok (.invokestatic 358, 3) := dk_184 1 102 (dk_at dksX2_worlds_1 0 rfl rfl)
theorem dX2_worlds_26 : decode cX2_worlds 26 = .ok (.ireturn, 1) := dk_172 (dk_at dksX2_worlds_1 3 rfl rfl)
theorem dX2_worlds_27 : decode cX2_worlds 27 = .ok (.iload_n 2, 1) := dk_28 (dk_at dksX2_worlds_1 4 rfl rfl)
theorem dX2_worlds_28 : decode cX2_worlds 28 = .ok (.iconst 0, 1) := dk_3 (dk_at dksX2_worlds_1 5 rfl rfl)
theorem dX2_worlds_29 : decode cX2_worlds 29 = .ok (.iload_n 3, 1) := dk_29 (dk_at dksX2_worlds_1 6 rfl rfl)
theorem dX2_worlds_30 : decode cX2_worlds 30 = .ok (.invokestatic 358, 3) := dk_184 1 102 (dk_at dksX2_worlds_1 7 rfl rfl)
theorem dX2_worlds_33 : decode cX2_worlds 33 = .ok (.iconst 1, 1) := dk_4 (dk_at dksX2_worlds_1 10 rfl rfl)
theorem dX2_worlds_34 : decode cX2_worlds 34 = .ok (.isub, 1) := dk_100 (dk_at dksX2_worlds_1 11 rfl rfl)
theorem dX2_worlds_35 : decode cX2_worlds 35 = .ok (.invokestatic 75, 3) := dk_184 0 75 (dk_at dksX2_worlds_1 12 rfl rfl)
theorem dX2_worlds_38 : decode cX2_worlds 38 = .ok (.ifCond .ne 6, 3) := dk_154 0 6 (dk_at dksX2_worlds_1 15 rfl rfl)
theorem dX2_worlds_41 : decode cX2_worlds 41 = .ok (.bipush (-2), 2) := dk_16 254 (dk_at dksX2_worlds_1 18 rfl rfl)
theorem dX2_worlds_43 : decode cX2_worlds 43 = .ok (.ireturn, 1) := dk_172 (dk_at dksX2_worlds_1 20 rfl rfl)
theorem dX2_worlds_44 : decode cX2_worlds 44 = .ok (.iconst 0, 1) := dk_3 (dk_at dksX2_worlds_1 21 rfl rfl)
theorem dX2_worlds_45 : decode cX2_worlds 45 = .ok (.istore 4, 2) := dk_54 4 (dk_at dksX2_worlds_1 22 rfl rfl)
theorem dX2_worlds_47 : decode cX2_worlds 47 = .ok (.iload 4, 2) := dk_21 4 (dk_at dksX2_worlds_2 0 rfl rfl)
theorem dX2_worlds_49 : decode cX2_worlds 49 = .ok (.iload_n 2, 1) := dk_28 (dk_at dksX2_worlds_2 2 rfl rfl)
theorem dX2_worlds_50 : decode cX2_worlds 50 = .ok (.if_icmp .ge 15, 3) := dk_162 0 15 (dk_at dksX2_worlds_2 3 rfl rfl)
theorem dX2_worlds_53 : decode cX2_worlds 53 = .ok (.iload_n 3, 1) := dk_29 (dk_at dksX2_worlds_2 6 rfl rfl)
theorem dX2_worlds_54 : decode cX2_worlds 54 = .ok (.iload_n 3, 1) := dk_29 (dk_at dksX2_worlds_2 7 rfl rfl)
theorem dX2_worlds_55 : decode cX2_worlds 55 = .ok (.iconst 1, 1) := dk_4 (dk_at dksX2_worlds_2 8 rfl rfl)
theorem dX2_worlds_56 : decode cX2_worlds 56 = .ok (.isub, 1) := dk_100 (dk_at dksX2_worlds_2 9 rfl rfl)
theorem dX2_worlds_57 : decode cX2_worlds 57 = .ok (.iand, 1) := dk_126 (dk_at dksX2_worlds_2 10 rfl rfl)
theorem dX2_worlds_58 : decode cX2_worlds 58 = .ok (.istore_n 3, 1) := dk_62 (dk_at dksX2_worlds_2 11 rfl rfl)
theorem dX2_worlds_59 : decode cX2_worlds 59 = .ok (.iinc 4 1, 3) := dk_132 4 1 (dk_at dksX2_worlds_2 12 rfl rfl)
theorem dX2_worlds_62 : decode cX2_worlds 62 = .ok (.goto (-15), 3) := dk_167 255 241 (dk_at dksX2_worlds_2 15 rfl rfl)
theorem dX2_worlds_65 : decode cX2_worlds 65 = .ok (.iconst 0, 1) := dk_3 (dk_at dksX2_worlds_2 18 rfl rfl)
theorem dX2_worlds_66 : decode cX2_worlds 66 = .ok (.istore 4, 2) := dk_54 4 (dk_at dksX2_worlds_2 19 rfl rfl)
theorem dX2_worlds_68 : decode cX2_worlds 68 = .ok (.iload_n 3, 1) := dk_29 (dk_at dksX2_worlds_2 21 rfl rfl)
theorem dX2_worlds_69 : decode cX2_worlds 69 = .ok (.iload 4, 2) := dk_21 4 (dk_at dksX2_worlds_2 22 rfl rfl)
theorem dX2_worlds_71 : decode cX2_worlds 71 = .ok (.invokestatic 87, 3) := dk_184 0 87 (dk_at dksX2_worlds_3 0 rfl rfl)
theorem dX2_worlds_74 : decode cX2_worlds 74 = .ok (.ifCond .ne 9, 3) := dk_154 0 9 (dk_at dksX2_worlds_3 3 rfl rfl)
theorem dX2_worlds_77 : decode cX2_worlds 77 = .ok (.iinc 4 1, 3) := dk_132 4 1 (dk_at dksX2_worlds_3 6 rfl rfl)
theorem dX2_worlds_80 : decode cX2_worlds 80 = .ok (.goto (-12), 3) := dk_167 255 244 (dk_at dksX2_worlds_3 9 rfl rfl)
theorem dX2_worlds_83 : decode cX2_worlds 83 = .ok (.iload 4, 2) := dk_21 4 (dk_at dksX2_worlds_3 12 rfl rfl)
theorem dX2_worlds_85 : decode cX2_worlds 85 = .ok (.ireturn, 1) := dk_172 (dk_at dksX2_worlds_3 14 rfl rfl)
abbrev cX2_areClaims : ByteArray := prog_20_method_12_code
def yX2_areClaims : MethodName := ⟨RX2, "areClaims", "(I)Z"⟩
def dkwX2_areClaims_0 : List UInt8 := [27, 3, 42, 182, 0, 83, 184, 0, 75, 172]
abbrev dktX2_areClaims_0 : List UInt8 := dkwX2_areClaims_0 ++ []
theorem dksX2_areClaims_0 : cX2_areClaims.data.toList.drop 0 = dktX2_areClaims_0 := by decide +kernel
theorem dX2_areClaims_0 : decode cX2_areClaims 0 = .ok (.iload_n 1, 1) := dk_27 (dk_at dksX2_areClaims_0 0 rfl rfl)
theorem dX2_areClaims_1 : decode cX2_areClaims 1 = .ok (.iconst 0, 1) := dk_3 (dk_at dksX2_areClaims_0 1 rfl rfl)
theorem dX2_areClaims_2 : decode cX2_areClaims 2 = .ok (.aload_n 0, 1) := dk_42 (dk_at dksX2_areClaims_0 2 rfl rfl)
theorem dX2_areClaims_3 : decode cX2_areClaims 3 = .ok (.invokevirtual 83, 3) := dk_182 0 83 (dk_at dksX2_areClaims_0 3 rfl rfl)
theorem dX2_areClaims_6 : decode cX2_areClaims 6 = .ok (.invokestatic 75, 3) := dk_184 0 75 (dk_at dksX2_areClaims_0 6 rfl rfl)
theorem dX2_areClaims_9 : decode cX2_areClaims 9 = .ok (.ireturn, 1) := dk_172 (dk_at dksX2_areClaims_0 9 rfl rfl)
abbrev cX2_follows : ByteArray := prog_20_method_112_code
def yX2_follows : MethodName := ⟨RX2, "follows", "(II)Z"⟩
def dkwX2_follows_1 : List UInt8 := [182, 0, 91, 2, 130, 126, 154, 0, 7, 4, 167, 0, 4, 3, 172]
abbrev dktX2_follows_1 : List UInt8 := dkwX2_follows_1 ++ []
def dkwX2_follows_0 : List UInt8 := [42, 27, 182, 1, 166, 153, 0, 31, 42, 28, 182, 1, 78, 153, 0, 23, 42, 27, 182, 1, 84, 42, 28]
abbrev dktX2_follows_0 : List UInt8 := dkwX2_follows_0 ++ dktX2_follows_1
theorem dksX2_follows_0 : cX2_follows.data.toList.drop 0 = dktX2_follows_0 := by decide +kernel
theorem dksX2_follows_1 : cX2_follows.data.toList.drop 23 = dktX2_follows_1 := dk_seg dksX2_follows_0 23 rfl rfl
theorem dX2_follows_0 : decode cX2_follows 0 = .ok (.aload_n 0, 1) := dk_42 (dk_at dksX2_follows_0 0 rfl rfl)
theorem dX2_follows_1 : decode cX2_follows 1 = .ok (.iload_n 1, 1) := dk_27 (dk_at dksX2_follows_0 1 rfl rfl)
theorem dX2_follows_2 : decode cX2_follows 2 = .ok (.invokevirtual 422, 3) := dk_182 1 166 (dk_at dksX2_follows_0 2 rfl rfl)
theorem dX2_follows_5 : decode cX2_follows 5 = .ok (.ifCond .eq 31, 3) := dk_153 0 31 (dk_at dksX2_follows_0 5 rfl rfl)
theorem dX2_follows_8 : decode cX2_follows 8 = .ok (.aload_n 0, 1) := dk_42 (dk_at dksX2_follows_0 8 rfl rfl)
theorem dX2_follows_9 : decode cX2_follows 9 = .ok (.iload_n 2, 1) := dk_28 (dk_at dksX2_follows_0 9 rfl rfl)
theorem dX2_follows_10 : decode cX2_follows 10 = .ok (.invokevirtual 334, 3) := dk_182 1 78 (dk_at dksX2_follows_0 10 rfl rfl)
theorem dX2_follows_13 : decode cX2_follows 13 = .ok (.ifCond .eq 23, 3) := dk_153 0 23 (dk_at dksX2_follows_0 13 rfl rfl)
theorem dX2_follows_16 : decode cX2_follows 16 = .ok (.aload_n 0, 1) := dk_42 (dk_at dksX2_follows_0 16 rfl rfl)
theorem dX2_follows_17 : decode cX2_follows 17 = .ok (.iload_n 1, 1) := dk_27 (dk_at dksX2_follows_0 17 rfl rfl)
theorem dX2_follows_18 : decode cX2_follows 18 = .ok (.invokevirtual 340, 3) := dk_182 1 84 (dk_at dksX2_follows_0 18 rfl rfl)
theorem dX2_follows_21 : decode cX2_follows 21 = .ok (.aload_n 0, 1) := dk_42 (dk_at dksX2_follows_0 21 rfl rfl)
theorem dX2_follows_22 : decode cX2_follows 22 = .ok (.iload_n 2, 1) := dk_28 (dk_at dksX2_follows_0 22 rfl rfl)
theorem dX2_follows_23 : decode cX2_follows 23 = .ok (.invokevirtual 91, 3) := dk_182 0 91 (dk_at dksX2_follows_1 0 rfl rfl)
theorem dX2_follows_26 : decode cX2_follows 26 = .ok (.iconst (-1), 1) := dk_2 (dk_at dksX2_follows_1 3 rfl rfl)
theorem dX2_follows_27 : decode cX2_follows 27 = .ok (.ixor, 1) := dk_130 (dk_at dksX2_follows_1 4 rfl rfl)
theorem dX2_follows_28 : decode cX2_follows 28 = .ok (.iand, 1) := dk_126 (dk_at dksX2_follows_1 5 rfl rfl)
theorem dX2_follows_29 : decode cX2_follows 29 = .ok (.ifCond .ne 7, 3) := dk_154 0 7 (dk_at dksX2_follows_1 6 rfl rfl)
theorem dX2_follows_32 : decode cX2_follows 32 = .ok (.iconst 1, 1) := dk_4 (dk_at dksX2_follows_1 9 rfl rfl)
theorem dX2_follows_33 : decode cX2_follows 33 = .ok (.goto 4, 3) := dk_167 0 4 (dk_at dksX2_follows_1 10 rfl rfl)
theorem dX2_follows_36 : decode cX2_follows 36 = .ok (.iconst 0, 1) := dk_3 (dk_at dksX2_follows_1 13 rfl rfl)
theorem dX2_follows_37 : decode cX2_follows 37 = .ok (.ireturn, 1) := dk_172 (dk_at dksX2_follows_1 14 rfl rfl)
abbrev cX2_alike : ByteArray := prog_20_method_113_code
def yX2_alike : MethodName := ⟨RX2, "alike", "(II)Z"⟩
def dkwX2_alike_1 : List UInt8 := [182, 0, 91, 160, 0, 7, 4, 167, 0, 4, 3, 172]
abbrev dktX2_alike_1 : List UInt8 := dkwX2_alike_1 ++ []
def dkwX2_alike_0 : List UInt8 := [42, 27, 182, 1, 78, 153, 0, 28, 42, 28, 182, 1, 78, 153, 0, 20, 42, 27, 182, 0, 91, 42, 28]
abbrev dktX2_alike_0 : List UInt8 := dkwX2_alike_0 ++ dktX2_alike_1
theorem dksX2_alike_0 : cX2_alike.data.toList.drop 0 = dktX2_alike_0 := by decide +kernel
theorem dksX2_alike_1 : cX2_alike.data.toList.drop 23 = dktX2_alike_1 := dk_seg dksX2_alike_0 23 rfl rfl
theorem dX2_alike_0 : decode cX2_alike 0 = .ok (.aload_n 0, 1) := dk_42 (dk_at dksX2_alike_0 0 rfl rfl)
theorem dX2_alike_1 : decode cX2_alike 1 = .ok (.iload_n 1, 1) := dk_27 (dk_at dksX2_alike_0 1 rfl rfl)
theorem dX2_alike_2 : decode cX2_alike 2 = .ok (.invokevirtual 334, 3) := dk_182 1 78 (dk_at dksX2_alike_0 2 rfl rfl)
theorem dX2_alike_5 : decode cX2_alike 5 = .ok (.ifCond .eq 28, 3) := dk_153 0 28 (dk_at dksX2_alike_0 5 rfl rfl)
theorem dX2_alike_8 : decode cX2_alike 8 = .ok (.aload_n 0, 1) := dk_42 (dk_at dksX2_alike_0 8 rfl rfl)
theorem dX2_alike_9 : decode cX2_alike 9 = .ok (.iload_n 2, 1) := dk_28 (dk_at dksX2_alike_0 9 rfl rfl)
theorem dX2_alike_10 : decode cX2_alike 10 = .ok (.invokevirtual 334, 3) := dk_182 1 78 (dk_at dksX2_alike_0 10 rfl rfl)
theorem dX2_alike_13 : decode cX2_alike 13 = .ok (.ifCond .eq 20, 3) := dk_153 0 20 (dk_at dksX2_alike_0 13 rfl rfl)
theorem dX2_alike_16 : decode cX2_alike 16 = .ok (.aload_n 0, 1) := dk_42 (dk_at dksX2_alike_0 16 rfl rfl)
theorem dX2_alike_17 : decode cX2_alike 17 = .ok (.iload_n 1, 1) := dk_27 (dk_at dksX2_alike_0 17 rfl rfl)
theorem dX2_alike_18 : decode cX2_alike 18 = .ok (.invokevirtual 91, 3) := dk_182 0 91 (dk_at dksX2_alike_0 18 rfl rfl)
theorem dX2_alike_21 : decode cX2_alike 21 = .ok (.aload_n 0, 1) := dk_42 (dk_at dksX2_alike_0 21 rfl rfl)
theorem dX2_alike_22 : decode cX2_alike 22 = .ok (.iload_n 2, 1) := dk_28 (dk_at dksX2_alike_0 22 rfl rfl)
theorem dX2_alike_23 : decode cX2_alike 23 = .ok (.invokevirtual 91, 3) := dk_182 0 91 (dk_at dksX2_alike_1 0 rfl rfl)
theorem dX2_alike_26 : decode cX2_alike 26 = .ok (.if_icmp .ne 7, 3) := dk_160 0 7 (dk_at dksX2_alike_1 3 rfl rfl)
theorem dX2_alike_29 : decode cX2_alike 29 = .ok (.iconst 1, 1) := dk_4 (dk_at dksX2_alike_1 6 rfl rfl)
theorem dX2_alike_30 : decode cX2_alike 30 = .ok (.goto 4, 3) := dk_167 0 4 (dk_at dksX2_alike_1 7 rfl rfl)
theorem dX2_alike_33 : decode cX2_alike 33 = .ok (.iconst 0, 1) := dk_3 (dk_at dksX2_alike_1 10 rfl rfl)
theorem dX2_alike_34 : decode cX2_alike 34 = .ok (.ireturn, 1) := dk_172 (dk_at dksX2_alike_1 11 rfl rfl)
abbrev cX2_letters : ByteArray := prog_20_method_114_code
def yX2_letters : MethodName := ⟨RX2, "letters", "(I)I"⟩
def dkwX2_letters_3 : List UInt8 := [167, 255, 210, 132, 3, 1, 167, 255, 195, 28, 172]
abbrev dktX2_letters_3 : List UInt8 := dkwX2_letters_3 ++ []
def dkwX2_letters_2 : List UInt8 := [21, 4, 120, 130, 184, 0, 87, 159, 0, 10, 4, 21, 4, 120, 167, 0, 4, 3, 128, 61, 132, 4, 1]
abbrev dktX2_letters_2 : List UInt8 := dkwX2_letters_2 ++ dktX2_letters_3
def dkwX2_letters_1 : List UInt8 := [21, 4, 7, 162, 0, 46, 28, 42, 27, 182, 0, 91, 29, 184, 0, 87, 42, 27, 182, 0, 91, 29, 4]
abbrev dktX2_letters_1 : List UInt8 := dkwX2_letters_1 ++ dktX2_letters_2
def dkwX2_letters_0 : List UInt8 := [42, 27, 182, 1, 78, 154, 0, 5, 2, 172, 3, 61, 3, 62, 29, 16, 16, 162, 0, 61, 3, 54, 4]
abbrev dktX2_letters_0 : List UInt8 := dkwX2_letters_0 ++ dktX2_letters_1
theorem dksX2_letters_0 : cX2_letters.data.toList.drop 0 = dktX2_letters_0 := by decide +kernel
theorem dksX2_letters_1 : cX2_letters.data.toList.drop 23 = dktX2_letters_1 := dk_seg dksX2_letters_0 23 rfl rfl
theorem dksX2_letters_2 : cX2_letters.data.toList.drop 46 = dktX2_letters_2 := dk_seg dksX2_letters_1 23 rfl rfl
theorem dksX2_letters_3 : cX2_letters.data.toList.drop 69 = dktX2_letters_3 := dk_seg dksX2_letters_2 23 rfl rfl
theorem dX2_letters_0 : decode cX2_letters 0 = .ok (.aload_n 0, 1) := dk_42 (dk_at dksX2_letters_0 0 rfl rfl)
theorem dX2_letters_1 : decode cX2_letters 1 = .ok (.iload_n 1, 1) := dk_27 (dk_at dksX2_letters_0 1 rfl rfl)
theorem dX2_letters_2 : decode cX2_letters 2 = .ok (.invokevirtual 334, 3) := dk_182 1 78 (dk_at dksX2_letters_0 2 rfl rfl)
theorem dX2_letters_5 : decode cX2_letters 5 = .ok (.ifCond .ne 5, 3) := dk_154 0 5 (dk_at dksX2_letters_0 5 rfl rfl)
theorem dX2_letters_8 : decode cX2_letters 8 = .ok (.iconst (-1), 1) := dk_2 (dk_at dksX2_letters_0 8 rfl rfl)
theorem dX2_letters_9 : decode cX2_letters 9 = .ok (.ireturn, 1) := dk_172 (dk_at dksX2_letters_0 9 rfl rfl)
theorem dX2_letters_10 : decode cX2_letters 10 = .ok (.iconst 0, 1) := dk_3 (dk_at dksX2_letters_0 10 rfl rfl)
theorem dX2_letters_11 : decode cX2_letters 11 = .ok (.istore_n 2, 1) := dk_61 (dk_at dksX2_letters_0 11 rfl rfl)
theorem dX2_letters_12 : decode cX2_letters 12 = .ok (.iconst 0, 1) := dk_3 (dk_at dksX2_letters_0 12 rfl rfl)
theorem dX2_letters_13 : decode cX2_letters 13 = .ok (.istore_n 3, 1) := dk_62 (dk_at dksX2_letters_0 13 rfl rfl)
theorem dX2_letters_14 : decode cX2_letters 14 = .ok (.iload_n 3, 1) := dk_29 (dk_at dksX2_letters_0 14 rfl rfl)
theorem dX2_letters_15 : decode cX2_letters 15 = .ok (.bipush 16, 2) := dk_16 16 (dk_at dksX2_letters_0 15 rfl rfl)
theorem dX2_letters_17 : decode cX2_letters 17 = .ok (.if_icmp .ge 61, 3) := dk_162 0 61 (dk_at dksX2_letters_0 17 rfl rfl)
theorem dX2_letters_20 : decode cX2_letters 20 = .ok (.iconst 0, 1) := dk_3 (dk_at dksX2_letters_0 20 rfl rfl)
theorem dX2_letters_21 : decode cX2_letters 21 = .ok (.istore 4, 2) := dk_54 4 (dk_at dksX2_letters_0 21 rfl rfl)
theorem dX2_letters_23 : decode cX2_letters 23 = .ok (.iload 4, 2) := dk_21 4 (dk_at dksX2_letters_1 0 rfl rfl)
theorem dX2_letters_25 : decode cX2_letters 25 = .ok (.iconst 4, 1) := dk_7 (dk_at dksX2_letters_1 2 rfl rfl)
theorem dX2_letters_26 : decode cX2_letters 26 = .ok (.if_icmp .ge 46, 3) := dk_162 0 46 (dk_at dksX2_letters_1 3 rfl rfl)
theorem dX2_letters_29 : decode cX2_letters 29 = .ok (.iload_n 2, 1) := dk_28 (dk_at dksX2_letters_1 6 rfl rfl)
theorem dX2_letters_30 : decode cX2_letters 30 = .ok (.aload_n 0, 1) := dk_42 (dk_at dksX2_letters_1 7 rfl rfl)
theorem dX2_letters_31 : decode cX2_letters 31 = .ok (.iload_n 1, 1) := dk_27 (dk_at dksX2_letters_1 8 rfl rfl)
theorem dX2_letters_32 : decode cX2_letters 32 = .ok (.invokevirtual 91, 3) := dk_182 0 91 (dk_at dksX2_letters_1 9 rfl rfl)
theorem dX2_letters_35 : decode cX2_letters 35 = .ok (.iload_n 3, 1) := dk_29 (dk_at dksX2_letters_1 12 rfl rfl)
theorem dX2_letters_36 : decode cX2_letters 36 = .ok (.invokestatic 87, 3) := dk_184 0 87 (dk_at dksX2_letters_1 13 rfl rfl)
theorem dX2_letters_39 : decode cX2_letters 39 = .ok (.aload_n 0, 1) := dk_42 (dk_at dksX2_letters_1 16 rfl rfl)
theorem dX2_letters_40 : decode cX2_letters 40 = .ok (.iload_n 1, 1) := dk_27 (dk_at dksX2_letters_1 17 rfl rfl)
theorem dX2_letters_41 : decode cX2_letters 41 = .ok (.invokevirtual 91, 3) := dk_182 0 91 (dk_at dksX2_letters_1 18 rfl rfl)
theorem dX2_letters_44 : decode cX2_letters 44 = .ok (.iload_n 3, 1) := dk_29 (dk_at dksX2_letters_1 21 rfl rfl)
theorem dX2_letters_45 : decode cX2_letters 45 = .ok (.iconst 1, 1) := dk_4 (dk_at dksX2_letters_1 22 rfl rfl)
theorem dX2_letters_46 : decode cX2_letters 46 = .ok (.iload 4, 2) := dk_21 4 (dk_at dksX2_letters_2 0 rfl rfl)
theorem dX2_letters_48 : decode cX2_letters 48 = .ok (.ishl, 1) := dk_120 (dk_at dksX2_letters_2 2 rfl rfl)
theorem dX2_letters_49 : decode cX2_letters 49 = .ok (.ixor, 1) := dk_130 (dk_at dksX2_letters_2 3 rfl rfl)
theorem dX2_letters_50 : decode cX2_letters 50 = .ok (.invokestatic 87, 3) := dk_184 0 87 (dk_at dksX2_letters_2 4 rfl rfl)
theorem dX2_letters_53 : decode cX2_letters 53 = .ok (.if_icmp .eq 10, 3) := dk_159 0 10 (dk_at dksX2_letters_2 7 rfl rfl)
theorem dX2_letters_56 : decode cX2_letters 56 = .ok (.iconst 1, 1) := dk_4 (dk_at dksX2_letters_2 10 rfl rfl)
theorem dX2_letters_57 : decode cX2_letters 57 = .ok (.iload 4, 2) := dk_21 4 (dk_at dksX2_letters_2 11 rfl rfl)
theorem dX2_letters_59 : decode cX2_letters 59 = .ok (.ishl, 1) := dk_120 (dk_at dksX2_letters_2 13 rfl rfl)
theorem dX2_letters_60 : decode cX2_letters 60 = .ok (.goto 4, 3) := dk_167 0 4 (dk_at dksX2_letters_2 14 rfl rfl)
theorem dX2_letters_63 : decode cX2_letters 63 = .ok (.iconst 0, 1) := dk_3 (dk_at dksX2_letters_2 17 rfl rfl)
theorem dX2_letters_64 : decode cX2_letters 64 = .ok (.ior, 1) := dk_128 (dk_at dksX2_letters_2 18 rfl rfl)
theorem dX2_letters_65 : decode cX2_letters 65 = .ok (.istore_n 2, 1) := dk_61 (dk_at dksX2_letters_2 19 rfl rfl)
theorem dX2_letters_66 : decode cX2_letters 66 = .ok (.iinc 4 1, 3) := dk_132 4 1 (dk_at dksX2_letters_2 20 rfl rfl)
theorem dX2_letters_69 : decode cX2_letters 69 = .ok (.goto (-46), 3) := dk_167 255 210 (dk_at dksX2_letters_3 0 rfl rfl)
theorem dX2_letters_72 : decode cX2_letters 72 = .ok (.iinc 3 1, 3) := dk_132 3 1 (dk_at dksX2_letters_3 3 rfl rfl)
theorem dX2_letters_75 : decode cX2_letters 75 = .ok (.goto (-61), 3) := dk_167 255 195 (dk_at dksX2_letters_3 6 rfl rfl)
theorem dX2_letters_78 : decode cX2_letters 78 = .ok (.iload_n 2, 1) := dk_28 (dk_at dksX2_letters_3 9 rfl rfl)
theorem dX2_letters_79 : decode cX2_letters 79 = .ok (.ireturn, 1) := dk_172 (dk_at dksX2_letters_3 10 rfl rfl)
abbrev cX2_most : ByteArray := prog_20_method_115_code
def yX2_most : MethodName := ⟨RX2, "most", "(Z)I"⟩
def dkwX2_most_2 : List UInt8 := [167, 0, 4, 28, 172]
abbrev dktX2_most_2 : List UInt8 := dkwX2_most_2 ++ []
def dkwX2_most_1 : List UInt8 := [29, 182, 1, 84, 153, 0, 5, 29, 61, 132, 3, 1, 167, 255, 224, 27, 153, 0, 10, 28, 184, 1, 102]
abbrev dktX2_most_1 : List UInt8 := dkwX2_most_1 ++ dktX2_most_2
def dkwX2_most_0 : List UInt8 := [3, 61, 4, 62, 29, 42, 182, 0, 83, 163, 0, 30, 29, 184, 1, 102, 28, 184, 1, 102, 164, 0, 13, 42]
abbrev dktX2_most_0 : List UInt8 := dkwX2_most_0 ++ dktX2_most_1
theorem dksX2_most_0 : cX2_most.data.toList.drop 0 = dktX2_most_0 := by decide +kernel
theorem dksX2_most_1 : cX2_most.data.toList.drop 24 = dktX2_most_1 := dk_seg dksX2_most_0 24 rfl rfl
theorem dksX2_most_2 : cX2_most.data.toList.drop 47 = dktX2_most_2 := dk_seg dksX2_most_1 23 rfl rfl
theorem dX2_most_0 : decode cX2_most 0 = .ok (.iconst 0, 1) := dk_3 (dk_at dksX2_most_0 0 rfl rfl)
theorem dX2_most_1 : decode cX2_most 1 = .ok (.istore_n 2, 1) := dk_61 (dk_at dksX2_most_0 1 rfl rfl)
theorem dX2_most_2 : decode cX2_most 2 = .ok (.iconst 1, 1) := dk_4 (dk_at dksX2_most_0 2 rfl rfl)
theorem dX2_most_3 : decode cX2_most 3 = .ok (.istore_n 3, 1) := dk_62 (dk_at dksX2_most_0 3 rfl rfl)
theorem dX2_most_4 : decode cX2_most 4 = .ok (.iload_n 3, 1) := dk_29 (dk_at dksX2_most_0 4 rfl rfl)
theorem dX2_most_5 : decode cX2_most 5 = .ok (.aload_n 0, 1) := dk_42 (dk_at dksX2_most_0 5 rfl rfl)
theorem dX2_most_6 : decode cX2_most 6 = .ok (.invokevirtual 83, 3) := dk_182 0 83 (dk_at dksX2_most_0 6 rfl rfl)
theorem dX2_most_9 : decode cX2_most 9 = .ok (.if_icmp .gt 30, 3) := dk_163 0 30 (dk_at dksX2_most_0 9 rfl rfl)
theorem dX2_most_12 : decode cX2_most 12 = .ok (.iload_n 3, 1) := dk_29 (dk_at dksX2_most_0 12 rfl rfl)
theorem dX2_most_13 : decode cX2_most 13 = .ok (.invokestatic 358, 3) := dk_184 1 102 (dk_at dksX2_most_0 13 rfl rfl)
theorem dX2_most_16 : decode cX2_most 16 = .ok (.iload_n 2, 1) := dk_28 (dk_at dksX2_most_0 16 rfl rfl)
theorem dX2_most_17 : decode cX2_most 17 = .ok (.invokestatic 358, 3) := dk_184 1 102 (dk_at dksX2_most_0 17 rfl rfl)
theorem dX2_most_20 : decode cX2_most 20 = .ok (.if_icmp .le 13, 3) := dk_164 0 13 (dk_at dksX2_most_0 20 rfl rfl)
theorem dX2_most_23 : decode cX2_most 23 = .ok (.aload_n 0, 1) := dk_42 (dk_at dksX2_most_0 23 rfl rfl)
theorem dX2_most_24 : decode cX2_most 24 = .ok (.iload_n 3, 1) := dk_29 (dk_at dksX2_most_1 0 rfl rfl)
theorem dX2_most_25 : decode cX2_most 25 = .ok (.invokevirtual 340, 3) := dk_182 1 84 (dk_at dksX2_most_1 1 rfl rfl)
theorem dX2_most_28 : decode cX2_most 28 = .ok (.ifCond .eq 5, 3) := dk_153 0 5 (dk_at dksX2_most_1 4 rfl rfl)
theorem dX2_most_31 : decode cX2_most 31 = .ok (.iload_n 3, 1) := dk_29 (dk_at dksX2_most_1 7 rfl rfl)
theorem dX2_most_32 : decode cX2_most 32 = .ok (.istore_n 2, 1) := dk_61 (dk_at dksX2_most_1 8 rfl rfl)
theorem dX2_most_33 : decode cX2_most 33 = .ok (.iinc 3 1, 3) := dk_132 3 1 (dk_at dksX2_most_1 9 rfl rfl)
theorem dX2_most_36 : decode cX2_most 36 = .ok (.goto (-32), 3) := dk_167 255 224 (dk_at dksX2_most_1 12 rfl rfl)
theorem dX2_most_39 : decode cX2_most 39 = .ok (.iload_n 1, 1) := dk_27 (dk_at dksX2_most_1 15 rfl rfl)
theorem dX2_most_40 : decode cX2_most 40 = .ok (.ifCond .eq 10, 3) := dk_153 0 10 (dk_at dksX2_most_1 16 rfl rfl)
theorem dX2_most_43 : decode cX2_most 43 = .ok (.iload_n 2, 1) := dk_28 (dk_at dksX2_most_1 19 rfl rfl)
theorem dX2_most_44 : decode cX2_most 44 = .ok (.invokestatic 358, 3) := dk_184 1 102 (dk_at dksX2_most_1 20 rfl rfl)
theorem dX2_most_47 : decode cX2_most 47 = .ok (.goto 4, 3) := dk_167 0 4 (dk_at dksX2_most_2 0 rfl rfl)
theorem dX2_most_50 : decode cX2_most 50 = .ok (.iload_n 2, 1) := dk_28 (dk_at dksX2_most_2 3 rfl rfl)
theorem dX2_most_51 : decode cX2_most 51 = .ok (.ireturn, 1) := dk_172 (dk_at dksX2_most_2 4 rfl rfl)
abbrev cX2_greatest : ByteArray := prog_20_method_117_code
def yX2_greatest : MethodName := ⟨RX2, "greatest", "(I)I"⟩
def dkwX2_greatest_2 : List UInt8 := [2, 160, 0, 7, 28, 167, 0, 4, 29, 172]
abbrev dktX2_greatest_2 : List UInt8 := dkwX2_greatest_2 ++ []
def dkwX2_greatest_1 : List UInt8 := [154, 0, 6, 167, 0, 14, 28, 27, 160, 0, 6, 21, 4, 62, 132, 2, 1, 132, 4, 1, 167, 255, 221, 27]
abbrev dktX2_greatest_1 : List UInt8 := dkwX2_greatest_1 ++ dktX2_greatest_2
def dkwX2_greatest_0 : List UInt8 := [3, 61, 16, 254, 62, 3, 54, 4, 21, 4, 42, 182, 0, 83, 163, 0, 32, 42, 21, 4, 182, 1, 169]
abbrev dktX2_greatest_0 : List UInt8 := dkwX2_greatest_0 ++ dktX2_greatest_1
theorem dksX2_greatest_0 : cX2_greatest.data.toList.drop 0 = dktX2_greatest_0 := by decide +kernel
theorem dksX2_greatest_1 : cX2_greatest.data.toList.drop 23 = dktX2_greatest_1 := dk_seg dksX2_greatest_0 23 rfl rfl
theorem dksX2_greatest_2 : cX2_greatest.data.toList.drop 47 = dktX2_greatest_2 := dk_seg dksX2_greatest_1 24 rfl rfl
theorem dX2_greatest_0 : decode cX2_greatest 0 = .ok (.iconst 0, 1) := dk_3 (dk_at dksX2_greatest_0 0 rfl rfl)
theorem dX2_greatest_1 : decode cX2_greatest 1 = .ok (.istore_n 2, 1) := dk_61 (dk_at dksX2_greatest_0 1 rfl rfl)
theorem dX2_greatest_2 : decode cX2_greatest 2 = .ok (.bipush (-2), 2) := dk_16 254 (dk_at dksX2_greatest_0 2 rfl rfl)
theorem dX2_greatest_4 : decode cX2_greatest 4 = .ok (.istore_n 3, 1) := dk_62 (dk_at dksX2_greatest_0 4 rfl rfl)
theorem dX2_greatest_5 : decode cX2_greatest 5 = .ok (.iconst 0, 1) := dk_3 (dk_at dksX2_greatest_0 5 rfl rfl)
theorem dX2_greatest_6 : decode cX2_greatest 6 = .ok (.istore 4, 2) := dk_54 4 (dk_at dksX2_greatest_0 6 rfl rfl)
theorem dX2_greatest_8 : decode cX2_greatest 8 = .ok (.iload 4, 2) := dk_21 4 (dk_at dksX2_greatest_0 8 rfl rfl)
theorem dX2_greatest_10 : decode cX2_greatest 10 = .ok (.aload_n 0, 1) := dk_42 (dk_at dksX2_greatest_0 10 rfl rfl)
theorem dX2_greatest_11 : decode cX2_greatest 11 = .ok (.invokevirtual 83, 3) := dk_182 0 83 (dk_at dksX2_greatest_0 11 rfl rfl)
theorem dX2_greatest_14 : decode cX2_greatest 14 = .ok (.if_icmp .gt 32, 3) := dk_163 0 32 (dk_at dksX2_greatest_0 14 rfl rfl)
theorem dX2_greatest_17 : decode cX2_greatest 17 = .ok (.aload_n 0, 1) := dk_42 (dk_at dksX2_greatest_0 17 rfl rfl)
theorem dX2_greatest_18 : decode cX2_greatest 18 = .ok (.iload 4, 2) := dk_21 4 (dk_at dksX2_greatest_0 18 rfl rfl)
theorem dX2_greatest_20 : decode cX2_greatest 20 = .ok (.invokevirtual 425, 3) := dk_182 1 169 (dk_at dksX2_greatest_0 20 rfl rfl)
theorem dX2_greatest_23 : decode cX2_greatest 23 = .ok (.ifCond .ne 6, 3) := dk_154 0 6 (dk_at dksX2_greatest_1 0 rfl rfl)
theorem dX2_greatest_26 : decode cX2_greatest 26 = .ok (.goto 14, 3) := dk_167 0 14 (dk_at dksX2_greatest_1 3 rfl rfl)
theorem dX2_greatest_29 : decode cX2_greatest 29 = .ok (.iload_n 2, 1) := dk_28 (dk_at dksX2_greatest_1 6 rfl rfl)
theorem dX2_greatest_30 : decode cX2_greatest 30 = .ok (.iload_n 1, 1) := dk_27 (dk_at dksX2_greatest_1 7 rfl rfl)
theorem dX2_greatest_31 : decode cX2_greatest 31 = .ok (.if_icmp .ne 6, 3) := dk_160 0 6 (dk_at dksX2_greatest_1 8 rfl rfl)
theorem dX2_greatest_34 : decode cX2_greatest 34 = .ok (.iload 4, 2) := dk_21 4 (dk_at dksX2_greatest_1 11 rfl rfl)
theorem dX2_greatest_36 : decode cX2_greatest 36 = .ok (.istore_n 3, 1) := dk_62 (dk_at dksX2_greatest_1 13 rfl rfl)
theorem dX2_greatest_37 : decode cX2_greatest 37 = .ok (.iinc 2 1, 3) := dk_132 2 1 (dk_at dksX2_greatest_1 14 rfl rfl)
theorem dX2_greatest_40 : decode cX2_greatest 40 = .ok (.iinc 4 1, 3) := dk_132 4 1 (dk_at dksX2_greatest_1 17 rfl rfl)
theorem dX2_greatest_43 : decode cX2_greatest 43 = .ok (.goto (-35), 3) := dk_167 255 221 (dk_at dksX2_greatest_1 20 rfl rfl)
theorem dX2_greatest_46 : decode cX2_greatest 46 = .ok (.iload_n 1, 1) := dk_27 (dk_at dksX2_greatest_1 23 rfl rfl)
theorem dX2_greatest_47 : decode cX2_greatest 47 = .ok (.iconst (-1), 1) := dk_2 (dk_at dksX2_greatest_2 0 rfl rfl)
theorem dX2_greatest_48 : decode cX2_greatest 48 = .ok (.if_icmp .ne 7, 3) := dk_160 0 7 (dk_at dksX2_greatest_2 1 rfl rfl)
theorem dX2_greatest_51 : decode cX2_greatest 51 = .ok (.iload_n 2, 1) := dk_28 (dk_at dksX2_greatest_2 4 rfl rfl)
theorem dX2_greatest_52 : decode cX2_greatest 52 = .ok (.goto 4, 3) := dk_167 0 4 (dk_at dksX2_greatest_2 5 rfl rfl)
theorem dX2_greatest_55 : decode cX2_greatest 55 = .ok (.iload_n 3, 1) := dk_29 (dk_at dksX2_greatest_2 8 rfl rfl)
theorem dX2_greatest_56 : decode cX2_greatest 56 = .ok (.ireturn, 1) := dk_172 (dk_at dksX2_greatest_2 9 rfl rfl)
abbrev cX2_isGreatest : ByteArray := prog_20_method_116_code
def yX2_isGreatest : MethodName := ⟨RX2, "isGreatest", "(I)Z"⟩
def dkwX2_isGreatest_2 : List UInt8 := [167, 255, 223, 4, 172]
abbrev dktX2_isGreatest_2 : List UInt8 := dkwX2_isGreatest_2 ++ []
def dkwX2_isGreatest_1 : List UInt8 := [184, 0, 87, 154, 0, 17, 42, 27, 4, 28, 120, 128, 182, 1, 84, 153, 0, 5, 3, 172, 132, 2, 1]
abbrev dktX2_isGreatest_1 : List UInt8 := dkwX2_isGreatest_1 ++ dktX2_isGreatest_2
def dkwX2_isGreatest_0 : List UInt8 := [42, 27, 182, 1, 84, 154, 0, 5, 3, 172, 3, 61, 28, 42, 182, 0, 79, 162, 0, 31, 27, 28]
abbrev dktX2_isGreatest_0 : List UInt8 := dkwX2_isGreatest_0 ++ dktX2_isGreatest_1
theorem dksX2_isGreatest_0 : cX2_isGreatest.data.toList.drop 0 = dktX2_isGreatest_0 := by decide +kernel
theorem dksX2_isGreatest_1 : cX2_isGreatest.data.toList.drop 22 = dktX2_isGreatest_1 := dk_seg dksX2_isGreatest_0 22 rfl rfl
theorem dksX2_isGreatest_2 : cX2_isGreatest.data.toList.drop 45 = dktX2_isGreatest_2 := dk_seg dksX2_isGreatest_1 23 rfl rfl
theorem dX2_isGreatest_0 : decode cX2_isGreatest 0 = .ok (.aload_n 0, 1) := dk_42 (dk_at dksX2_isGreatest_0 0 rfl rfl)
theorem dX2_isGreatest_1 : decode cX2_isGreatest 1 = .ok (.iload_n 1, 1) := dk_27 (dk_at dksX2_isGreatest_0 1 rfl rfl)
theorem dX2_isGreatest_2 : decode cX2_isGreatest 2 = .ok (.invokevirtual 340, 3) := dk_182 1 84 (dk_at dksX2_isGreatest_0 2 rfl rfl)
theorem dX2_isGreatest_5 : decode cX2_isGreatest 5 = .ok (.ifCond .ne 5, 3) := dk_154 0 5 (dk_at dksX2_isGreatest_0 5 rfl rfl)
theorem dX2_isGreatest_8 : decode cX2_isGreatest 8 = .ok (.iconst 0, 1) := dk_3 (dk_at dksX2_isGreatest_0 8 rfl rfl)
theorem dX2_isGreatest_9 : decode cX2_isGreatest 9 = .ok (.ireturn, 1) := dk_172 (dk_at dksX2_isGreatest_0 9 rfl rfl)
theorem dX2_isGreatest_10 : decode cX2_isGreatest 10 = .ok (.iconst 0, 1) := dk_3 (dk_at dksX2_isGreatest_0 10 rfl rfl)
theorem dX2_isGreatest_11 : decode cX2_isGreatest 11 = .ok (.istore_n 2, 1) := dk_61 (dk_at dksX2_isGreatest_0 11 rfl rfl)
theorem dX2_isGreatest_12 : decode cX2_isGreatest 12 = .ok (.iload_n 2, 1) := dk_28 (dk_at dksX2_isGreatest_0 12 rfl rfl)
theorem dX2_isGreatest_13 : decode cX2_isGreatest 13 = .ok (.aload_n 0, 1) := dk_42 (dk_at dksX2_isGreatest_0 13 rfl rfl)
theorem dX2_isGreatest_14 : decode cX2_isGreatest 14 = .ok (.invokevirtual 79, 3) := dk_182 0 79 (dk_at dksX2_isGreatest_0 14 rfl rfl)
theorem dX2_isGreatest_17 : decode cX2_isGreatest 17 = .ok (.if_icmp .ge 31, 3) := dk_162 0 31 (dk_at dksX2_isGreatest_0 17 rfl rfl)
theorem dX2_isGreatest_20 : decode cX2_isGreatest 20 = .ok (.iload_n 1, 1) := dk_27 (dk_at dksX2_isGreatest_0 20 rfl rfl)
theorem dX2_isGreatest_21 : decode cX2_isGreatest 21 = .ok (.iload_n 2, 1) := dk_28 (dk_at dksX2_isGreatest_0 21 rfl rfl)
theorem dX2_isGreatest_22 : decode cX2_isGreatest 22 = .ok (.invokestatic 87, 3) := dk_184 0 87 (dk_at dksX2_isGreatest_1 0 rfl rfl)
theorem dX2_isGreatest_25 : decode cX2_isGreatest 25 = .ok (.ifCond .ne 17, 3) := dk_154 0 17 (dk_at dksX2_isGreatest_1 3 rfl rfl)
theorem dX2_isGreatest_28 : decode cX2_isGreatest 28 = .ok (.aload_n 0, 1) := dk_42 (dk_at dksX2_isGreatest_1 6 rfl rfl)
theorem dX2_isGreatest_29 : decode cX2_isGreatest 29 = .ok (.iload_n 1, 1) := dk_27 (dk_at dksX2_isGreatest_1 7 rfl rfl)
theorem dX2_isGreatest_30 : decode cX2_isGreatest 30 = .ok (.iconst 1, 1) := dk_4 (dk_at dksX2_isGreatest_1 8 rfl rfl)
theorem dX2_isGreatest_31 : decode cX2_isGreatest 31 = .ok (.iload_n 2, 1) := dk_28 (dk_at dksX2_isGreatest_1 9 rfl rfl)
theorem dX2_isGreatest_32 : decode cX2_isGreatest 32 = .ok (.ishl, 1) := dk_120 (dk_at dksX2_isGreatest_1 10 rfl rfl)
theorem dX2_isGreatest_33 : decode cX2_isGreatest 33 = .ok (.ior, 1) := dk_128 (dk_at dksX2_isGreatest_1 11 rfl rfl)
theorem dX2_isGreatest_34 : decode cX2_isGreatest 34 = .ok (.invokevirtual 340, 3) := dk_182 1 84 (dk_at dksX2_isGreatest_1 12 rfl rfl)
theorem dX2_isGreatest_37 : decode cX2_isGreatest 37 = .ok (.ifCond .eq 5, 3) := dk_153 0 5 (dk_at dksX2_isGreatest_1 15 rfl rfl)
theorem dX2_isGreatest_40 : decode cX2_isGreatest 40 = .ok (.iconst 0, 1) := dk_3 (dk_at dksX2_isGreatest_1 18 rfl rfl)
theorem dX2_isGreatest_41 : decode cX2_isGreatest 41 = .ok (.ireturn, 1) := dk_172 (dk_at dksX2_isGreatest_1 19 rfl rfl)
theorem dX2_isGreatest_42 : decode cX2_isGreatest 42 = .ok (.iinc 2 1, 3) := dk_132 2 1 (dk_at dksX2_isGreatest_1 20 rfl rfl)
theorem dX2_isGreatest_45 : decode cX2_isGreatest 45 = .ok (.goto (-33), 3) := dk_167 255 223 (dk_at dksX2_isGreatest_2 0 rfl rfl)
theorem dX2_isGreatest_48 : decode cX2_isGreatest 48 = .ok (.iconst 1, 1) := dk_4 (dk_at dksX2_isGreatest_2 3 rfl rfl)
theorem dX2_isGreatest_49 : decode cX2_isGreatest 49 = .ok (.ireturn, 1) := dk_172 (dk_at dksX2_isGreatest_2 4 rfl rfl)
abbrev cX2_quarrel : ByteArray := prog_20_method_118_code
def yX2_quarrel : MethodName := ⟨RX2, "quarrel", "(Z)I"⟩
def dkwX2_quarrel_2 : List UInt8 := [2, 167, 0, 15, 27, 153, 0, 10, 28, 184, 1, 102, 167, 0, 4, 28, 172]
abbrev dktX2_quarrel_2 : List UInt8 := dkwX2_quarrel_2 ++ []
def dkwX2_quarrel_1 : List UInt8 := [29, 184, 1, 102, 28, 184, 1, 102, 163, 0, 5, 29, 61, 132, 3, 255, 167, 255, 223, 28, 2, 160, 0, 7]
abbrev dktX2_quarrel_1 : List UInt8 := dkwX2_quarrel_1 ++ dktX2_quarrel_2
def dkwX2_quarrel_0 : List UInt8 := [2, 61, 42, 182, 0, 83, 62, 29, 158, 0, 35, 42, 29, 182, 1, 84, 154, 0, 21, 28, 2, 159, 0, 14]
abbrev dktX2_quarrel_0 : List UInt8 := dkwX2_quarrel_0 ++ dktX2_quarrel_1
theorem dksX2_quarrel_0 : cX2_quarrel.data.toList.drop 0 = dktX2_quarrel_0 := by decide +kernel
theorem dksX2_quarrel_1 : cX2_quarrel.data.toList.drop 24 = dktX2_quarrel_1 := dk_seg dksX2_quarrel_0 24 rfl rfl
theorem dksX2_quarrel_2 : cX2_quarrel.data.toList.drop 48 = dktX2_quarrel_2 := dk_seg dksX2_quarrel_1 24 rfl rfl
theorem dX2_quarrel_0 : decode cX2_quarrel 0 = .ok (.iconst (-1), 1) := dk_2 (dk_at dksX2_quarrel_0 0 rfl rfl)
theorem dX2_quarrel_1 : decode cX2_quarrel 1 = .ok (.istore_n 2, 1) := dk_61 (dk_at dksX2_quarrel_0 1 rfl rfl)
theorem dX2_quarrel_2 : decode cX2_quarrel 2 = .ok (.aload_n 0, 1) := dk_42 (dk_at dksX2_quarrel_0 2 rfl rfl)
theorem dX2_quarrel_3 : decode cX2_quarrel 3 = .ok (.invokevirtual 83, 3) := dk_182 0 83 (dk_at dksX2_quarrel_0 3 rfl rfl)
theorem dX2_quarrel_6 : decode cX2_quarrel 6 = .ok (.istore_n 3, 1) := dk_62 (dk_at dksX2_quarrel_0 6 rfl rfl)
theorem dX2_quarrel_7 : decode cX2_quarrel 7 = .ok (.iload_n 3, 1) := dk_29 (dk_at dksX2_quarrel_0 7 rfl rfl)
theorem dX2_quarrel_8 : decode cX2_quarrel 8 = .ok (.ifCond .le 35, 3) := dk_158 0 35 (dk_at dksX2_quarrel_0 8 rfl rfl)
theorem dX2_quarrel_11 : decode cX2_quarrel 11 = .ok (.aload_n 0, 1) := dk_42 (dk_at dksX2_quarrel_0 11 rfl rfl)
theorem dX2_quarrel_12 : decode cX2_quarrel 12 = .ok (.iload_n 3, 1) := dk_29 (dk_at dksX2_quarrel_0 12 rfl rfl)
theorem dX2_quarrel_13 : decode cX2_quarrel 13 = .ok (.invokevirtual 340, 3) := dk_182 1 84 (dk_at dksX2_quarrel_0 13 rfl rfl)
theorem dX2_quarrel_16 : decode cX2_quarrel 16 = .ok (.ifCond .ne 21, 3) := dk_154 0 21 (dk_at dksX2_quarrel_0 16 rfl rfl)
theorem dX2_quarrel_19 : decode cX2_quarrel 19 = .ok (.iload_n 2, 1) := dk_28 (dk_at dksX2_quarrel_0 19 rfl rfl)
theorem dX2_quarrel_20 : decode cX2_quarrel 20 = .ok (.iconst (-1), 1) := dk_2 (dk_at dksX2_quarrel_0 20 rfl rfl)
theorem dX2_quarrel_21 : decode cX2_quarrel 21 = .ok (.if_icmp .eq 14, 3) := dk_159 0 14 (dk_at dksX2_quarrel_0 21 rfl rfl)
theorem dX2_quarrel_24 : decode cX2_quarrel 24 = .ok (.iload_n 3, 1) := dk_29 (dk_at dksX2_quarrel_1 0 rfl rfl)
theorem dX2_quarrel_25 : decode cX2_quarrel 25 = .ok (.invokestatic 358, 3) := dk_184 1 102 (dk_at dksX2_quarrel_1 1 rfl rfl)
theorem dX2_quarrel_28 : decode cX2_quarrel 28 = .ok (.iload_n 2, 1) := dk_28 (dk_at dksX2_quarrel_1 4 rfl rfl)
theorem dX2_quarrel_29 : decode cX2_quarrel 29 = .ok (.invokestatic 358, 3) := dk_184 1 102 (dk_at dksX2_quarrel_1 5 rfl rfl)
theorem dX2_quarrel_32 : decode cX2_quarrel 32 = .ok (.if_icmp .gt 5, 3) := dk_163 0 5 (dk_at dksX2_quarrel_1 8 rfl rfl)
theorem dX2_quarrel_35 : decode cX2_quarrel 35 = .ok (.iload_n 3, 1) := dk_29 (dk_at dksX2_quarrel_1 11 rfl rfl)
theorem dX2_quarrel_36 : decode cX2_quarrel 36 = .ok (.istore_n 2, 1) := dk_61 (dk_at dksX2_quarrel_1 12 rfl rfl)
theorem dX2_quarrel_37 : decode cX2_quarrel 37 = .ok (.iinc 3 (-1), 3) := dk_132 3 255 (dk_at dksX2_quarrel_1 13 rfl rfl)
theorem dX2_quarrel_40 : decode cX2_quarrel 40 = .ok (.goto (-33), 3) := dk_167 255 223 (dk_at dksX2_quarrel_1 16 rfl rfl)
theorem dX2_quarrel_43 : decode cX2_quarrel 43 = .ok (.iload_n 2, 1) := dk_28 (dk_at dksX2_quarrel_1 19 rfl rfl)
theorem dX2_quarrel_44 : decode cX2_quarrel 44 = .ok (.iconst (-1), 1) := dk_2 (dk_at dksX2_quarrel_1 20 rfl rfl)
theorem dX2_quarrel_45 : decode cX2_quarrel 45 = .ok (.if_icmp .ne 7, 3) := dk_160 0 7 (dk_at dksX2_quarrel_1 21 rfl rfl)
theorem dX2_quarrel_48 : decode cX2_quarrel 48 = .ok (.iconst (-1), 1) := dk_2 (dk_at dksX2_quarrel_2 0 rfl rfl)
theorem dX2_quarrel_49 : decode cX2_quarrel 49 = .ok (.goto 15, 3) := dk_167 0 15 (dk_at dksX2_quarrel_2 1 rfl rfl)
theorem dX2_quarrel_52 : decode cX2_quarrel 52 = .ok (.iload_n 1, 1) := dk_27 (dk_at dksX2_quarrel_2 4 rfl rfl)
theorem dX2_quarrel_53 : decode cX2_quarrel 53 = .ok (.ifCond .eq 10, 3) := dk_153 0 10 (dk_at dksX2_quarrel_2 5 rfl rfl)
theorem dX2_quarrel_56 : decode cX2_quarrel 56 = .ok (.iload_n 2, 1) := dk_28 (dk_at dksX2_quarrel_2 8 rfl rfl)
theorem dX2_quarrel_57 : decode cX2_quarrel 57 = .ok (.invokestatic 358, 3) := dk_184 1 102 (dk_at dksX2_quarrel_2 9 rfl rfl)
theorem dX2_quarrel_60 : decode cX2_quarrel 60 = .ok (.goto 4, 3) := dk_167 0 4 (dk_at dksX2_quarrel_2 12 rfl rfl)
theorem dX2_quarrel_63 : decode cX2_quarrel 63 = .ok (.iload_n 2, 1) := dk_28 (dk_at dksX2_quarrel_2 15 rfl rfl)
theorem dX2_quarrel_64 : decode cX2_quarrel 64 = .ok (.ireturn, 1) := dk_172 (dk_at dksX2_quarrel_2 16 rfl rfl)
abbrev cX2_idle : ByteArray := prog_20_method_119_code
def yX2_idle : MethodName := ⟨RX2, "idle", "(I)I"⟩
def dkwX2_idle_2 : List UInt8 := [130, 126, 154, 0, 9, 4, 29, 120, 167, 0, 4, 3, 128, 61, 132, 3, 1, 167, 255, 205, 28, 172]
abbrev dktX2_idle_2 : List UInt8 := dkwX2_idle_2 ++ []
def dkwX2_idle_1 : List UInt8 := [29, 184, 0, 87, 153, 0, 31, 42, 27, 4, 29, 120, 2, 130, 126, 182, 1, 84, 42, 29, 182, 0, 91, 2]
abbrev dktX2_idle_1 : List UInt8 := dkwX2_idle_1 ++ dktX2_idle_2
def dkwX2_idle_0 : List UInt8 := [42, 27, 182, 1, 166, 154, 0, 5, 2, 172, 3, 61, 3, 62, 29, 42, 182, 0, 79, 162, 0, 49, 28, 27]
abbrev dktX2_idle_0 : List UInt8 := dkwX2_idle_0 ++ dktX2_idle_1
theorem dksX2_idle_0 : cX2_idle.data.toList.drop 0 = dktX2_idle_0 := by decide +kernel
theorem dksX2_idle_1 : cX2_idle.data.toList.drop 24 = dktX2_idle_1 := dk_seg dksX2_idle_0 24 rfl rfl
theorem dksX2_idle_2 : cX2_idle.data.toList.drop 48 = dktX2_idle_2 := dk_seg dksX2_idle_1 24 rfl rfl
theorem dX2_idle_0 : decode cX2_idle 0 = .ok (.aload_n 0, 1) := dk_42 (dk_at dksX2_idle_0 0 rfl rfl)
theorem dX2_idle_1 : decode cX2_idle 1 = .ok (.iload_n 1, 1) := dk_27 (dk_at dksX2_idle_0 1 rfl rfl)
theorem dX2_idle_2 : decode cX2_idle 2 = .ok (.invokevirtual 422, 3) := dk_182 1 166 (dk_at dksX2_idle_0 2 rfl rfl)
theorem dX2_idle_5 : decode cX2_idle 5 = .ok (.ifCond .ne 5, 3) := dk_154 0 5 (dk_at dksX2_idle_0 5 rfl rfl)
theorem dX2_idle_8 : decode cX2_idle 8 = .ok (.iconst (-1), 1) := dk_2 (dk_at dksX2_idle_0 8 rfl rfl)
theorem dX2_idle_9 : decode cX2_idle 9 = .ok (.ireturn, 1) := dk_172 (dk_at dksX2_idle_0 9 rfl rfl)
theorem dX2_idle_10 : decode cX2_idle 10 = .ok (.iconst 0, 1) := dk_3 (dk_at dksX2_idle_0 10 rfl rfl)
theorem dX2_idle_11 : decode cX2_idle 11 = .ok (.istore_n 2, 1) := dk_61 (dk_at dksX2_idle_0 11 rfl rfl)
theorem dX2_idle_12 : decode cX2_idle 12 = .ok (.iconst 0, 1) := dk_3 (dk_at dksX2_idle_0 12 rfl rfl)
theorem dX2_idle_13 : decode cX2_idle 13 = .ok (.istore_n 3, 1) := dk_62 (dk_at dksX2_idle_0 13 rfl rfl)
theorem dX2_idle_14 : decode cX2_idle 14 = .ok (.iload_n 3, 1) := dk_29 (dk_at dksX2_idle_0 14 rfl rfl)
theorem dX2_idle_15 : decode cX2_idle 15 = .ok (.aload_n 0, 1) := dk_42 (dk_at dksX2_idle_0 15 rfl rfl)
theorem dX2_idle_16 : decode cX2_idle 16 = .ok (.invokevirtual 79, 3) := dk_182 0 79 (dk_at dksX2_idle_0 16 rfl rfl)
theorem dX2_idle_19 : decode cX2_idle 19 = .ok (.if_icmp .ge 49, 3) := dk_162 0 49 (dk_at dksX2_idle_0 19 rfl rfl)
theorem dX2_idle_22 : decode cX2_idle 22 = .ok (.iload_n 2, 1) := dk_28 (dk_at dksX2_idle_0 22 rfl rfl)
theorem dX2_idle_23 : decode cX2_idle 23 = .ok (.iload_n 1, 1) := dk_27 (dk_at dksX2_idle_0 23 rfl rfl)
theorem dX2_idle_24 : decode cX2_idle 24 = .ok (.iload_n 3, 1) := dk_29 (dk_at dksX2_idle_1 0 rfl rfl)
theorem dX2_idle_25 : decode cX2_idle 25 = .ok (.invokestatic 87, 3) := dk_184 0 87 (dk_at dksX2_idle_1 1 rfl rfl)
theorem dX2_idle_28 : decode cX2_idle 28 = .ok (.ifCond .eq 31, 3) := dk_153 0 31 (dk_at dksX2_idle_1 4 rfl rfl)
theorem dX2_idle_31 : decode cX2_idle 31 = .ok (.aload_n 0, 1) := dk_42 (dk_at dksX2_idle_1 7 rfl rfl)
theorem dX2_idle_32 : decode cX2_idle 32 = .ok (.iload_n 1, 1) := dk_27 (dk_at dksX2_idle_1 8 rfl rfl)
theorem dX2_idle_33 : decode cX2_idle 33 = .ok (.iconst 1, 1) := dk_4 (dk_at dksX2_idle_1 9 rfl rfl)
theorem dX2_idle_34 : decode cX2_idle 34 = .ok (.iload_n 3, 1) := dk_29 (dk_at dksX2_idle_1 10 rfl rfl)
theorem dX2_idle_35 : decode cX2_idle 35 = .ok (.ishl, 1) := dk_120 (dk_at dksX2_idle_1 11 rfl rfl)
theorem dX2_idle_36 : decode cX2_idle 36 = .ok (.iconst (-1), 1) := dk_2 (dk_at dksX2_idle_1 12 rfl rfl)
theorem dX2_idle_37 : decode cX2_idle 37 = .ok (.ixor, 1) := dk_130 (dk_at dksX2_idle_1 13 rfl rfl)
theorem dX2_idle_38 : decode cX2_idle 38 = .ok (.iand, 1) := dk_126 (dk_at dksX2_idle_1 14 rfl rfl)
theorem dX2_idle_39 : decode cX2_idle 39 = .ok (.invokevirtual 340, 3) := dk_182 1 84 (dk_at dksX2_idle_1 15 rfl rfl)
theorem dX2_idle_42 : decode cX2_idle 42 = .ok (.aload_n 0, 1) := dk_42 (dk_at dksX2_idle_1 18 rfl rfl)
theorem dX2_idle_43 : decode cX2_idle 43 = .ok (.iload_n 3, 1) := dk_29 (dk_at dksX2_idle_1 19 rfl rfl)
theorem dX2_idle_44 : decode cX2_idle 44 = .ok (.invokevirtual 91, 3) := dk_182 0 91 (dk_at dksX2_idle_1 20 rfl rfl)
theorem dX2_idle_47 : decode cX2_idle 47 = .ok (.iconst (-1), 1) := dk_2 (dk_at dksX2_idle_1 23 rfl rfl)
theorem dX2_idle_48 : decode cX2_idle 48 = .ok (.ixor, 1) := dk_130 (dk_at dksX2_idle_2 0 rfl rfl)
theorem dX2_idle_49 : decode cX2_idle 49 = .ok (.iand, 1) := dk_126 (dk_at dksX2_idle_2 1 rfl rfl)
theorem dX2_idle_50 : decode cX2_idle 50 = .ok (.ifCond .ne 9, 3) := dk_154 0 9 (dk_at dksX2_idle_2 2 rfl rfl)
theorem dX2_idle_53 : decode cX2_idle 53 = .ok (.iconst 1, 1) := dk_4 (dk_at dksX2_idle_2 5 rfl rfl)
theorem dX2_idle_54 : decode cX2_idle 54 = .ok (.iload_n 3, 1) := dk_29 (dk_at dksX2_idle_2 6 rfl rfl)
theorem dX2_idle_55 : decode cX2_idle 55 = .ok (.ishl, 1) := dk_120 (dk_at dksX2_idle_2 7 rfl rfl)
theorem dX2_idle_56 : decode cX2_idle 56 = .ok (.goto 4, 3) := dk_167 0 4 (dk_at dksX2_idle_2 8 rfl rfl)
theorem dX2_idle_59 : decode cX2_idle 59 = .ok (.iconst 0, 1) := dk_3 (dk_at dksX2_idle_2 11 rfl rfl)
theorem dX2_idle_60 : decode cX2_idle 60 = .ok (.ior, 1) := dk_128 (dk_at dksX2_idle_2 12 rfl rfl)
theorem dX2_idle_61 : decode cX2_idle 61 = .ok (.istore_n 2, 1) := dk_61 (dk_at dksX2_idle_2 13 rfl rfl)
theorem dX2_idle_62 : decode cX2_idle 62 = .ok (.iinc 3 1, 3) := dk_132 3 1 (dk_at dksX2_idle_2 14 rfl rfl)
theorem dX2_idle_65 : decode cX2_idle 65 = .ok (.goto (-51), 3) := dk_167 255 205 (dk_at dksX2_idle_2 17 rfl rfl)
theorem dX2_idle_68 : decode cX2_idle 68 = .ok (.iload_n 2, 1) := dk_28 (dk_at dksX2_idle_2 20 rfl rfl)
theorem dX2_idle_69 : decode cX2_idle 69 = .ok (.ireturn, 1) := dk_172 (dk_at dksX2_idle_2 21 rfl rfl)
abbrev cX2_against : ByteArray := prog_20_method_120_code
def yX2_against : MethodName := ⟨RX2, "against", "(I)I"⟩
def dkwX2_against_2 : List UInt8 := [132, 3, 1, 167, 255, 221, 28, 172]
abbrev dktX2_against_2 : List UInt8 := dkwX2_against_2 ++ []
def dkwX2_against_1 : List UInt8 := [29, 182, 0, 91, 42, 27, 182, 0, 91, 126, 154, 0, 9, 4, 29, 120, 167, 0, 4, 3, 128, 61]
abbrev dktX2_against_1 : List UInt8 := dkwX2_against_1 ++ dktX2_against_2
def dkwX2_against_0 : List UInt8 := [42, 27, 182, 1, 78, 154, 0, 5, 2, 172, 3, 61, 3, 62, 29, 42, 182, 0, 79, 162, 0, 33, 28, 42]
abbrev dktX2_against_0 : List UInt8 := dkwX2_against_0 ++ dktX2_against_1
theorem dksX2_against_0 : cX2_against.data.toList.drop 0 = dktX2_against_0 := by decide +kernel
theorem dksX2_against_1 : cX2_against.data.toList.drop 24 = dktX2_against_1 := dk_seg dksX2_against_0 24 rfl rfl
theorem dksX2_against_2 : cX2_against.data.toList.drop 46 = dktX2_against_2 := dk_seg dksX2_against_1 22 rfl rfl
theorem dX2_against_0 : decode cX2_against 0 = .ok (.aload_n 0, 1) := dk_42 (dk_at dksX2_against_0 0 rfl rfl)
theorem dX2_against_1 : decode cX2_against 1 = .ok (.iload_n 1, 1) := dk_27 (dk_at dksX2_against_0 1 rfl rfl)
theorem dX2_against_2 : decode cX2_against 2 = .ok (.invokevirtual 334, 3) := dk_182 1 78 (dk_at dksX2_against_0 2 rfl rfl)
theorem dX2_against_5 : decode cX2_against 5 = .ok (.ifCond .ne 5, 3) := dk_154 0 5 (dk_at dksX2_against_0 5 rfl rfl)
theorem dX2_against_8 : decode cX2_against 8 = .ok (.iconst (-1), 1) := dk_2 (dk_at dksX2_against_0 8 rfl rfl)
theorem dX2_against_9 : decode cX2_against 9 = .ok (.ireturn, 1) := dk_172 (dk_at dksX2_against_0 9 rfl rfl)
theorem dX2_against_10 : decode cX2_against 10 = .ok (.iconst 0, 1) := dk_3 (dk_at dksX2_against_0 10 rfl rfl)
theorem dX2_against_11 : decode cX2_against 11 = .ok (.istore_n 2, 1) := dk_61 (dk_at dksX2_against_0 11 rfl rfl)
theorem dX2_against_12 : decode cX2_against 12 = .ok (.iconst 0, 1) := dk_3 (dk_at dksX2_against_0 12 rfl rfl)
theorem dX2_against_13 : decode cX2_against 13 = .ok (.istore_n 3, 1) := dk_62 (dk_at dksX2_against_0 13 rfl rfl)
theorem dX2_against_14 : decode cX2_against 14 = .ok (.iload_n 3, 1) := dk_29 (dk_at dksX2_against_0 14 rfl rfl)
theorem dX2_against_15 : decode cX2_against 15 = .ok (.aload_n 0, 1) := dk_42 (dk_at dksX2_against_0 15 rfl rfl)
theorem dX2_against_16 : decode cX2_against 16 = .ok (.invokevirtual 79, 3) := dk_182 0 79 (dk_at dksX2_against_0 16 rfl rfl)
theorem dX2_against_19 : decode cX2_against 19 = .ok (.if_icmp .ge 33, 3) := dk_162 0 33 (dk_at dksX2_against_0 19 rfl rfl)
theorem dX2_against_22 : decode cX2_against 22 = .ok (.iload_n 2, 1) := dk_28 (dk_at dksX2_against_0 22 rfl rfl)
theorem dX2_against_23 : decode cX2_against 23 = .ok (.aload_n 0, 1) := dk_42 (dk_at dksX2_against_0 23 rfl rfl)
theorem dX2_against_24 : decode cX2_against 24 = .ok (.iload_n 3, 1) := dk_29 (dk_at dksX2_against_1 0 rfl rfl)
theorem dX2_against_25 : decode cX2_against 25 = .ok (.invokevirtual 91, 3) := dk_182 0 91 (dk_at dksX2_against_1 1 rfl rfl)
theorem dX2_against_28 : decode cX2_against 28 = .ok (.aload_n 0, 1) := dk_42 (dk_at dksX2_against_1 4 rfl rfl)
theorem dX2_against_29 : decode cX2_against 29 = .ok (.iload_n 1, 1) := dk_27 (dk_at dksX2_against_1 5 rfl rfl)
theorem dX2_against_30 : decode cX2_against 30 = .ok (.invokevirtual 91, 3) := dk_182 0 91 (dk_at dksX2_against_1 6 rfl rfl)
theorem dX2_against_33 : decode cX2_against 33 = .ok (.iand, 1) := dk_126 (dk_at dksX2_against_1 9 rfl rfl)
theorem dX2_against_34 : decode cX2_against 34 = .ok (.ifCond .ne 9, 3) := dk_154 0 9 (dk_at dksX2_against_1 10 rfl rfl)
theorem dX2_against_37 : decode cX2_against 37 = .ok (.iconst 1, 1) := dk_4 (dk_at dksX2_against_1 13 rfl rfl)
theorem dX2_against_38 : decode cX2_against 38 = .ok (.iload_n 3, 1) := dk_29 (dk_at dksX2_against_1 14 rfl rfl)
theorem dX2_against_39 : decode cX2_against 39 = .ok (.ishl, 1) := dk_120 (dk_at dksX2_against_1 15 rfl rfl)
theorem dX2_against_40 : decode cX2_against 40 = .ok (.goto 4, 3) := dk_167 0 4 (dk_at dksX2_against_1 16 rfl rfl)
theorem dX2_against_43 : decode cX2_against 43 = .ok (.iconst 0, 1) := dk_3 (dk_at dksX2_against_1 19 rfl rfl)
theorem dX2_against_44 : decode cX2_against 44 = .ok (.ior, 1) := dk_128 (dk_at dksX2_against_1 20 rfl rfl)
theorem dX2_against_45 : decode cX2_against 45 = .ok (.istore_n 2, 1) := dk_61 (dk_at dksX2_against_1 21 rfl rfl)
theorem dX2_against_46 : decode cX2_against 46 = .ok (.iinc 3 1, 3) := dk_132 3 1 (dk_at dksX2_against_2 0 rfl rfl)
theorem dX2_against_49 : decode cX2_against 49 = .ok (.goto (-35), 3) := dk_167 255 221 (dk_at dksX2_against_2 3 rfl rfl)
theorem dX2_against_52 : decode cX2_against 52 = .ok (.iload_n 2, 1) := dk_28 (dk_at dksX2_against_2 6 rfl rfl)
theorem dX2_against_53 : decode cX2_against 53 = .ok (.ireturn, 1) := dk_172 (dk_at dksX2_against_2 7 rfl rfl)
abbrev cX2_certain : ByteArray := prog_20_method_121_code
def yX2_certain : MethodName := ⟨RX2, "certain", "(IZ)I"⟩
def dkwX2_certain_2 : List UInt8 := [153, 0, 8, 21, 4, 167, 0, 7, 21, 4, 2, 130, 126, 62, 132, 4, 1, 167, 255, 217, 29, 172]
abbrev dktX2_certain_2 : List UInt8 := dkwX2_certain_2 ++ []
def dkwX2_certain_1 : List UInt8 := [21, 4, 16, 16, 162, 0, 38, 42, 27, 182, 1, 84, 21, 4, 184, 0, 87, 153, 0, 19, 29, 28]
abbrev dktX2_certain_1 : List UInt8 := dkwX2_certain_1 ++ dktX2_certain_2
def dkwX2_certain_0 : List UInt8 := [42, 27, 182, 1, 166, 153, 0, 11, 42, 27, 182, 1, 84, 154, 0, 5, 2, 172, 16, 15, 62, 3, 54, 4]
abbrev dktX2_certain_0 : List UInt8 := dkwX2_certain_0 ++ dktX2_certain_1
theorem dksX2_certain_0 : cX2_certain.data.toList.drop 0 = dktX2_certain_0 := by decide +kernel
theorem dksX2_certain_1 : cX2_certain.data.toList.drop 24 = dktX2_certain_1 := dk_seg dksX2_certain_0 24 rfl rfl
theorem dksX2_certain_2 : cX2_certain.data.toList.drop 46 = dktX2_certain_2 := dk_seg dksX2_certain_1 22 rfl rfl
theorem dX2_certain_0 : decode cX2_certain 0 = .ok (.aload_n 0, 1) := dk_42 (dk_at dksX2_certain_0 0 rfl rfl)
theorem dX2_certain_1 : decode cX2_certain 1 = .ok (.iload_n 1, 1) := dk_27 (dk_at dksX2_certain_0 1 rfl rfl)
theorem dX2_certain_2 : decode cX2_certain 2 = .ok (.invokevirtual 422, 3) := dk_182 1 166 (dk_at dksX2_certain_0 2 rfl rfl)
theorem dX2_certain_5 : decode cX2_certain 5 = .ok (.ifCond .eq 11, 3) := dk_153 0 11 (dk_at dksX2_certain_0 5 rfl rfl)
theorem dX2_certain_8 : decode cX2_certain 8 = .ok (.aload_n 0, 1) := dk_42 (dk_at dksX2_certain_0 8 rfl rfl)
theorem dX2_certain_9 : decode cX2_certain 9 = .ok (.iload_n 1, 1) := dk_27 (dk_at dksX2_certain_0 9 rfl rfl)
theorem dX2_certain_10 : decode cX2_certain 10 = .ok (.invokevirtual 340, 3) := dk_182 1 84 (dk_at dksX2_certain_0 10 rfl rfl)
theorem dX2_certain_13 : decode cX2_certain 13 = .ok (.ifCond .ne 5, 3) := dk_154 0 5 (dk_at dksX2_certain_0 13 rfl rfl)
theorem dX2_certain_16 : decode cX2_certain 16 = .ok (.iconst (-1), 1) := dk_2 (dk_at dksX2_certain_0 16 rfl rfl)
theorem dX2_certain_17 : decode cX2_certain 17 = .ok (.ireturn, 1) := dk_172 (dk_at dksX2_certain_0 17 rfl rfl)
theorem dX2_certain_18 : decode cX2_certain 18 = .ok (.bipush 15, 2) := dk_16 15 (dk_at dksX2_certain_0 18 rfl rfl)
theorem dX2_certain_20 : decode cX2_certain 20 = .ok (.istore_n 3, 1) := dk_62 (dk_at dksX2_certain_0 20 rfl rfl)
theorem dX2_certain_21 : decode cX2_certain 21 = .ok (.iconst 0, 1) := dk_3 (dk_at dksX2_certain_0 21 rfl rfl)
theorem dX2_certain_22 : decode cX2_certain 22 = .ok (.istore 4, 2) := dk_54 4 (dk_at dksX2_certain_0 22 rfl rfl)
theorem dX2_certain_24 : decode cX2_certain 24 = .ok (.iload 4, 2) := dk_21 4 (dk_at dksX2_certain_1 0 rfl rfl)
theorem dX2_certain_26 : decode cX2_certain 26 = .ok (.bipush 16, 2) := dk_16 16 (dk_at dksX2_certain_1 2 rfl rfl)
theorem dX2_certain_28 : decode cX2_certain 28 = .ok (.if_icmp .ge 38, 3) := dk_162 0 38 (dk_at dksX2_certain_1 4 rfl rfl)
theorem dX2_certain_31 : decode cX2_certain 31 = .ok (.aload_n 0, 1) := dk_42 (dk_at dksX2_certain_1 7 rfl rfl)
theorem dX2_certain_32 : decode cX2_certain 32 = .ok (.iload_n 1, 1) := dk_27 (dk_at dksX2_certain_1 8 rfl rfl)
theorem dX2_certain_33 : decode cX2_certain 33 = .ok (.invokevirtual 340, 3) := dk_182 1 84 (dk_at dksX2_certain_1 9 rfl rfl)
theorem dX2_certain_36 : decode cX2_certain 36 = .ok (.iload 4, 2) := dk_21 4 (dk_at dksX2_certain_1 12 rfl rfl)
theorem dX2_certain_38 : decode cX2_certain 38 = .ok (.invokestatic 87, 3) := dk_184 0 87 (dk_at dksX2_certain_1 14 rfl rfl)
theorem dX2_certain_41 : decode cX2_certain 41 = .ok (.ifCond .eq 19, 3) := dk_153 0 19 (dk_at dksX2_certain_1 17 rfl rfl)
theorem dX2_certain_44 : decode cX2_certain 44 = .ok (.iload_n 3, 1) := dk_29 (dk_at dksX2_certain_1 20 rfl rfl)
theorem dX2_certain_45 : decode cX2_certain 45 = .ok (.iload_n 2, 1) := dk_28 (dk_at dksX2_certain_1 21 rfl rfl)
theorem dX2_certain_46 : decode cX2_certain 46 = .ok (.ifCond .eq 8, 3) := dk_153 0 8 (dk_at dksX2_certain_2 0 rfl rfl)
theorem dX2_certain_49 : decode cX2_certain 49 = .ok (.iload 4, 2) := dk_21 4 (dk_at dksX2_certain_2 3 rfl rfl)
theorem dX2_certain_51 : decode cX2_certain 51 = .ok (.goto 7, 3) := dk_167 0 7 (dk_at dksX2_certain_2 5 rfl rfl)
theorem dX2_certain_54 : decode cX2_certain 54 = .ok (.iload 4, 2) := dk_21 4 (dk_at dksX2_certain_2 8 rfl rfl)
theorem dX2_certain_56 : decode cX2_certain 56 = .ok (.iconst (-1), 1) := dk_2 (dk_at dksX2_certain_2 10 rfl rfl)
theorem dX2_certain_57 : decode cX2_certain 57 = .ok (.ixor, 1) := dk_130 (dk_at dksX2_certain_2 11 rfl rfl)
theorem dX2_certain_58 : decode cX2_certain 58 = .ok (.iand, 1) := dk_126 (dk_at dksX2_certain_2 12 rfl rfl)
theorem dX2_certain_59 : decode cX2_certain 59 = .ok (.istore_n 3, 1) := dk_62 (dk_at dksX2_certain_2 13 rfl rfl)
theorem dX2_certain_60 : decode cX2_certain 60 = .ok (.iinc 4 1, 3) := dk_132 4 1 (dk_at dksX2_certain_2 14 rfl rfl)
theorem dX2_certain_63 : decode cX2_certain 63 = .ok (.goto (-39), 3) := dk_167 255 217 (dk_at dksX2_certain_2 17 rfl rfl)
theorem dX2_certain_66 : decode cX2_certain 66 = .ok (.iload_n 3, 1) := dk_29 (dk_at dksX2_certain_2 20 rfl rfl)
theorem dX2_certain_67 : decode cX2_certain 67 = .ok (.ireturn, 1) := dk_172 (dk_at dksX2_certain_2 21 rfl rfl)
abbrev cX2_ask : ByteArray := prog_20_method_122_code
def yX2_ask : MethodName := ⟨RX2, "ask", "(I)I"⟩
def dkwX2_ask_4 : List UInt8 := [21, 4, 161, 0, 6, 167, 0, 10, 21, 7, 54, 4, 21, 5, 62, 132, 5, 1, 167, 255, 179, 29, 172]
abbrev dktX2_ask_4 : List UInt8 := dkwX2_ask_4 ++ []
def dkwX2_ask_3 : List UInt8 := [167, 0, 10, 28, 184, 1, 102, 21, 6, 100, 54, 7, 27, 21, 5, 184, 0, 87, 154, 0, 20, 21, 7]
abbrev dktX2_ask_3 : List UInt8 := dkwX2_ask_3 ++ dktX2_ask_4
def dkwX2_ask_2 : List UInt8 := [182, 0, 91, 126, 184, 1, 102, 54, 6, 21, 6, 28, 184, 1, 102, 21, 6, 100, 164, 0, 8, 21, 6]
abbrev dktX2_ask_2 : List UInt8 := dkwX2_ask_2 ++ dktX2_ask_3
def dkwX2_ask_1 : List UInt8 := [2, 62, 19, 1, 172, 54, 4, 3, 54, 5, 21, 5, 42, 182, 0, 79, 162, 0, 74, 28, 42, 21, 5]
abbrev dktX2_ask_1 : List UInt8 := dkwX2_ask_1 ++ dktX2_ask_2
def dkwX2_ask_0 : List UInt8 := [42, 27, 182, 1, 166, 153, 0, 11, 42, 27, 182, 1, 84, 154, 0, 5, 2, 172, 42, 27, 182, 1, 84, 61]
abbrev dktX2_ask_0 : List UInt8 := dkwX2_ask_0 ++ dktX2_ask_1
theorem dksX2_ask_0 : cX2_ask.data.toList.drop 0 = dktX2_ask_0 := by decide +kernel
theorem dksX2_ask_1 : cX2_ask.data.toList.drop 24 = dktX2_ask_1 := dk_seg dksX2_ask_0 24 rfl rfl
theorem dksX2_ask_2 : cX2_ask.data.toList.drop 47 = dktX2_ask_2 := dk_seg dksX2_ask_1 23 rfl rfl
theorem dksX2_ask_3 : cX2_ask.data.toList.drop 70 = dktX2_ask_3 := dk_seg dksX2_ask_2 23 rfl rfl
theorem dksX2_ask_4 : cX2_ask.data.toList.drop 93 = dktX2_ask_4 := dk_seg dksX2_ask_3 23 rfl rfl
theorem dX2_ask_0 : decode cX2_ask 0 = .ok (.aload_n 0, 1) := dk_42 (dk_at dksX2_ask_0 0 rfl rfl)
theorem dX2_ask_1 : decode cX2_ask 1 = .ok (.iload_n 1, 1) := dk_27 (dk_at dksX2_ask_0 1 rfl rfl)
theorem dX2_ask_2 : decode cX2_ask 2 = .ok (.invokevirtual 422, 3) := dk_182 1 166 (dk_at dksX2_ask_0 2 rfl rfl)
theorem dX2_ask_5 : decode cX2_ask 5 = .ok (.ifCond .eq 11, 3) := dk_153 0 11 (dk_at dksX2_ask_0 5 rfl rfl)
theorem dX2_ask_8 : decode cX2_ask 8 = .ok (.aload_n 0, 1) := dk_42 (dk_at dksX2_ask_0 8 rfl rfl)
theorem dX2_ask_9 : decode cX2_ask 9 = .ok (.iload_n 1, 1) := dk_27 (dk_at dksX2_ask_0 9 rfl rfl)
theorem dX2_ask_10 : decode cX2_ask 10 = .ok (.invokevirtual 340, 3) := dk_182 1 84 (dk_at dksX2_ask_0 10 rfl rfl)
theorem dX2_ask_13 : decode cX2_ask 13 = .ok (.ifCond .ne 5, 3) := dk_154 0 5 (dk_at dksX2_ask_0 13 rfl rfl)
theorem dX2_ask_16 : decode cX2_ask 16 = .ok (.iconst (-1), 1) := dk_2 (dk_at dksX2_ask_0 16 rfl rfl)
theorem dX2_ask_17 : decode cX2_ask 17 = .ok (.ireturn, 1) := dk_172 (dk_at dksX2_ask_0 17 rfl rfl)
theorem dX2_ask_18 : decode cX2_ask 18 = .ok (.aload_n 0, 1) := dk_42 (dk_at dksX2_ask_0 18 rfl rfl)
theorem dX2_ask_19 : decode cX2_ask 19 = .ok (.iload_n 1, 1) := dk_27 (dk_at dksX2_ask_0 19 rfl rfl)
theorem dX2_ask_20 : decode cX2_ask 20 = .ok (.invokevirtual 340, 3) := dk_182 1 84 (dk_at dksX2_ask_0 20 rfl rfl)
theorem dX2_ask_23 : decode cX2_ask 23 = .ok (.istore_n 2, 1) := dk_61 (dk_at dksX2_ask_0 23 rfl rfl)
theorem dX2_ask_24 : decode cX2_ask 24 = .ok (.iconst (-1), 1) := dk_2 (dk_at dksX2_ask_1 0 rfl rfl)
theorem dX2_ask_25 : decode cX2_ask 25 = .ok (.istore_n 3, 1) := dk_62 (dk_at dksX2_ask_1 1 rfl rfl)
theorem dX2_ask_26 : decode cX2_ask 26 = .ok (.ldc_w 428, 3) := dk_19 1 172 (dk_at dksX2_ask_1 2 rfl rfl)
theorem dX2_ask_29 : decode cX2_ask 29 = .ok (.istore 4, 2) := dk_54 4 (dk_at dksX2_ask_1 5 rfl rfl)
theorem dX2_ask_31 : decode cX2_ask 31 = .ok (.iconst 0, 1) := dk_3 (dk_at dksX2_ask_1 7 rfl rfl)
theorem dX2_ask_32 : decode cX2_ask 32 = .ok (.istore 5, 2) := dk_54 5 (dk_at dksX2_ask_1 8 rfl rfl)
theorem dX2_ask_34 : decode cX2_ask 34 = .ok (.iload 5, 2) := dk_21 5 (dk_at dksX2_ask_1 10 rfl rfl)
theorem dX2_ask_36 : decode cX2_ask 36 = .ok (.aload_n 0, 1) := dk_42 (dk_at dksX2_ask_1 12 rfl rfl)
theorem dX2_ask_37 : decode cX2_ask 37 = .ok (.invokevirtual 79, 3) := dk_182 0 79 (dk_at dksX2_ask_1 13 rfl rfl)
theorem dX2_ask_40 : decode cX2_ask 40 = .ok (.if_icmp .ge 74, 3) := dk_162 0 74 (dk_at dksX2_ask_1 16 rfl rfl)
theorem dX2_ask_43 : decode cX2_ask 43 = .ok (.iload_n 2, 1) := dk_28 (dk_at dksX2_ask_1 19 rfl rfl)
theorem dX2_ask_44 : decode cX2_ask 44 = .ok (.aload_n 0, 1) := dk_42 (dk_at dksX2_ask_1 20 rfl rfl)
theorem dX2_ask_45 : decode cX2_ask 45 = .ok (.iload 5, 2) := dk_21 5 (dk_at dksX2_ask_1 21 rfl rfl)
theorem dX2_ask_47 : decode cX2_ask 47 = .ok (.invokevirtual 91, 3) := dk_182 0 91 (dk_at dksX2_ask_2 0 rfl rfl)
theorem dX2_ask_50 : decode cX2_ask 50 = .ok (.iand, 1) := dk_126 (dk_at dksX2_ask_2 3 rfl rfl)
theorem dX2_ask_51 : decode cX2_ask 51 = .ok (.invokestatic 358, 3) := dk_184 1 102 (dk_at dksX2_ask_2 4 rfl rfl)
theorem dX2_ask_54 : decode cX2_ask 54 = .ok (.istore 6, 2) := dk_54 6 (dk_at dksX2_ask_2 7 rfl rfl)
theorem dX2_ask_56 : decode cX2_ask 56 = .ok (.iload 6, 2) := dk_21 6 (dk_at dksX2_ask_2 9 rfl rfl)
theorem dX2_ask_58 : decode cX2_ask 58 = .ok (.iload_n 2, 1) := dk_28 (dk_at dksX2_ask_2 11 rfl rfl)
theorem dX2_ask_59 : decode cX2_ask 59 = .ok (.invokestatic 358, 3) := dk_184 1 102 (dk_at dksX2_ask_2 12 rfl rfl)
theorem dX2_ask_62 : decode cX2_ask 62 = .ok (.iload 6, 2) := dk_21 6 (dk_at dksX2_ask_2 15 rfl rfl)
theorem dX2_ask_64 : decode cX2_ask 64 = .ok (.isub, 1) := dk_100 (dk_at dksX2_ask_2 17 rfl rfl)
theorem dX2_ask_65 : decode cX2_ask 65 = .ok (.if_icmp .le 8, 3) := dk_164 0 8 (dk_at dksX2_ask_2 18 rfl rfl)
theorem dX2_ask_68 : decode cX2_ask 68 = .ok (.iload 6, 2) := dk_21 6 (dk_at dksX2_ask_2 21 rfl rfl)
theorem dX2_ask_70 : decode cX2_ask 70 = .ok (.goto 10, 3) := dk_167 0 10 (dk_at dksX2_ask_3 0 rfl rfl)
theorem dX2_ask_73 : decode cX2_ask 73 = .ok (.iload_n 2, 1) := dk_28 (dk_at dksX2_ask_3 3 rfl rfl)
theorem dX2_ask_74 : decode cX2_ask 74 = .ok (.invokestatic 358, 3) := dk_184 1 102 (dk_at dksX2_ask_3 4 rfl rfl)
theorem dX2_ask_77 : decode cX2_ask 77 = .ok (.iload 6, 2) := dk_21 6 (dk_at dksX2_ask_3 7 rfl rfl)
theorem dX2_ask_79 : decode cX2_ask 79 = .ok (.isub, 1) := dk_100 (dk_at dksX2_ask_3 9 rfl rfl)
theorem dX2_ask_80 : decode cX2_ask 80 = .ok (.istore 7, 2) := dk_54 7 (dk_at dksX2_ask_3 10 rfl rfl)
theorem dX2_ask_82 : decode cX2_ask 82 = .ok (.iload_n 1, 1) := dk_27 (dk_at dksX2_ask_3 12 rfl rfl)
theorem dX2_ask_83 : decode cX2_ask 83 = .ok (.iload 5, 2) := dk_21 5 (dk_at dksX2_ask_3 13 rfl rfl)
theorem dX2_ask_85 : decode cX2_ask 85 = .ok (.invokestatic 87, 3) := dk_184 0 87 (dk_at dksX2_ask_3 15 rfl rfl)
theorem dX2_ask_88 : decode cX2_ask 88 = .ok (.ifCond .ne 20, 3) := dk_154 0 20 (dk_at dksX2_ask_3 18 rfl rfl)
theorem dX2_ask_91 : decode cX2_ask 91 = .ok (.iload 7, 2) := dk_21 7 (dk_at dksX2_ask_3 21 rfl rfl)
theorem dX2_ask_93 : decode cX2_ask 93 = .ok (.iload 4, 2) := dk_21 4 (dk_at dksX2_ask_4 0 rfl rfl)
theorem dX2_ask_95 : decode cX2_ask 95 = .ok (.if_icmp .lt 6, 3) := dk_161 0 6 (dk_at dksX2_ask_4 2 rfl rfl)
theorem dX2_ask_98 : decode cX2_ask 98 = .ok (.goto 10, 3) := dk_167 0 10 (dk_at dksX2_ask_4 5 rfl rfl)
theorem dX2_ask_101 : decode cX2_ask 101 = .ok (.iload 7, 2) := dk_21 7 (dk_at dksX2_ask_4 8 rfl rfl)
theorem dX2_ask_103 : decode cX2_ask 103 = .ok (.istore 4, 2) := dk_54 4 (dk_at dksX2_ask_4 10 rfl rfl)
theorem dX2_ask_105 : decode cX2_ask 105 = .ok (.iload 5, 2) := dk_21 5 (dk_at dksX2_ask_4 12 rfl rfl)
theorem dX2_ask_107 : decode cX2_ask 107 = .ok (.istore_n 3, 1) := dk_62 (dk_at dksX2_ask_4 14 rfl rfl)
theorem dX2_ask_108 : decode cX2_ask 108 = .ok (.iinc 5 1, 3) := dk_132 5 1 (dk_at dksX2_ask_4 15 rfl rfl)
theorem dX2_ask_111 : decode cX2_ask 111 = .ok (.goto (-77), 3) := dk_167 255 179 (dk_at dksX2_ask_4 18 rfl rfl)
theorem dX2_ask_114 : decode cX2_ask 114 = .ok (.iload_n 3, 1) := dk_29 (dk_at dksX2_ask_4 21 rfl rfl)
theorem dX2_ask_115 : decode cX2_ask 115 = .ok (.ireturn, 1) := dk_172 (dk_at dksX2_ask_4 22 rfl rfl)
abbrev cX2_likely : ByteArray := prog_20_method_124_code
def yX2_likely : MethodName := ⟨RX2, "likely", "(IIZ)I"⟩
def dkwX2_likely_3 : List UInt8 := [172]
abbrev dktX2_likely_3 : List UInt8 := dkwX2_likely_3 ++ []
def dkwX2_likely_2 : List UInt8 := [184, 1, 102, 54, 5, 29, 153, 0, 8, 21, 4, 167, 0, 5, 21, 5, 21, 5, 21, 4, 184, 1, 173, 108]
abbrev dktX2_likely_2 : List UInt8 := dkwX2_likely_2 ++ dktX2_likely_3
def dkwX2_likely_1 : List UInt8 := [2, 172, 42, 27, 182, 1, 84, 184, 1, 102, 54, 4, 42, 27, 182, 1, 84, 42, 28, 182, 0, 91, 126]
abbrev dktX2_likely_1 : List UInt8 := dkwX2_likely_1 ++ dktX2_likely_2
def dkwX2_likely_0 : List UInt8 := [42, 27, 182, 1, 166, 153, 0, 19, 42, 28, 182, 1, 78, 153, 0, 11, 42, 27, 182, 1, 84, 154, 0, 5]
abbrev dktX2_likely_0 : List UInt8 := dkwX2_likely_0 ++ dktX2_likely_1
theorem dksX2_likely_0 : cX2_likely.data.toList.drop 0 = dktX2_likely_0 := by decide +kernel
theorem dksX2_likely_1 : cX2_likely.data.toList.drop 24 = dktX2_likely_1 := dk_seg dksX2_likely_0 24 rfl rfl
theorem dksX2_likely_2 : cX2_likely.data.toList.drop 47 = dktX2_likely_2 := dk_seg dksX2_likely_1 23 rfl rfl
theorem dksX2_likely_3 : cX2_likely.data.toList.drop 71 = dktX2_likely_3 := dk_seg dksX2_likely_2 24 rfl rfl
theorem dX2_likely_0 : decode cX2_likely 0 = .ok (.aload_n 0, 1) := dk_42 (dk_at dksX2_likely_0 0 rfl rfl)
theorem dX2_likely_1 : decode cX2_likely 1 = .ok (.iload_n 1, 1) := dk_27 (dk_at dksX2_likely_0 1 rfl rfl)
theorem dX2_likely_2 : decode cX2_likely 2 = .ok (.invokevirtual 422, 3) := dk_182 1 166 (dk_at dksX2_likely_0 2 rfl rfl)
theorem dX2_likely_5 : decode cX2_likely 5 = .ok (.ifCond .eq 19, 3) := dk_153 0 19 (dk_at dksX2_likely_0 5 rfl rfl)
theorem dX2_likely_8 : decode cX2_likely 8 = .ok (.aload_n 0, 1) := dk_42 (dk_at dksX2_likely_0 8 rfl rfl)
theorem dX2_likely_9 : decode cX2_likely 9 = .ok (.iload_n 2, 1) := dk_28 (dk_at dksX2_likely_0 9 rfl rfl)
theorem dX2_likely_10 : decode cX2_likely 10 = .ok (.invokevirtual 334, 3) := dk_182 1 78 (dk_at dksX2_likely_0 10 rfl rfl)
theorem dX2_likely_13 : decode cX2_likely 13 = .ok (.ifCond .eq 11, 3) := dk_153 0 11 (dk_at dksX2_likely_0 13 rfl rfl)
theorem dX2_likely_16 : decode cX2_likely 16 = .ok (.aload_n 0, 1) := dk_42 (dk_at dksX2_likely_0 16 rfl rfl)
theorem dX2_likely_17 : decode cX2_likely 17 = .ok (.iload_n 1, 1) := dk_27 (dk_at dksX2_likely_0 17 rfl rfl)
theorem dX2_likely_18 : decode cX2_likely 18 = .ok (.invokevirtual 340, 3) := dk_182 1 84 (dk_at dksX2_likely_0 18 rfl rfl)
theorem dX2_likely_21 : decode cX2_likely 21 = .ok (.ifCond .ne 5, 3) := dk_154 0 5 (dk_at dksX2_likely_0 21 rfl rfl)
theorem dX2_likely_24 : decode cX2_likely 24 = .ok (.iconst (-1), 1) := dk_2 (dk_at dksX2_likely_1 0 rfl rfl)
theorem dX2_likely_25 : decode cX2_likely 25 = .ok (.ireturn, 1) := dk_172 (dk_at dksX2_likely_1 1 rfl rfl)
theorem dX2_likely_26 : decode cX2_likely 26 = .ok (.aload_n 0, 1) := dk_42 (dk_at dksX2_likely_1 2 rfl rfl)
theorem dX2_likely_27 : decode cX2_likely 27 = .ok (.iload_n 1, 1) := dk_27 (dk_at dksX2_likely_1 3 rfl rfl)
theorem dX2_likely_28 : decode cX2_likely 28 = .ok (.invokevirtual 340, 3) := dk_182 1 84 (dk_at dksX2_likely_1 4 rfl rfl)
theorem dX2_likely_31 : decode cX2_likely 31 = .ok (.invokestatic 358, 3) := dk_184 1 102 (dk_at dksX2_likely_1 7 rfl rfl)
theorem dX2_likely_34 : decode cX2_likely 34 = .ok (.istore 4, 2) := dk_54 4 (dk_at dksX2_likely_1 10 rfl rfl)
theorem dX2_likely_36 : decode cX2_likely 36 = .ok (.aload_n 0, 1) := dk_42 (dk_at dksX2_likely_1 12 rfl rfl)
theorem dX2_likely_37 : decode cX2_likely 37 = .ok (.iload_n 1, 1) := dk_27 (dk_at dksX2_likely_1 13 rfl rfl)
theorem dX2_likely_38 : decode cX2_likely 38 = .ok (.invokevirtual 340, 3) := dk_182 1 84 (dk_at dksX2_likely_1 14 rfl rfl)
theorem dX2_likely_41 : decode cX2_likely 41 = .ok (.aload_n 0, 1) := dk_42 (dk_at dksX2_likely_1 17 rfl rfl)
theorem dX2_likely_42 : decode cX2_likely 42 = .ok (.iload_n 2, 1) := dk_28 (dk_at dksX2_likely_1 18 rfl rfl)
theorem dX2_likely_43 : decode cX2_likely 43 = .ok (.invokevirtual 91, 3) := dk_182 0 91 (dk_at dksX2_likely_1 19 rfl rfl)
theorem dX2_likely_46 : decode cX2_likely 46 = .ok (.iand, 1) := dk_126 (dk_at dksX2_likely_1 22 rfl rfl)
theorem dX2_likely_47 : decode cX2_likely 47 = .ok (.invokestatic 358, 3) := dk_184 1 102 (dk_at dksX2_likely_2 0 rfl rfl)
theorem dX2_likely_50 : decode cX2_likely 50 = .ok (.istore 5, 2) := dk_54 5 (dk_at dksX2_likely_2 3 rfl rfl)
theorem dX2_likely_52 : decode cX2_likely 52 = .ok (.iload_n 3, 1) := dk_29 (dk_at dksX2_likely_2 5 rfl rfl)
theorem dX2_likely_53 : decode cX2_likely 53 = .ok (.ifCond .eq 8, 3) := dk_153 0 8 (dk_at dksX2_likely_2 6 rfl rfl)
theorem dX2_likely_56 : decode cX2_likely 56 = .ok (.iload 4, 2) := dk_21 4 (dk_at dksX2_likely_2 9 rfl rfl)
theorem dX2_likely_58 : decode cX2_likely 58 = .ok (.goto 5, 3) := dk_167 0 5 (dk_at dksX2_likely_2 11 rfl rfl)
theorem dX2_likely_61 : decode cX2_likely 61 = .ok (.iload 5, 2) := dk_21 5 (dk_at dksX2_likely_2 14 rfl rfl)
theorem dX2_likely_63 : decode cX2_likely 63 = .ok (.iload 5, 2) := dk_21 5 (dk_at dksX2_likely_2 16 rfl rfl)
theorem dX2_likely_65 : decode cX2_likely 65 = .ok (.iload 4, 2) := dk_21 4 (dk_at dksX2_likely_2 18 rfl rfl)
theorem dX2_likely_67 : decode cX2_likely 67 = .ok (.invokestatic 429, 3) := dk_184 1 173 (dk_at dksX2_likely_2 20 rfl rfl)
theorem dX2_likely_70 : decode cX2_likely 70 = .ok (.idiv, 1) := dk_108 (dk_at dksX2_likely_2 23 rfl rfl)
theorem dX2_likely_71 : decode cX2_likely 71 = .ok (.ireturn, 1) := dk_172 (dk_at dksX2_likely_3 0 rfl rfl)
abbrev cX2_divisor : ByteArray := prog_20_method_123_code
def yX2_divisor : MethodName := ⟨RX2, "divisor", "(II)I"⟩
def dkwX2_divisor_0 : List UInt8 := [26, 61, 27, 62, 29, 153, 0, 16, 28, 29, 112, 54, 4, 29, 61, 21, 4, 62, 167, 255, 242, 28, 172]
abbrev dktX2_divisor_0 : List UInt8 := dkwX2_divisor_0 ++ []
theorem dksX2_divisor_0 : cX2_divisor.data.toList.drop 0 = dktX2_divisor_0 := by decide +kernel
theorem dX2_divisor_0 : decode cX2_divisor 0 = .ok (.iload_n 0, 1) := dk_26 (dk_at dksX2_divisor_0 0 rfl rfl)
theorem dX2_divisor_1 : decode cX2_divisor 1 = .ok (.istore_n 2, 1) := dk_61 (dk_at dksX2_divisor_0 1 rfl rfl)
theorem dX2_divisor_2 : decode cX2_divisor 2 = .ok (.iload_n 1, 1) := dk_27 (dk_at dksX2_divisor_0 2 rfl rfl)
theorem dX2_divisor_3 : decode cX2_divisor 3 = .ok (.istore_n 3, 1) := dk_62 (dk_at dksX2_divisor_0 3 rfl rfl)
theorem dX2_divisor_4 : decode cX2_divisor 4 = .ok (.iload_n 3, 1) := dk_29 (dk_at dksX2_divisor_0 4 rfl rfl)
theorem dX2_divisor_5 : decode cX2_divisor 5 = .ok (.ifCond .eq 16, 3) := dk_153 0 16 (dk_at dksX2_divisor_0 5 rfl rfl)
theorem dX2_divisor_8 : decode cX2_divisor 8 = .ok (.iload_n 2, 1) := dk_28 (dk_at dksX2_divisor_0 8 rfl rfl)
theorem dX2_divisor_9 : decode cX2_divisor 9 = .ok (.iload_n 3, 1) := dk_29 (dk_at dksX2_divisor_0 9 rfl rfl)
theorem dX2_divisor_10 : decode cX2_divisor 10 = .ok (.irem, 1) := dk_112 (dk_at dksX2_divisor_0 10 rfl rfl)
theorem dX2_divisor_11 : decode cX2_divisor 11 = .ok (.istore 4, 2) := dk_54 4 (dk_at dksX2_divisor_0 11 rfl rfl)
theorem dX2_divisor_13 : decode cX2_divisor 13 = .ok (.iload_n 3, 1) := dk_29 (dk_at dksX2_divisor_0 13 rfl rfl)
theorem dX2_divisor_14 : decode cX2_divisor 14 = .ok (.istore_n 2, 1) := dk_61 (dk_at dksX2_divisor_0 14 rfl rfl)
theorem dX2_divisor_15 : decode cX2_divisor 15 = .ok (.iload 4, 2) := dk_21 4 (dk_at dksX2_divisor_0 15 rfl rfl)
theorem dX2_divisor_17 : decode cX2_divisor 17 = .ok (.istore_n 3, 1) := dk_62 (dk_at dksX2_divisor_0 17 rfl rfl)
theorem dX2_divisor_18 : decode cX2_divisor 18 = .ok (.goto (-14), 3) := dk_167 255 242 (dk_at dksX2_divisor_0 18 rfl rfl)
theorem dX2_divisor_21 : decode cX2_divisor 21 = .ok (.iload_n 2, 1) := dk_28 (dk_at dksX2_divisor_0 21 rfl rfl)
theorem dX2_divisor_22 : decode cX2_divisor 22 = .ok (.ireturn, 1) := dk_172 (dk_at dksX2_divisor_0 22 rfl rfl)
abbrev cX2_debate : ByteArray := prog_20_method_126_code
def yX2_debate : MethodName := ⟨RX2, "debate", "(Z)I"⟩
def dkwX2_debate_4 : List UInt8 := [132, 2, 1, 167, 255, 234, 2, 172]
abbrev dktX2_debate_4 : List UInt8 := dkwX2_debate_4 ++ []
def dkwX2_debate_3 : List UInt8 := [172, 3, 61, 28, 42, 182, 0, 79, 162, 0, 20, 42, 3, 28, 182, 1, 176, 153, 0, 5, 28, 172]
abbrev dktX2_debate_3 : List UInt8 := dkwX2_debate_3 ++ dktX2_debate_4
def dkwX2_debate_2 : List UInt8 := [132, 2, 255, 167, 255, 211, 27, 154, 0, 18, 42, 180, 0, 53, 3, 51, 153, 0, 7, 4, 167, 0, 4, 3]
abbrev dktX2_debate_2 : List UInt8 := dkwX2_debate_2 ++ dktX2_debate_3
def dkwX2_debate_1 : List UInt8 := [162, 0, 24, 42, 180, 0, 53, 28, 92, 51, 42, 28, 29, 182, 1, 176, 128, 84, 132, 3, 1, 167, 255, 230]
abbrev dktX2_debate_1 : List UInt8 := dkwX2_debate_1 ++ dktX2_debate_2
def dkwX2_debate_0 : List UInt8 := [42, 182, 0, 83, 61, 28, 155, 0, 47, 42, 180, 0, 53, 28, 3, 84, 3, 62, 29, 42, 182, 0, 79]
abbrev dktX2_debate_0 : List UInt8 := dkwX2_debate_0 ++ dktX2_debate_1
theorem dksX2_debate_0 : cX2_debate.data.toList.drop 0 = dktX2_debate_0 := by decide +kernel
theorem dksX2_debate_1 : cX2_debate.data.toList.drop 23 = dktX2_debate_1 := dk_seg dksX2_debate_0 23 rfl rfl
theorem dksX2_debate_2 : cX2_debate.data.toList.drop 47 = dktX2_debate_2 := dk_seg dksX2_debate_1 24 rfl rfl
theorem dksX2_debate_3 : cX2_debate.data.toList.drop 71 = dktX2_debate_3 := dk_seg dksX2_debate_2 24 rfl rfl
theorem dksX2_debate_4 : cX2_debate.data.toList.drop 93 = dktX2_debate_4 := dk_seg dksX2_debate_3 22 rfl rfl
theorem dX2_debate_0 : decode cX2_debate 0 = .ok (.aload_n 0, 1) := dk_42 (dk_at dksX2_debate_0 0 rfl rfl)
theorem dX2_debate_1 : decode cX2_debate 1 = .ok (.invokevirtual 83, 3) := dk_182 0 83 (dk_at dksX2_debate_0 1 rfl rfl)
theorem dX2_debate_4 : decode cX2_debate 4 = .ok (.istore_n 2, 1) := dk_61 (dk_at dksX2_debate_0 4 rfl rfl)
theorem dX2_debate_5 : decode cX2_debate 5 = .ok (.iload_n 2, 1) := dk_28 (dk_at dksX2_debate_0 5 rfl rfl)
theorem dX2_debate_6 : decode cX2_debate 6 = .ok (.ifCond .lt 47, 3) := dk_155 0 47 (dk_at dksX2_debate_0 6 rfl rfl)
theorem dX2_debate_9 : decode cX2_debate 9 = .ok (.aload_n 0, 1) := dk_42 (dk_at dksX2_debate_0 9 rfl rfl)
theorem dX2_debate_10 : decode cX2_debate 10 = .ok (.getfield 53, 3) := dk_180 0 53 (dk_at dksX2_debate_0 10 rfl rfl)
theorem dX2_debate_13 : decode cX2_debate 13 = .ok (.iload_n 2, 1) := dk_28 (dk_at dksX2_debate_0 13 rfl rfl)
theorem dX2_debate_14 : decode cX2_debate 14 = .ok (.iconst 0, 1) := dk_3 (dk_at dksX2_debate_0 14 rfl rfl)
theorem dX2_debate_15 : decode cX2_debate 15 = .ok (.bastore, 1) := dk_84 (dk_at dksX2_debate_0 15 rfl rfl)
theorem dX2_debate_16 : decode cX2_debate 16 = .ok (.iconst 0, 1) := dk_3 (dk_at dksX2_debate_0 16 rfl rfl)
theorem dX2_debate_17 : decode cX2_debate 17 = .ok (.istore_n 3, 1) := dk_62 (dk_at dksX2_debate_0 17 rfl rfl)
theorem dX2_debate_18 : decode cX2_debate 18 = .ok (.iload_n 3, 1) := dk_29 (dk_at dksX2_debate_0 18 rfl rfl)
theorem dX2_debate_19 : decode cX2_debate 19 = .ok (.aload_n 0, 1) := dk_42 (dk_at dksX2_debate_0 19 rfl rfl)
theorem dX2_debate_20 : decode cX2_debate 20 = .ok (.invokevirtual 79, 3) := dk_182 0 79 (dk_at dksX2_debate_0 20 rfl rfl)
theorem dX2_debate_23 : decode cX2_debate 23 = .ok (.if_icmp .ge 24, 3) := dk_162 0 24 (dk_at dksX2_debate_1 0 rfl rfl)
theorem dX2_debate_26 : decode cX2_debate 26 = .ok (.aload_n 0, 1) := dk_42 (dk_at dksX2_debate_1 3 rfl rfl)
theorem dX2_debate_27 : decode cX2_debate 27 = .ok (.getfield 53, 3) := dk_180 0 53 (dk_at dksX2_debate_1 4 rfl rfl)
theorem dX2_debate_30 : decode cX2_debate 30 = .ok (.iload_n 2, 1) := dk_28 (dk_at dksX2_debate_1 7 rfl rfl)
theorem dX2_debate_31 : decode cX2_debate 31 = .ok (.dup2, 1) := dk_92 (dk_at dksX2_debate_1 8 rfl rfl)
theorem dX2_debate_32 : decode cX2_debate 32 = .ok (.baload, 1) := dk_51 (dk_at dksX2_debate_1 9 rfl rfl)
theorem dX2_debate_33 : decode cX2_debate 33 = .ok (.aload_n 0, 1) := dk_42 (dk_at dksX2_debate_1 10 rfl rfl)
theorem dX2_debate_34 : decode cX2_debate 34 = .ok (.iload_n 2, 1) := dk_28 (dk_at dksX2_debate_1 11 rfl rfl)
theorem dX2_debate_35 : decode cX2_debate 35 = .ok (.iload_n 3, 1) := dk_29 (dk_at dksX2_debate_1 12 rfl rfl)
theorem dX2_debate_36 : decode cX2_debate 36 = .ok (.invokevirtual 432, 3) := dk_182 1 176 (dk_at dksX2_debate_1 13 rfl rfl)
theorem dX2_debate_39 : decode cX2_debate 39 = .ok (.ior, 1) := dk_128 (dk_at dksX2_debate_1 16 rfl rfl)
theorem dX2_debate_40 : decode cX2_debate 40 = .ok (.bastore, 1) := dk_84 (dk_at dksX2_debate_1 17 rfl rfl)
theorem dX2_debate_41 : decode cX2_debate 41 = .ok (.iinc 3 1, 3) := dk_132 3 1 (dk_at dksX2_debate_1 18 rfl rfl)
theorem dX2_debate_44 : decode cX2_debate 44 = .ok (.goto (-26), 3) := dk_167 255 230 (dk_at dksX2_debate_1 21 rfl rfl)
theorem dX2_debate_47 : decode cX2_debate 47 = .ok (.iinc 2 (-1), 3) := dk_132 2 255 (dk_at dksX2_debate_2 0 rfl rfl)
theorem dX2_debate_50 : decode cX2_debate 50 = .ok (.goto (-45), 3) := dk_167 255 211 (dk_at dksX2_debate_2 3 rfl rfl)
theorem dX2_debate_53 : decode cX2_debate 53 = .ok (.iload_n 1, 1) := dk_27 (dk_at dksX2_debate_2 6 rfl rfl)
theorem dX2_debate_54 : decode cX2_debate 54 = .ok (.ifCond .ne 18, 3) := dk_154 0 18 (dk_at dksX2_debate_2 7 rfl rfl)
theorem dX2_debate_57 : decode cX2_debate 57 = .ok (.aload_n 0, 1) := dk_42 (dk_at dksX2_debate_2 10 rfl rfl)
theorem dX2_debate_58 : decode cX2_debate 58 = .ok (.getfield 53, 3) := dk_180 0 53 (dk_at dksX2_debate_2 11 rfl rfl)
theorem dX2_debate_61 : decode cX2_debate 61 = .ok (.iconst 0, 1) := dk_3 (dk_at dksX2_debate_2 14 rfl rfl)
theorem dX2_debate_62 : decode cX2_debate 62 = .ok (.baload, 1) := dk_51 (dk_at dksX2_debate_2 15 rfl rfl)
theorem dX2_debate_63 : decode cX2_debate 63 = .ok (.ifCond .eq 7, 3) := dk_153 0 7 (dk_at dksX2_debate_2 16 rfl rfl)
theorem dX2_debate_66 : decode cX2_debate 66 = .ok (.iconst 1, 1) := dk_4 (dk_at dksX2_debate_2 19 rfl rfl)
theorem dX2_debate_67 : decode cX2_debate 67 = .ok (.goto 4, 3) := dk_167 0 4 (dk_at dksX2_debate_2 20 rfl rfl)
theorem dX2_debate_70 : decode cX2_debate 70 = .ok (.iconst 0, 1) := dk_3 (dk_at dksX2_debate_2 23 rfl rfl)
theorem dX2_debate_71 : decode cX2_debate 71 = .ok (.ireturn, 1) := dk_172 (dk_at dksX2_debate_3 0 rfl rfl)
theorem dX2_debate_72 : decode cX2_debate 72 = .ok (.iconst 0, 1) := dk_3 (dk_at dksX2_debate_3 1 rfl rfl)
theorem dX2_debate_73 : decode cX2_debate 73 = .ok (.istore_n 2, 1) := dk_61 (dk_at dksX2_debate_3 2 rfl rfl)
theorem dX2_debate_74 : decode cX2_debate 74 = .ok (.iload_n 2, 1) := dk_28 (dk_at dksX2_debate_3 3 rfl rfl)
theorem dX2_debate_75 : decode cX2_debate 75 = .ok (.aload_n 0, 1) := dk_42 (dk_at dksX2_debate_3 4 rfl rfl)
theorem dX2_debate_76 : decode cX2_debate 76 = .ok (.invokevirtual 79, 3) := dk_182 0 79 (dk_at dksX2_debate_3 5 rfl rfl)
theorem dX2_debate_79 : decode cX2_debate 79 = .ok (.if_icmp .ge 20, 3) := dk_162 0 20 (dk_at dksX2_debate_3 8 rfl rfl)
theorem dX2_debate_82 : decode cX2_debate 82 = .ok (.aload_n 0, 1) := dk_42 (dk_at dksX2_debate_3 11 rfl rfl)
theorem dX2_debate_83 : decode cX2_debate 83 = .ok (.iconst 0, 1) := dk_3 (dk_at dksX2_debate_3 12 rfl rfl)
theorem dX2_debate_84 : decode cX2_debate 84 = .ok (.iload_n 2, 1) := dk_28 (dk_at dksX2_debate_3 13 rfl rfl)
theorem dX2_debate_85 : decode cX2_debate 85 = .ok (.invokevirtual 432, 3) := dk_182 1 176 (dk_at dksX2_debate_3 14 rfl rfl)
theorem dX2_debate_88 : decode cX2_debate 88 = .ok (.ifCond .eq 5, 3) := dk_153 0 5 (dk_at dksX2_debate_3 17 rfl rfl)
theorem dX2_debate_91 : decode cX2_debate 91 = .ok (.iload_n 2, 1) := dk_28 (dk_at dksX2_debate_3 20 rfl rfl)
theorem dX2_debate_92 : decode cX2_debate 92 = .ok (.ireturn, 1) := dk_172 (dk_at dksX2_debate_3 21 rfl rfl)
theorem dX2_debate_93 : decode cX2_debate 93 = .ok (.iinc 2 1, 3) := dk_132 2 1 (dk_at dksX2_debate_4 0 rfl rfl)
theorem dX2_debate_96 : decode cX2_debate 96 = .ok (.goto (-22), 3) := dk_167 255 234 (dk_at dksX2_debate_4 3 rfl rfl)
theorem dX2_debate_99 : decode cX2_debate 99 = .ok (.iconst (-1), 1) := dk_2 (dk_at dksX2_debate_4 6 rfl rfl)
theorem dX2_debate_100 : decode cX2_debate 100 = .ok (.ireturn, 1) := dk_172 (dk_at dksX2_debate_4 7 rfl rfl)
abbrev cX2_isWinning : ByteArray := prog_20_method_125_code
def yX2_isWinning : MethodName := ⟨RX2, "isWinning", "(II)Z"⟩
def dkwX2_isWinning_1 : List UInt8 := [27, 4, 28, 120, 128, 51, 154, 0, 7, 4, 167, 0, 4, 3, 172]
abbrev dktX2_isWinning_1 : List UInt8 := dkwX2_isWinning_1 ++ []
def dkwX2_isWinning_0 : List UInt8 := [27, 28, 184, 0, 87, 154, 0, 32, 42, 27, 4, 28, 120, 128, 182, 1, 84, 153, 0, 20, 42, 180, 0, 53]
abbrev dktX2_isWinning_0 : List UInt8 := dkwX2_isWinning_0 ++ dktX2_isWinning_1
theorem dksX2_isWinning_0 : cX2_isWinning.data.toList.drop 0 = dktX2_isWinning_0 := by decide +kernel
theorem dksX2_isWinning_1 : cX2_isWinning.data.toList.drop 24 = dktX2_isWinning_1 := dk_seg dksX2_isWinning_0 24 rfl rfl
theorem dX2_isWinning_0 : decode cX2_isWinning 0 = .ok (.iload_n 1, 1) := dk_27 (dk_at dksX2_isWinning_0 0 rfl rfl)
theorem dX2_isWinning_1 : decode cX2_isWinning 1 = .ok (.iload_n 2, 1) := dk_28 (dk_at dksX2_isWinning_0 1 rfl rfl)
theorem dX2_isWinning_2 : decode cX2_isWinning 2 = .ok (.invokestatic 87, 3) := dk_184 0 87 (dk_at dksX2_isWinning_0 2 rfl rfl)
theorem dX2_isWinning_5 : decode cX2_isWinning 5 = .ok (.ifCond .ne 32, 3) := dk_154 0 32 (dk_at dksX2_isWinning_0 5 rfl rfl)
theorem dX2_isWinning_8 : decode cX2_isWinning 8 = .ok (.aload_n 0, 1) := dk_42 (dk_at dksX2_isWinning_0 8 rfl rfl)
theorem dX2_isWinning_9 : decode cX2_isWinning 9 = .ok (.iload_n 1, 1) := dk_27 (dk_at dksX2_isWinning_0 9 rfl rfl)
theorem dX2_isWinning_10 : decode cX2_isWinning 10 = .ok (.iconst 1, 1) := dk_4 (dk_at dksX2_isWinning_0 10 rfl rfl)
theorem dX2_isWinning_11 : decode cX2_isWinning 11 = .ok (.iload_n 2, 1) := dk_28 (dk_at dksX2_isWinning_0 11 rfl rfl)
theorem dX2_isWinning_12 : decode cX2_isWinning 12 = .ok (.ishl, 1) := dk_120 (dk_at dksX2_isWinning_0 12 rfl rfl)
theorem dX2_isWinning_13 : decode cX2_isWinning 13 = .ok (.ior, 1) := dk_128 (dk_at dksX2_isWinning_0 13 rfl rfl)
theorem dX2_isWinning_14 : decode cX2_isWinning 14 = .ok (.invokevirtual 340, 3) := dk_182 1 84 (dk_at dksX2_isWinning_0 14 rfl rfl)
theorem dX2_isWinning_17 : decode cX2_isWinning 17 = .ok (.ifCond .eq 20, 3) := dk_153 0 20 (dk_at dksX2_isWinning_0 17 rfl rfl)
theorem dX2_isWinning_20 : decode cX2_isWinning 20 = .ok (.aload_n 0, 1) := dk_42 (dk_at dksX2_isWinning_0 20 rfl rfl)
theorem dX2_isWinning_21 : decode cX2_isWinning 21 = .ok (.getfield 53, 3) := dk_180 0 53 (dk_at dksX2_isWinning_0 21 rfl rfl)
theorem dX2_isWinning_24 : decode cX2_isWinning 24 = .ok (.iload_n 1, 1) := dk_27 (dk_at dksX2_isWinning_1 0 rfl rfl)
theorem dX2_isWinning_25 : decode cX2_isWinning 25 = .ok (.iconst 1, 1) := dk_4 (dk_at dksX2_isWinning_1 1 rfl rfl)
theorem dX2_isWinning_26 : decode cX2_isWinning 26 = .ok (.iload_n 2, 1) := dk_28 (dk_at dksX2_isWinning_1 2 rfl rfl)
theorem dX2_isWinning_27 : decode cX2_isWinning 27 = .ok (.ishl, 1) := dk_120 (dk_at dksX2_isWinning_1 3 rfl rfl)
theorem dX2_isWinning_28 : decode cX2_isWinning 28 = .ok (.ior, 1) := dk_128 (dk_at dksX2_isWinning_1 4 rfl rfl)
theorem dX2_isWinning_29 : decode cX2_isWinning 29 = .ok (.baload, 1) := dk_51 (dk_at dksX2_isWinning_1 5 rfl rfl)
theorem dX2_isWinning_30 : decode cX2_isWinning 30 = .ok (.ifCond .ne 7, 3) := dk_154 0 7 (dk_at dksX2_isWinning_1 6 rfl rfl)
theorem dX2_isWinning_33 : decode cX2_isWinning 33 = .ok (.iconst 1, 1) := dk_4 (dk_at dksX2_isWinning_1 9 rfl rfl)
theorem dX2_isWinning_34 : decode cX2_isWinning 34 = .ok (.goto 4, 3) := dk_167 0 4 (dk_at dksX2_isWinning_1 10 rfl rfl)
theorem dX2_isWinning_37 : decode cX2_isWinning 37 = .ok (.iconst 0, 1) := dk_3 (dk_at dksX2_isWinning_1 13 rfl rfl)
theorem dX2_isWinning_38 : decode cX2_isWinning 38 = .ok (.ireturn, 1) := dk_172 (dk_at dksX2_isWinning_1 14 rfl rfl)
abbrev cX2_choose : ByteArray := prog_20_method_130_code
def yX2_choose : MethodName := ⟨RX2, "choose", "(II)I"⟩
def dkwX2_choose_1 : List UInt8 := [180, 0, 56, 28, 46, 172]
abbrev dktX2_choose_1 : List UInt8 := dkwX2_choose_1 ++ []
def dkwX2_choose_0 : List UInt8 := [27, 184, 1, 183, 153, 0, 11, 42, 28, 182, 1, 151, 154, 0, 5, 2, 172, 42, 27, 182, 1, 186, 87, 42]
abbrev dktX2_choose_0 : List UInt8 := dkwX2_choose_0 ++ dktX2_choose_1
theorem dksX2_choose_0 : cX2_choose.data.toList.drop 0 = dktX2_choose_0 := by decide +kernel
theorem dksX2_choose_1 : cX2_choose.data.toList.drop 24 = dktX2_choose_1 := dk_seg dksX2_choose_0 24 rfl rfl
theorem dX2_choose_0 : decode cX2_choose 0 = .ok (.iload_n 1, 1) := dk_27 (dk_at dksX2_choose_0 0 rfl rfl)
theorem dX2_choose_1 : decode cX2_choose 1 = .ok (.invokestatic 439, 3) := dk_184 1 183 (dk_at dksX2_choose_0 1 rfl rfl)
theorem dX2_choose_4 : decode cX2_choose 4 = .ok (.ifCond .eq 11, 3) := dk_153 0 11 (dk_at dksX2_choose_0 4 rfl rfl)
theorem dX2_choose_7 : decode cX2_choose 7 = .ok (.aload_n 0, 1) := dk_42 (dk_at dksX2_choose_0 7 rfl rfl)
theorem dX2_choose_8 : decode cX2_choose 8 = .ok (.iload_n 2, 1) := dk_28 (dk_at dksX2_choose_0 8 rfl rfl)
theorem dX2_choose_9 : decode cX2_choose 9 = .ok (.invokevirtual 407, 3) := dk_182 1 151 (dk_at dksX2_choose_0 9 rfl rfl)
theorem dX2_choose_12 : decode cX2_choose 12 = .ok (.ifCond .ne 5, 3) := dk_154 0 5 (dk_at dksX2_choose_0 12 rfl rfl)
theorem dX2_choose_15 : decode cX2_choose 15 = .ok (.iconst (-1), 1) := dk_2 (dk_at dksX2_choose_0 15 rfl rfl)
theorem dX2_choose_16 : decode cX2_choose 16 = .ok (.ireturn, 1) := dk_172 (dk_at dksX2_choose_0 16 rfl rfl)
theorem dX2_choose_17 : decode cX2_choose 17 = .ok (.aload_n 0, 1) := dk_42 (dk_at dksX2_choose_0 17 rfl rfl)
theorem dX2_choose_18 : decode cX2_choose 18 = .ok (.iload_n 1, 1) := dk_27 (dk_at dksX2_choose_0 18 rfl rfl)
theorem dX2_choose_19 : decode cX2_choose 19 = .ok (.invokevirtual 442, 3) := dk_182 1 186 (dk_at dksX2_choose_0 19 rfl rfl)
theorem dX2_choose_22 : decode cX2_choose 22 = .ok (.pop, 1) := dk_87 (dk_at dksX2_choose_0 22 rfl rfl)
theorem dX2_choose_23 : decode cX2_choose 23 = .ok (.aload_n 0, 1) := dk_42 (dk_at dksX2_choose_0 23 rfl rfl)
theorem dX2_choose_24 : decode cX2_choose 24 = .ok (.getfield 56, 3) := dk_180 0 56 (dk_at dksX2_choose_1 0 rfl rfl)
theorem dX2_choose_27 : decode cX2_choose 27 = .ok (.iload_n 2, 1) := dk_28 (dk_at dksX2_choose_1 3 rfl rfl)
theorem dX2_choose_28 : decode cX2_choose 28 = .ok (.iaload, 1) := dk_46 (dk_at dksX2_choose_1 4 rfl rfl)
theorem dX2_choose_29 : decode cX2_choose 29 = .ok (.ireturn, 1) := dk_172 (dk_at dksX2_choose_1 5 rfl rfl)
abbrev cX2_isOrder : ByteArray := prog_20_method_128_code
def yX2_isOrder : MethodName := ⟨RX2, "isOrder", "(I)Z"⟩
def dkwX2_isOrder_2 : List UInt8 := [167, 0, 4, 3, 172]
abbrev dktX2_isOrder_2 : List UInt8 := dkwX2_isOrder_2 ++ []
def dkwX2_isOrder_1 : List UInt8 := [27, 4, 26, 28, 184, 1, 180, 120, 128, 60, 132, 2, 1, 167, 255, 238, 27, 16, 31, 160, 0, 7, 4]
abbrev dktX2_isOrder_1 : List UInt8 := dkwX2_isOrder_1 ++ dktX2_isOrder_2
def dkwX2_isOrder_0 : List UInt8 := [26, 17, 4, 210, 19, 1, 179, 184, 0, 75, 154, 0, 5, 3, 172, 3, 60, 3, 61, 28, 8, 162, 0, 19]
abbrev dktX2_isOrder_0 : List UInt8 := dkwX2_isOrder_0 ++ dktX2_isOrder_1
theorem dksX2_isOrder_0 : cX2_isOrder.data.toList.drop 0 = dktX2_isOrder_0 := by decide +kernel
theorem dksX2_isOrder_1 : cX2_isOrder.data.toList.drop 24 = dktX2_isOrder_1 := dk_seg dksX2_isOrder_0 24 rfl rfl
theorem dksX2_isOrder_2 : cX2_isOrder.data.toList.drop 47 = dktX2_isOrder_2 := dk_seg dksX2_isOrder_1 23 rfl rfl
theorem dX2_isOrder_0 : decode cX2_isOrder 0 = .ok (.iload_n 0, 1) := dk_26 (dk_at dksX2_isOrder_0 0 rfl rfl)
theorem dX2_isOrder_1 : decode cX2_isOrder 1 = .ok (.sipush 1234, 3) := dk_17 4 210 (dk_at dksX2_isOrder_0 1 rfl rfl)
theorem dX2_isOrder_4 : decode cX2_isOrder 4 = .ok (.ldc_w 435, 3) := dk_19 1 179 (dk_at dksX2_isOrder_0 4 rfl rfl)
theorem dX2_isOrder_7 : decode cX2_isOrder 7 = .ok (.invokestatic 75, 3) := dk_184 0 75 (dk_at dksX2_isOrder_0 7 rfl rfl)
theorem dX2_isOrder_10 : decode cX2_isOrder 10 = .ok (.ifCond .ne 5, 3) := dk_154 0 5 (dk_at dksX2_isOrder_0 10 rfl rfl)
theorem dX2_isOrder_13 : decode cX2_isOrder 13 = .ok (.iconst 0, 1) := dk_3 (dk_at dksX2_isOrder_0 13 rfl rfl)
theorem dX2_isOrder_14 : decode cX2_isOrder 14 = .ok (.ireturn, 1) := dk_172 (dk_at dksX2_isOrder_0 14 rfl rfl)
theorem dX2_isOrder_15 : decode cX2_isOrder 15 = .ok (.iconst 0, 1) := dk_3 (dk_at dksX2_isOrder_0 15 rfl rfl)
theorem dX2_isOrder_16 : decode cX2_isOrder 16 = .ok (.istore_n 1, 1) := dk_60 (dk_at dksX2_isOrder_0 16 rfl rfl)
theorem dX2_isOrder_17 : decode cX2_isOrder 17 = .ok (.iconst 0, 1) := dk_3 (dk_at dksX2_isOrder_0 17 rfl rfl)
theorem dX2_isOrder_18 : decode cX2_isOrder 18 = .ok (.istore_n 2, 1) := dk_61 (dk_at dksX2_isOrder_0 18 rfl rfl)
theorem dX2_isOrder_19 : decode cX2_isOrder 19 = .ok (.iload_n 2, 1) := dk_28 (dk_at dksX2_isOrder_0 19 rfl rfl)
theorem dX2_isOrder_20 : decode cX2_isOrder 20 = .ok (.iconst 5, 1) := dk_8 (dk_at dksX2_isOrder_0 20 rfl rfl)
theorem dX2_isOrder_21 : decode cX2_isOrder 21 = .ok (.if_icmp .ge 19, 3) := dk_162 0 19 (dk_at dksX2_isOrder_0 21 rfl rfl)
theorem dX2_isOrder_24 : decode cX2_isOrder 24 = .ok (.iload_n 1, 1) := dk_27 (dk_at dksX2_isOrder_1 0 rfl rfl)
theorem dX2_isOrder_25 : decode cX2_isOrder 25 = .ok (.iconst 1, 1) := dk_4 (dk_at dksX2_isOrder_1 1 rfl rfl)
theorem dX2_isOrder_26 : decode cX2_isOrder 26 = .ok (.iload_n 0, 1) := dk_26 (dk_at dksX2_isOrder_1 2 rfl rfl)
theorem dX2_isOrder_27 : decode cX2_isOrder 27 = .ok (.iload_n 2, 1) := dk_28 (dk_at dksX2_isOrder_1 3 rfl rfl)
theorem dX2_isOrder_28 : decode cX2_isOrder 28 = .ok (.invokestatic 436, 3) := dk_184 1 180 (dk_at dksX2_isOrder_1 4 rfl rfl)
theorem dX2_isOrder_31 : decode cX2_isOrder 31 = .ok (.ishl, 1) := dk_120 (dk_at dksX2_isOrder_1 7 rfl rfl)
theorem dX2_isOrder_32 : decode cX2_isOrder 32 = .ok (.ior, 1) := dk_128 (dk_at dksX2_isOrder_1 8 rfl rfl)
theorem dX2_isOrder_33 : decode cX2_isOrder 33 = .ok (.istore_n 1, 1) := dk_60 (dk_at dksX2_isOrder_1 9 rfl rfl)
theorem dX2_isOrder_34 : decode cX2_isOrder 34 = .ok (.iinc 2 1, 3) := dk_132 2 1 (dk_at dksX2_isOrder_1 10 rfl rfl)
theorem dX2_isOrder_37 : decode cX2_isOrder 37 = .ok (.goto (-18), 3) := dk_167 255 238 (dk_at dksX2_isOrder_1 13 rfl rfl)
theorem dX2_isOrder_40 : decode cX2_isOrder 40 = .ok (.iload_n 1, 1) := dk_27 (dk_at dksX2_isOrder_1 16 rfl rfl)
theorem dX2_isOrder_41 : decode cX2_isOrder 41 = .ok (.bipush 31, 2) := dk_16 31 (dk_at dksX2_isOrder_1 17 rfl rfl)
theorem dX2_isOrder_43 : decode cX2_isOrder 43 = .ok (.if_icmp .ne 7, 3) := dk_160 0 7 (dk_at dksX2_isOrder_1 19 rfl rfl)
theorem dX2_isOrder_46 : decode cX2_isOrder 46 = .ok (.iconst 1, 1) := dk_4 (dk_at dksX2_isOrder_1 22 rfl rfl)
theorem dX2_isOrder_47 : decode cX2_isOrder 47 = .ok (.goto 4, 3) := dk_167 0 4 (dk_at dksX2_isOrder_2 0 rfl rfl)
theorem dX2_isOrder_50 : decode cX2_isOrder 50 = .ok (.iconst 0, 1) := dk_3 (dk_at dksX2_isOrder_2 3 rfl rfl)
theorem dX2_isOrder_51 : decode cX2_isOrder 51 = .ok (.ireturn, 1) := dk_172 (dk_at dksX2_isOrder_2 4 rfl rfl)
abbrev cX2_digitOf : ByteArray := prog_20_method_127_code
def yX2_digitOf : MethodName := ⟨RX2, "digitOf", "(II)I"⟩
def dkwX2_digitOf_1 : List UInt8 := [172]
abbrev dktX2_digitOf_1 : List UInt8 := dkwX2_digitOf_1 ++ []
def dkwX2_digitOf_0 : List UInt8 := [26, 61, 7, 62, 29, 27, 164, 0, 14, 28, 16, 10, 108, 61, 132, 3, 255, 167, 255, 243, 28, 16, 10, 112]
abbrev dktX2_digitOf_0 : List UInt8 := dkwX2_digitOf_0 ++ dktX2_digitOf_1
theorem dksX2_digitOf_0 : cX2_digitOf.data.toList.drop 0 = dktX2_digitOf_0 := by decide +kernel
theorem dksX2_digitOf_1 : cX2_digitOf.data.toList.drop 24 = dktX2_digitOf_1 := dk_seg dksX2_digitOf_0 24 rfl rfl
theorem dX2_digitOf_0 : decode cX2_digitOf 0 = .ok (.iload_n 0, 1) := dk_26 (dk_at dksX2_digitOf_0 0 rfl rfl)
theorem dX2_digitOf_1 : decode cX2_digitOf 1 = .ok (.istore_n 2, 1) := dk_61 (dk_at dksX2_digitOf_0 1 rfl rfl)
theorem dX2_digitOf_2 : decode cX2_digitOf 2 = .ok (.iconst 4, 1) := dk_7 (dk_at dksX2_digitOf_0 2 rfl rfl)
theorem dX2_digitOf_3 : decode cX2_digitOf 3 = .ok (.istore_n 3, 1) := dk_62 (dk_at dksX2_digitOf_0 3 rfl rfl)
theorem dX2_digitOf_4 : decode cX2_digitOf 4 = .ok (.iload_n 3, 1) := dk_29 (dk_at dksX2_digitOf_0 4 rfl rfl)
theorem dX2_digitOf_5 : decode cX2_digitOf 5 = .ok (.iload_n 1, 1) := dk_27 (dk_at dksX2_digitOf_0 5 rfl rfl)
theorem dX2_digitOf_6 : decode cX2_digitOf 6 = .ok (.if_icmp .le 14, 3) := dk_164 0 14 (dk_at dksX2_digitOf_0 6 rfl rfl)
theorem dX2_digitOf_9 : decode cX2_digitOf 9 = .ok (.iload_n 2, 1) := dk_28 (dk_at dksX2_digitOf_0 9 rfl rfl)
theorem dX2_digitOf_10 : decode cX2_digitOf 10 = .ok (.bipush 10, 2) := dk_16 10 (dk_at dksX2_digitOf_0 10 rfl rfl)
theorem dX2_digitOf_12 : decode cX2_digitOf 12 = .ok (.idiv, 1) := dk_108 (dk_at dksX2_digitOf_0 12 rfl rfl)
theorem dX2_digitOf_13 : decode cX2_digitOf 13 = .ok (.istore_n 2, 1) := dk_61 (dk_at dksX2_digitOf_0 13 rfl rfl)
theorem dX2_digitOf_14 : decode cX2_digitOf 14 = .ok (.iinc 3 (-1), 3) := dk_132 3 255 (dk_at dksX2_digitOf_0 14 rfl rfl)
theorem dX2_digitOf_17 : decode cX2_digitOf 17 = .ok (.goto (-13), 3) := dk_167 255 243 (dk_at dksX2_digitOf_0 17 rfl rfl)
theorem dX2_digitOf_20 : decode cX2_digitOf 20 = .ok (.iload_n 2, 1) := dk_28 (dk_at dksX2_digitOf_0 20 rfl rfl)
theorem dX2_digitOf_21 : decode cX2_digitOf 21 = .ok (.bipush 10, 2) := dk_16 10 (dk_at dksX2_digitOf_0 21 rfl rfl)
theorem dX2_digitOf_23 : decode cX2_digitOf 23 = .ok (.irem, 1) := dk_112 (dk_at dksX2_digitOf_0 23 rfl rfl)
theorem dX2_digitOf_24 : decode cX2_digitOf 24 = .ok (.ireturn, 1) := dk_172 (dk_at dksX2_digitOf_1 0 rfl rfl)
abbrev cX2_layChosen : ByteArray := prog_20_method_129_code
def yX2_layChosen : MethodName := ⟨RX2, "layChosen", "(I)I"⟩
def dkwX2_layChosen_5 : List UInt8 := [62, 132, 4, 1, 167, 255, 142, 29, 172]
abbrev dktX2_layChosen_5 : List UInt8 := dkwX2_layChosen_5 ++ []
def dkwX2_layChosen_4 : List UInt8 := [21, 5, 21, 6, 79, 28, 4, 21, 6, 120, 2, 130, 126, 61, 29, 42, 21, 5, 21, 6, 182, 1, 59, 96]
abbrev dktX2_layChosen_4 : List UInt8 := dkwX2_layChosen_4 ++ dktX2_layChosen_5
def dkwX2_layChosen_3 : List UInt8 := [21, 5, 21, 6, 182, 1, 59, 164, 0, 7, 21, 7, 54, 6, 132, 7, 1, 167, 255, 209, 42, 180, 0, 56]
abbrev dktX2_layChosen_3 : List UInt8 := dkwX2_layChosen_3 ++ dktX2_layChosen_4
def dkwX2_layChosen_2 : List UInt8 := [21, 7, 184, 0, 87, 153, 0, 32, 21, 6, 2, 159, 0, 22, 42, 21, 5, 21, 7, 182, 1, 59, 42]
abbrev dktX2_layChosen_2 : List UInt8 := dkwX2_layChosen_2 ++ dktX2_layChosen_3
def dkwX2_layChosen_1 : List UInt8 := [21, 5, 182, 1, 151, 154, 0, 6, 167, 0, 88, 2, 54, 6, 3, 54, 7, 21, 7, 8, 162, 0, 47, 28]
abbrev dktX2_layChosen_1 : List UInt8 := dkwX2_layChosen_1 ++ dktX2_layChosen_2
def dkwX2_layChosen_0 : List UInt8 := [16, 31, 61, 3, 62, 3, 54, 4, 21, 4, 8, 162, 0, 114, 27, 21, 4, 184, 1, 180, 54, 5, 42]
abbrev dktX2_layChosen_0 : List UInt8 := dkwX2_layChosen_0 ++ dktX2_layChosen_1
theorem dksX2_layChosen_0 : cX2_layChosen.data.toList.drop 0 = dktX2_layChosen_0 := by decide +kernel
theorem dksX2_layChosen_1 : cX2_layChosen.data.toList.drop 23 = dktX2_layChosen_1 := dk_seg dksX2_layChosen_0 23 rfl rfl
theorem dksX2_layChosen_2 : cX2_layChosen.data.toList.drop 47 = dktX2_layChosen_2 := dk_seg dksX2_layChosen_1 24 rfl rfl
theorem dksX2_layChosen_3 : cX2_layChosen.data.toList.drop 70 = dktX2_layChosen_3 := dk_seg dksX2_layChosen_2 23 rfl rfl
theorem dksX2_layChosen_4 : cX2_layChosen.data.toList.drop 94 = dktX2_layChosen_4 := dk_seg dksX2_layChosen_3 24 rfl rfl
theorem dksX2_layChosen_5 : cX2_layChosen.data.toList.drop 118 = dktX2_layChosen_5 := dk_seg dksX2_layChosen_4 24 rfl rfl
theorem dX2_layChosen_0 : decode cX2_layChosen 0 = .ok (.bipush 31, 2) := dk_16 31 (dk_at dksX2_layChosen_0 0 rfl rfl)
theorem dX2_layChosen_2 : decode cX2_layChosen 2 = .ok (.istore_n 2, 1) := dk_61 (dk_at dksX2_layChosen_0 2 rfl rfl)
theorem dX2_layChosen_3 : decode cX2_layChosen 3 = .ok (.iconst 0, 1) := dk_3 (dk_at dksX2_layChosen_0 3 rfl rfl)
theorem dX2_layChosen_4 : decode cX2_layChosen 4 = .ok (.istore_n 3, 1) := dk_62 (dk_at dksX2_layChosen_0 4 rfl rfl)
theorem dX2_layChosen_5 : decode cX2_layChosen 5 = .ok (.iconst 0, 1) := dk_3 (dk_at dksX2_layChosen_0 5 rfl rfl)
theorem dX2_layChosen_6 : decode cX2_layChosen 6 = .ok (.istore 4, 2) := dk_54 4 (dk_at dksX2_layChosen_0 6 rfl rfl)
theorem dX2_layChosen_8 : decode cX2_layChosen 8 = .ok (.iload 4, 2) := dk_21 4 (dk_at dksX2_layChosen_0 8 rfl rfl)
theorem dX2_layChosen_10 : decode cX2_layChosen 10 = .ok (.iconst 5, 1) := dk_8 (dk_at dksX2_layChosen_0 10 rfl rfl)
theorem dX2_layChosen_11 : decode cX2_layChosen 11 = .ok (.if_icmp .ge 114, 3) := dk_162 0 114 (dk_at dksX2_layChosen_0 11 rfl rfl)
theorem dX2_layChosen_14 : decode cX2_layChosen 14 = .ok (.iload_n 1, 1) := dk_27 (dk_at dksX2_layChosen_0 14 rfl rfl)
theorem dX2_layChosen_15 : decode cX2_layChosen 15 = .ok (.iload 4, 2) := dk_21 4 (dk_at dksX2_layChosen_0 15 rfl rfl)
theorem dX2_layChosen_17 : decode cX2_layChosen 17 = .ok (.invokestatic 436, 3) := dk_184 1 180 (dk_at dksX2_layChosen_0 17 rfl rfl)
theorem dX2_layChosen_20 : decode cX2_layChosen 20 = .ok (.istore 5, 2) := dk_54 5 (dk_at dksX2_layChosen_0 20 rfl rfl)
theorem dX2_layChosen_22 : decode cX2_layChosen 22 = .ok (.aload_n 0, 1) := dk_42 (dk_at dksX2_layChosen_0 22 rfl rfl)
theorem dX2_layChosen_23 : decode cX2_layChosen 23 = .ok (.iload 5, 2) := dk_21 5 (dk_at dksX2_layChosen_1 0 rfl rfl)
theorem dX2_layChosen_25 : decode cX2_layChosen 25 = .ok (.invokevirtual 407, 3) := dk_182 1 151 (dk_at dksX2_layChosen_1 2 rfl rfl)
theorem dX2_layChosen_28 : decode cX2_layChosen 28 = .ok (.ifCond .ne 6, 3) := dk_154 0 6 (dk_at dksX2_layChosen_1 5 rfl rfl)
theorem dX2_layChosen_31 : decode cX2_layChosen 31 = .ok (.goto 88, 3) := dk_167 0 88 (dk_at dksX2_layChosen_1 8 rfl rfl)
theorem dX2_layChosen_34 : decode cX2_layChosen 34 = .ok (.iconst (-1), 1) := dk_2 (dk_at dksX2_layChosen_1 11 rfl rfl)
theorem dX2_layChosen_35 : decode cX2_layChosen 35 = .ok (.istore 6, 2) := dk_54 6 (dk_at dksX2_layChosen_1 12 rfl rfl)
theorem dX2_layChosen_37 : decode cX2_layChosen 37 = .ok (.iconst 0, 1) := dk_3 (dk_at dksX2_layChosen_1 14 rfl rfl)
theorem dX2_layChosen_38 : decode cX2_layChosen 38 = .ok (.istore 7, 2) := dk_54 7 (dk_at dksX2_layChosen_1 15 rfl rfl)
theorem dX2_layChosen_40 : decode cX2_layChosen 40 = .ok (.iload 7, 2) := dk_21 7 (dk_at dksX2_layChosen_1 17 rfl rfl)
theorem dX2_layChosen_42 : decode cX2_layChosen 42 = .ok (.iconst 5, 1) := dk_8 (dk_at dksX2_layChosen_1 19 rfl rfl)
theorem dX2_layChosen_43 : decode cX2_layChosen 43 = .ok (.if_icmp .ge 47, 3) := dk_162 0 47 (dk_at dksX2_layChosen_1 20 rfl rfl)
theorem dX2_layChosen_46 : decode cX2_layChosen 46 = .ok (.iload_n 2, 1) := dk_28 (dk_at dksX2_layChosen_1 23 rfl rfl)
theorem dX2_layChosen_47 : decode cX2_layChosen 47 = .ok (.iload 7, 2) := dk_21 7 (dk_at dksX2_layChosen_2 0 rfl rfl)
theorem dX2_layChosen_49 : decode cX2_layChosen 49 = .ok (.invokestatic 87, 3) := dk_184 0 87 (dk_at dksX2_layChosen_2 2 rfl rfl)
theorem dX2_layChosen_52 : decode cX2_layChosen 52 = .ok (.ifCond .eq 32, 3) := dk_153 0 32 (dk_at dksX2_layChosen_2 5 rfl rfl)
theorem dX2_layChosen_55 : decode cX2_layChosen 55 = .ok (.iload 6, 2) := dk_21 6 (dk_at dksX2_layChosen_2 8 rfl rfl)
theorem dX2_layChosen_57 : decode cX2_layChosen 57 = .ok (.iconst (-1), 1) := dk_2 (dk_at dksX2_layChosen_2 10 rfl rfl)
theorem dX2_layChosen_58 : decode cX2_layChosen 58 = .ok (.if_icmp .eq 22, 3) := dk_159 0 22 (dk_at dksX2_layChosen_2 11 rfl rfl)
theorem dX2_layChosen_61 : decode cX2_layChosen 61 = .ok (.aload_n 0, 1) := dk_42 (dk_at dksX2_layChosen_2 14 rfl rfl)
theorem dX2_layChosen_62 : decode cX2_layChosen 62 = .ok (.iload 5, 2) := dk_21 5 (dk_at dksX2_layChosen_2 15 rfl rfl)
theorem dX2_layChosen_64 : decode cX2_layChosen 64 = .ok (.iload 7, 2) := dk_21 7 (dk_at dksX2_layChosen_2 17 rfl rfl)
theorem dX2_layChosen_66 : decode cX2_layChosen 66 = .ok (.invokevirtual 315, 3) := dk_182 1 59 (dk_at dksX2_layChosen_2 19 rfl rfl)
theorem dX2_layChosen_69 : decode cX2_layChosen 69 = .ok (.aload_n 0, 1) := dk_42 (dk_at dksX2_layChosen_2 22 rfl rfl)
theorem dX2_layChosen_70 : decode cX2_layChosen 70 = .ok (.iload 5, 2) := dk_21 5 (dk_at dksX2_layChosen_3 0 rfl rfl)
theorem dX2_layChosen_72 : decode cX2_layChosen 72 = .ok (.iload 6, 2) := dk_21 6 (dk_at dksX2_layChosen_3 2 rfl rfl)
theorem dX2_layChosen_74 : decode cX2_layChosen 74 = .ok (.invokevirtual 315, 3) := dk_182 1 59 (dk_at dksX2_layChosen_3 4 rfl rfl)
theorem dX2_layChosen_77 : decode cX2_layChosen 77 = .ok (.if_icmp .le 7, 3) := dk_164 0 7 (dk_at dksX2_layChosen_3 7 rfl rfl)
theorem dX2_layChosen_80 : decode cX2_layChosen 80 = .ok (.iload 7, 2) := dk_21 7 (dk_at dksX2_layChosen_3 10 rfl rfl)
theorem dX2_layChosen_82 : decode cX2_layChosen 82 = .ok (.istore 6, 2) := dk_54 6 (dk_at dksX2_layChosen_3 12 rfl rfl)
theorem dX2_layChosen_84 : decode cX2_layChosen 84 = .ok (.iinc 7 1, 3) := dk_132 7 1 (dk_at dksX2_layChosen_3 14 rfl rfl)
theorem dX2_layChosen_87 : decode cX2_layChosen 87 = .ok (.goto (-47), 3) := dk_167 255 209 (dk_at dksX2_layChosen_3 17 rfl rfl)
theorem dX2_layChosen_90 : decode cX2_layChosen 90 = .ok (.aload_n 0, 1) := dk_42 (dk_at dksX2_layChosen_3 20 rfl rfl)
theorem dX2_layChosen_91 : decode cX2_layChosen 91 = .ok (.getfield 56, 3) := dk_180 0 56 (dk_at dksX2_layChosen_3 21 rfl rfl)
theorem dX2_layChosen_94 : decode cX2_layChosen 94 = .ok (.iload 5, 2) := dk_21 5 (dk_at dksX2_layChosen_4 0 rfl rfl)
theorem dX2_layChosen_96 : decode cX2_layChosen 96 = .ok (.iload 6, 2) := dk_21 6 (dk_at dksX2_layChosen_4 2 rfl rfl)
theorem dX2_layChosen_98 : decode cX2_layChosen 98 = .ok (.iastore, 1) := dk_79 (dk_at dksX2_layChosen_4 4 rfl rfl)
theorem dX2_layChosen_99 : decode cX2_layChosen 99 = .ok (.iload_n 2, 1) := dk_28 (dk_at dksX2_layChosen_4 5 rfl rfl)
theorem dX2_layChosen_100 : decode cX2_layChosen 100 = .ok (.iconst 1, 1) := dk_4 (dk_at dksX2_layChosen_4 6 rfl rfl)
theorem dX2_layChosen_101 : decode cX2_layChosen 101 = .ok (.iload 6, 2) := dk_21 6 (dk_at dksX2_layChosen_4 7 rfl rfl)
theorem dX2_layChosen_103 : decode cX2_layChosen 103 = .ok (.ishl, 1) := dk_120 (dk_at dksX2_layChosen_4 9 rfl rfl)
theorem dX2_layChosen_104 : decode cX2_layChosen 104 = .ok (.iconst (-1), 1) := dk_2 (dk_at dksX2_layChosen_4 10 rfl rfl)
theorem dX2_layChosen_105 : decode cX2_layChosen 105 = .ok (.ixor, 1) := dk_130 (dk_at dksX2_layChosen_4 11 rfl rfl)
theorem dX2_layChosen_106 : decode cX2_layChosen 106 = .ok (.iand, 1) := dk_126 (dk_at dksX2_layChosen_4 12 rfl rfl)
theorem dX2_layChosen_107 : decode cX2_layChosen 107 = .ok (.istore_n 2, 1) := dk_61 (dk_at dksX2_layChosen_4 13 rfl rfl)
theorem dX2_layChosen_108 : decode cX2_layChosen 108 = .ok (.iload_n 3, 1) := dk_29 (dk_at dksX2_layChosen_4 14 rfl rfl)
theorem dX2_layChosen_109 : decode cX2_layChosen 109 = .ok (.aload_n 0, 1) := dk_42 (dk_at dksX2_layChosen_4 15 rfl rfl)
theorem dX2_layChosen_110 : decode cX2_layChosen 110 = .ok (.iload 5, 2) := dk_21 5 (dk_at dksX2_layChosen_4 16 rfl rfl)
theorem dX2_layChosen_112 : decode cX2_layChosen 112 = .ok (.iload 6, 2) := dk_21 6 (dk_at dksX2_layChosen_4 18 rfl rfl)
theorem dX2_layChosen_114 : decode cX2_layChosen 114 = .ok (.invokevirtual 315, 3) := dk_182 1 59 (dk_at dksX2_layChosen_4 20 rfl rfl)
theorem dX2_layChosen_117 : decode cX2_layChosen 117 = .ok (.iadd, 1) := dk_96 (dk_at dksX2_layChosen_4 23 rfl rfl)
theorem dX2_layChosen_118 : decode cX2_layChosen 118 = .ok (.istore_n 3, 1) := dk_62 (dk_at dksX2_layChosen_5 0 rfl rfl)
theorem dX2_layChosen_119 : decode cX2_layChosen 119 = .ok (.iinc 4 1, 3) := dk_132 4 1 (dk_at dksX2_layChosen_5 1 rfl rfl)
theorem dX2_layChosen_122 : decode cX2_layChosen 122 = .ok (.goto (-114), 3) := dk_167 255 142 (dk_at dksX2_layChosen_5 4 rfl rfl)
theorem dX2_layChosen_125 : decode cX2_layChosen 125 = .ok (.iload_n 3, 1) := dk_29 (dk_at dksX2_layChosen_5 7 rfl rfl)
theorem dX2_layChosen_126 : decode cX2_layChosen 126 = .ok (.ireturn, 1) := dk_172 (dk_at dksX2_layChosen_5 8 rfl rfl)
abbrev cX2_best : ByteArray := prog_20_method_131_code
def yX2_best : MethodName := ⟨RX2, "best", "(Z)I"⟩
def dkwX2_best_2 : List UInt8 := [21, 5, 62, 21, 4, 61, 132, 4, 1, 167, 255, 211, 27, 153, 0, 7, 28, 167, 0, 4, 29, 172]
abbrev dktX2_best_2 : List UInt8 := dkwX2_best_2 ++ []
def dkwX2_best_1 : List UInt8 := [154, 0, 6, 167, 0, 26, 42, 21, 4, 182, 1, 186, 54, 5, 21, 5, 29, 163, 0, 6, 167, 0, 9]
abbrev dktX2_best_1 : List UInt8 := dkwX2_best_1 ++ dktX2_best_2
def dkwX2_best_0 : List UInt8 := [17, 4, 210, 61, 2, 62, 17, 4, 210, 54, 4, 21, 4, 19, 1, 179, 163, 0, 43, 21, 4, 184, 1, 183]
abbrev dktX2_best_0 : List UInt8 := dkwX2_best_0 ++ dktX2_best_1
theorem dksX2_best_0 : cX2_best.data.toList.drop 0 = dktX2_best_0 := by decide +kernel
theorem dksX2_best_1 : cX2_best.data.toList.drop 24 = dktX2_best_1 := dk_seg dksX2_best_0 24 rfl rfl
theorem dksX2_best_2 : cX2_best.data.toList.drop 47 = dktX2_best_2 := dk_seg dksX2_best_1 23 rfl rfl
theorem dX2_best_0 : decode cX2_best 0 = .ok (.sipush 1234, 3) := dk_17 4 210 (dk_at dksX2_best_0 0 rfl rfl)
theorem dX2_best_3 : decode cX2_best 3 = .ok (.istore_n 2, 1) := dk_61 (dk_at dksX2_best_0 3 rfl rfl)
theorem dX2_best_4 : decode cX2_best 4 = .ok (.iconst (-1), 1) := dk_2 (dk_at dksX2_best_0 4 rfl rfl)
theorem dX2_best_5 : decode cX2_best 5 = .ok (.istore_n 3, 1) := dk_62 (dk_at dksX2_best_0 5 rfl rfl)
theorem dX2_best_6 : decode cX2_best 6 = .ok (.sipush 1234, 3) := dk_17 4 210 (dk_at dksX2_best_0 6 rfl rfl)
theorem dX2_best_9 : decode cX2_best 9 = .ok (.istore 4, 2) := dk_54 4 (dk_at dksX2_best_0 9 rfl rfl)
theorem dX2_best_11 : decode cX2_best 11 = .ok (.iload 4, 2) := dk_21 4 (dk_at dksX2_best_0 11 rfl rfl)
theorem dX2_best_13 : decode cX2_best 13 = .ok (.ldc_w 435, 3) := dk_19 1 179 (dk_at dksX2_best_0 13 rfl rfl)
theorem dX2_best_16 : decode cX2_best 16 = .ok (.if_icmp .gt 43, 3) := dk_163 0 43 (dk_at dksX2_best_0 16 rfl rfl)
theorem dX2_best_19 : decode cX2_best 19 = .ok (.iload 4, 2) := dk_21 4 (dk_at dksX2_best_0 19 rfl rfl)
theorem dX2_best_21 : decode cX2_best 21 = .ok (.invokestatic 439, 3) := dk_184 1 183 (dk_at dksX2_best_0 21 rfl rfl)
theorem dX2_best_24 : decode cX2_best 24 = .ok (.ifCond .ne 6, 3) := dk_154 0 6 (dk_at dksX2_best_1 0 rfl rfl)
theorem dX2_best_27 : decode cX2_best 27 = .ok (.goto 26, 3) := dk_167 0 26 (dk_at dksX2_best_1 3 rfl rfl)
theorem dX2_best_30 : decode cX2_best 30 = .ok (.aload_n 0, 1) := dk_42 (dk_at dksX2_best_1 6 rfl rfl)
theorem dX2_best_31 : decode cX2_best 31 = .ok (.iload 4, 2) := dk_21 4 (dk_at dksX2_best_1 7 rfl rfl)
theorem dX2_best_33 : decode cX2_best 33 = .ok (.invokevirtual 442, 3) := dk_182 1 186 (dk_at dksX2_best_1 9 rfl rfl)
theorem dX2_best_36 : decode cX2_best 36 = .ok (.istore 5, 2) := dk_54 5 (dk_at dksX2_best_1 12 rfl rfl)
theorem dX2_best_38 : decode cX2_best 38 = .ok (.iload 5, 2) := dk_21 5 (dk_at dksX2_best_1 14 rfl rfl)
theorem dX2_best_40 : decode cX2_best 40 = .ok (.iload_n 3, 1) := dk_29 (dk_at dksX2_best_1 16 rfl rfl)
theorem dX2_best_41 : decode cX2_best 41 = .ok (.if_icmp .gt 6, 3) := dk_163 0 6 (dk_at dksX2_best_1 17 rfl rfl)
theorem dX2_best_44 : decode cX2_best 44 = .ok (.goto 9, 3) := dk_167 0 9 (dk_at dksX2_best_1 20 rfl rfl)
theorem dX2_best_47 : decode cX2_best 47 = .ok (.iload 5, 2) := dk_21 5 (dk_at dksX2_best_2 0 rfl rfl)
theorem dX2_best_49 : decode cX2_best 49 = .ok (.istore_n 3, 1) := dk_62 (dk_at dksX2_best_2 2 rfl rfl)
theorem dX2_best_50 : decode cX2_best 50 = .ok (.iload 4, 2) := dk_21 4 (dk_at dksX2_best_2 3 rfl rfl)
theorem dX2_best_52 : decode cX2_best 52 = .ok (.istore_n 2, 1) := dk_61 (dk_at dksX2_best_2 5 rfl rfl)
theorem dX2_best_53 : decode cX2_best 53 = .ok (.iinc 4 1, 3) := dk_132 4 1 (dk_at dksX2_best_2 6 rfl rfl)
theorem dX2_best_56 : decode cX2_best 56 = .ok (.goto (-45), 3) := dk_167 255 211 (dk_at dksX2_best_2 9 rfl rfl)
theorem dX2_best_59 : decode cX2_best 59 = .ok (.iload_n 1, 1) := dk_27 (dk_at dksX2_best_2 12 rfl rfl)
theorem dX2_best_60 : decode cX2_best 60 = .ok (.ifCond .eq 7, 3) := dk_153 0 7 (dk_at dksX2_best_2 13 rfl rfl)
theorem dX2_best_63 : decode cX2_best 63 = .ok (.iload_n 2, 1) := dk_28 (dk_at dksX2_best_2 16 rfl rfl)
theorem dX2_best_64 : decode cX2_best 64 = .ok (.goto 4, 3) := dk_167 0 4 (dk_at dksX2_best_2 17 rfl rfl)
theorem dX2_best_67 : decode cX2_best 67 = .ok (.iload_n 3, 1) := dk_29 (dk_at dksX2_best_2 20 rfl rfl)
theorem dX2_best_68 : decode cX2_best 68 = .ok (.ireturn, 1) := dk_172 (dk_at dksX2_best_2 21 rfl rfl)
abbrev cX2_trade : ByteArray := prog_20_method_135_code
def yX2_trade : MethodName := ⟨RX2, "trade", "(I)I"⟩
def dkwX2_trade_0 : List UInt8 := [42, 27, 182, 1, 151, 153, 0, 10, 42, 182, 1, 195, 154, 0, 5, 2, 172, 42, 180, 0, 59, 27, 46, 172]
abbrev dktX2_trade_0 : List UInt8 := dkwX2_trade_0 ++ []
theorem dksX2_trade_0 : cX2_trade.data.toList.drop 0 = dktX2_trade_0 := by decide +kernel
theorem dX2_trade_0 : decode cX2_trade 0 = .ok (.aload_n 0, 1) := dk_42 (dk_at dksX2_trade_0 0 rfl rfl)
theorem dX2_trade_1 : decode cX2_trade 1 = .ok (.iload_n 1, 1) := dk_27 (dk_at dksX2_trade_0 1 rfl rfl)
theorem dX2_trade_2 : decode cX2_trade 2 = .ok (.invokevirtual 407, 3) := dk_182 1 151 (dk_at dksX2_trade_0 2 rfl rfl)
theorem dX2_trade_5 : decode cX2_trade 5 = .ok (.ifCond .eq 10, 3) := dk_153 0 10 (dk_at dksX2_trade_0 5 rfl rfl)
theorem dX2_trade_8 : decode cX2_trade 8 = .ok (.aload_n 0, 1) := dk_42 (dk_at dksX2_trade_0 8 rfl rfl)
theorem dX2_trade_9 : decode cX2_trade 9 = .ok (.invokevirtual 451, 3) := dk_182 1 195 (dk_at dksX2_trade_0 9 rfl rfl)
theorem dX2_trade_12 : decode cX2_trade 12 = .ok (.ifCond .ne 5, 3) := dk_154 0 5 (dk_at dksX2_trade_0 12 rfl rfl)
theorem dX2_trade_15 : decode cX2_trade 15 = .ok (.iconst (-1), 1) := dk_2 (dk_at dksX2_trade_0 15 rfl rfl)
theorem dX2_trade_16 : decode cX2_trade 16 = .ok (.ireturn, 1) := dk_172 (dk_at dksX2_trade_0 16 rfl rfl)
theorem dX2_trade_17 : decode cX2_trade 17 = .ok (.aload_n 0, 1) := dk_42 (dk_at dksX2_trade_0 17 rfl rfl)
theorem dX2_trade_18 : decode cX2_trade 18 = .ok (.getfield 59, 3) := dk_180 0 59 (dk_at dksX2_trade_0 18 rfl rfl)
theorem dX2_trade_21 : decode cX2_trade 21 = .ok (.iload_n 1, 1) := dk_27 (dk_at dksX2_trade_0 21 rfl rfl)
theorem dX2_trade_22 : decode cX2_trade 22 = .ok (.iaload, 1) := dk_46 (dk_at dksX2_trade_0 22 rfl rfl)
theorem dX2_trade_23 : decode cX2_trade 23 = .ok (.ireturn, 1) := dk_172 (dk_at dksX2_trade_0 23 rfl rfl)
abbrev cX2_layTraded : ByteArray := prog_20_method_134_code
def yX2_layTraded : MethodName := ⟨RX2, "layTraded", "()I"⟩
def dkwX2_layTraded_5 : List UInt8 := [21, 4, 46, 79, 132, 4, 1, 167, 255, 219, 27, 29, 2, 130, 126, 60, 167, 255, 134, 28, 172]
abbrev dktX2_layTraded_5 : List UInt8 := dkwX2_layTraded_5 ++ []
def dkwX2_layTraded_4 : List UInt8 := [46, 162, 0, 32, 29, 21, 4, 184, 0, 87, 153, 0, 17, 42, 180, 0, 59, 21, 4, 42, 180, 0, 62]
abbrev dktX2_layTraded_4 : List UInt8 := dkwX2_layTraded_4 ++ dktX2_layTraded_5
def dkwX2_layTraded_3 : List UInt8 := [182, 1, 192, 128, 62, 132, 2, 1, 132, 4, 1, 167, 255, 200, 3, 54, 4, 21, 4, 42, 180, 0, 7, 3]
abbrev dktX2_layTraded_3 : List UInt8 := dkwX2_layTraded_3 ++ dktX2_layTraded_4
def dkwX2_layTraded_2 : List UInt8 := [21, 4, 184, 0, 87, 154, 0, 27, 42, 21, 4, 182, 1, 192, 154, 0, 6, 167, 0, 15, 29, 42, 21, 4]
abbrev dktX2_layTraded_2 : List UInt8 := dkwX2_layTraded_2 ++ dktX2_layTraded_3
def dkwX2_layTraded_1 : List UInt8 := [3, 54, 4, 21, 4, 42, 180, 0, 7, 3, 46, 162, 0, 51, 27, 21, 4, 184, 0, 87, 153, 0, 36, 29]
abbrev dktX2_layTraded_1 : List UInt8 := dkwX2_layTraded_1 ++ dktX2_layTraded_2
def dkwX2_layTraded_0 : List UInt8 := [4, 42, 180, 0, 7, 3, 46, 120, 4, 100, 60, 3, 61, 27, 153, 0, 124, 42, 27, 182, 1, 189, 3, 62]
abbrev dktX2_layTraded_0 : List UInt8 := dkwX2_layTraded_0 ++ dktX2_layTraded_1
theorem dksX2_layTraded_0 : cX2_layTraded.data.toList.drop 0 = dktX2_layTraded_0 := by decide +kernel
theorem dksX2_layTraded_1 : cX2_layTraded.data.toList.drop 24 = dktX2_layTraded_1 := dk_seg dksX2_layTraded_0 24 rfl rfl
theorem dksX2_layTraded_2 : cX2_layTraded.data.toList.drop 48 = dktX2_layTraded_2 := dk_seg dksX2_layTraded_1 24 rfl rfl
theorem dksX2_layTraded_3 : cX2_layTraded.data.toList.drop 72 = dktX2_layTraded_3 := dk_seg dksX2_layTraded_2 24 rfl rfl
theorem dksX2_layTraded_4 : cX2_layTraded.data.toList.drop 96 = dktX2_layTraded_4 := dk_seg dksX2_layTraded_3 24 rfl rfl
theorem dksX2_layTraded_5 : cX2_layTraded.data.toList.drop 119 = dktX2_layTraded_5 := dk_seg dksX2_layTraded_4 23 rfl rfl
theorem dX2_layTraded_0 : decode cX2_layTraded 0 = .ok (.iconst 1, 1) := dk_4 (dk_at dksX2_layTraded_0 0 rfl rfl)
theorem dX2_layTraded_1 : decode cX2_layTraded 1 = .ok (.aload_n 0, 1) := dk_42 (dk_at dksX2_layTraded_0 1 rfl rfl)
theorem dX2_layTraded_2 : decode cX2_layTraded 2 = .ok (.getfield 7, 3) := dk_180 0 7 (dk_at dksX2_layTraded_0 2 rfl rfl)
theorem dX2_layTraded_5 : decode cX2_layTraded 5 = .ok (.iconst 0, 1) := dk_3 (dk_at dksX2_layTraded_0 5 rfl rfl)
theorem dX2_layTraded_6 : decode cX2_layTraded 6 = .ok (.iaload, 1) := dk_46 (dk_at dksX2_layTraded_0 6 rfl rfl)
theorem dX2_layTraded_7 : decode cX2_layTraded 7 = .ok (.ishl, 1) := dk_120 (dk_at dksX2_layTraded_0 7 rfl rfl)
theorem dX2_layTraded_8 : decode cX2_layTraded 8 = .ok (.iconst 1, 1) := dk_4 (dk_at dksX2_layTraded_0 8 rfl rfl)
theorem dX2_layTraded_9 : decode cX2_layTraded 9 = .ok (.isub, 1) := dk_100 (dk_at dksX2_layTraded_0 9 rfl rfl)
theorem dX2_layTraded_10 : decode cX2_layTraded 10 = .ok (.istore_n 1, 1) := dk_60 (dk_at dksX2_layTraded_0 10 rfl rfl)
theorem dX2_layTraded_11 : decode cX2_layTraded 11 = .ok (.iconst 0, 1) := dk_3 (dk_at dksX2_layTraded_0 11 rfl rfl)
theorem dX2_layTraded_12 : decode cX2_layTraded 12 = .ok (.istore_n 2, 1) := dk_61 (dk_at dksX2_layTraded_0 12 rfl rfl)
theorem dX2_layTraded_13 : decode cX2_layTraded 13 = .ok (.iload_n 1, 1) := dk_27 (dk_at dksX2_layTraded_0 13 rfl rfl)
theorem dX2_layTraded_14 : decode cX2_layTraded 14 = .ok (.ifCond .eq 124, 3) := dk_153 0 124 (dk_at dksX2_layTraded_0 14 rfl rfl)
theorem dX2_layTraded_17 : decode cX2_layTraded 17 = .ok (.aload_n 0, 1) := dk_42 (dk_at dksX2_layTraded_0 17 rfl rfl)
theorem dX2_layTraded_18 : decode cX2_layTraded 18 = .ok (.iload_n 1, 1) := dk_27 (dk_at dksX2_layTraded_0 18 rfl rfl)
theorem dX2_layTraded_19 : decode cX2_layTraded 19 = .ok (.invokevirtual 445, 3) := dk_182 1 189 (dk_at dksX2_layTraded_0 19 rfl rfl)
theorem dX2_layTraded_22 : decode cX2_layTraded 22 = .ok (.iconst 0, 1) := dk_3 (dk_at dksX2_layTraded_0 22 rfl rfl)
theorem dX2_layTraded_23 : decode cX2_layTraded 23 = .ok (.istore_n 3, 1) := dk_62 (dk_at dksX2_layTraded_0 23 rfl rfl)
theorem dX2_layTraded_24 : decode cX2_layTraded 24 = .ok (.iconst 0, 1) := dk_3 (dk_at dksX2_layTraded_1 0 rfl rfl)
theorem dX2_layTraded_25 : decode cX2_layTraded 25 = .ok (.istore 4, 2) := dk_54 4 (dk_at dksX2_layTraded_1 1 rfl rfl)
theorem dX2_layTraded_27 : decode cX2_layTraded 27 = .ok (.iload 4, 2) := dk_21 4 (dk_at dksX2_layTraded_1 3 rfl rfl)
theorem dX2_layTraded_29 : decode cX2_layTraded 29 = .ok (.aload_n 0, 1) := dk_42 (dk_at dksX2_layTraded_1 5 rfl rfl)
theorem dX2_layTraded_30 : decode cX2_layTraded 30 = .ok (.getfield 7, 3) := dk_180 0 7 (dk_at dksX2_layTraded_1 6 rfl rfl)
theorem dX2_layTraded_33 : decode cX2_layTraded 33 = .ok (.iconst 0, 1) := dk_3 (dk_at dksX2_layTraded_1 9 rfl rfl)
theorem dX2_layTraded_34 : decode cX2_layTraded 34 = .ok (.iaload, 1) := dk_46 (dk_at dksX2_layTraded_1 10 rfl rfl)
theorem dX2_layTraded_35 : decode cX2_layTraded 35 = .ok (.if_icmp .ge 51, 3) := dk_162 0 51 (dk_at dksX2_layTraded_1 11 rfl rfl)
theorem dX2_layTraded_38 : decode cX2_layTraded 38 = .ok (.iload_n 1, 1) := dk_27 (dk_at dksX2_layTraded_1 14 rfl rfl)
theorem dX2_layTraded_39 : decode cX2_layTraded 39 = .ok (.iload 4, 2) := dk_21 4 (dk_at dksX2_layTraded_1 15 rfl rfl)
theorem dX2_layTraded_41 : decode cX2_layTraded 41 = .ok (.invokestatic 87, 3) := dk_184 0 87 (dk_at dksX2_layTraded_1 17 rfl rfl)
theorem dX2_layTraded_44 : decode cX2_layTraded 44 = .ok (.ifCond .eq 36, 3) := dk_153 0 36 (dk_at dksX2_layTraded_1 20 rfl rfl)
theorem dX2_layTraded_47 : decode cX2_layTraded 47 = .ok (.iload_n 3, 1) := dk_29 (dk_at dksX2_layTraded_1 23 rfl rfl)
theorem dX2_layTraded_48 : decode cX2_layTraded 48 = .ok (.iload 4, 2) := dk_21 4 (dk_at dksX2_layTraded_2 0 rfl rfl)
theorem dX2_layTraded_50 : decode cX2_layTraded 50 = .ok (.invokestatic 87, 3) := dk_184 0 87 (dk_at dksX2_layTraded_2 2 rfl rfl)
theorem dX2_layTraded_53 : decode cX2_layTraded 53 = .ok (.ifCond .ne 27, 3) := dk_154 0 27 (dk_at dksX2_layTraded_2 5 rfl rfl)
theorem dX2_layTraded_56 : decode cX2_layTraded 56 = .ok (.aload_n 0, 1) := dk_42 (dk_at dksX2_layTraded_2 8 rfl rfl)
theorem dX2_layTraded_57 : decode cX2_layTraded 57 = .ok (.iload 4, 2) := dk_21 4 (dk_at dksX2_layTraded_2 9 rfl rfl)
theorem dX2_layTraded_59 : decode cX2_layTraded 59 = .ok (.invokevirtual 448, 3) := dk_182 1 192 (dk_at dksX2_layTraded_2 11 rfl rfl)
theorem dX2_layTraded_62 : decode cX2_layTraded 62 = .ok (.ifCond .ne 6, 3) := dk_154 0 6 (dk_at dksX2_layTraded_2 14 rfl rfl)
theorem dX2_layTraded_65 : decode cX2_layTraded 65 = .ok (.goto 15, 3) := dk_167 0 15 (dk_at dksX2_layTraded_2 17 rfl rfl)
theorem dX2_layTraded_68 : decode cX2_layTraded 68 = .ok (.iload_n 3, 1) := dk_29 (dk_at dksX2_layTraded_2 20 rfl rfl)
theorem dX2_layTraded_69 : decode cX2_layTraded 69 = .ok (.aload_n 0, 1) := dk_42 (dk_at dksX2_layTraded_2 21 rfl rfl)
theorem dX2_layTraded_70 : decode cX2_layTraded 70 = .ok (.iload 4, 2) := dk_21 4 (dk_at dksX2_layTraded_2 22 rfl rfl)
theorem dX2_layTraded_72 : decode cX2_layTraded 72 = .ok (.invokevirtual 448, 3) := dk_182 1 192 (dk_at dksX2_layTraded_3 0 rfl rfl)
theorem dX2_layTraded_75 : decode cX2_layTraded 75 = .ok (.ior, 1) := dk_128 (dk_at dksX2_layTraded_3 3 rfl rfl)
theorem dX2_layTraded_76 : decode cX2_layTraded 76 = .ok (.istore_n 3, 1) := dk_62 (dk_at dksX2_layTraded_3 4 rfl rfl)
theorem dX2_layTraded_77 : decode cX2_layTraded 77 = .ok (.iinc 2 1, 3) := dk_132 2 1 (dk_at dksX2_layTraded_3 5 rfl rfl)
theorem dX2_layTraded_80 : decode cX2_layTraded 80 = .ok (.iinc 4 1, 3) := dk_132 4 1 (dk_at dksX2_layTraded_3 8 rfl rfl)
theorem dX2_layTraded_83 : decode cX2_layTraded 83 = .ok (.goto (-56), 3) := dk_167 255 200 (dk_at dksX2_layTraded_3 11 rfl rfl)
theorem dX2_layTraded_86 : decode cX2_layTraded 86 = .ok (.iconst 0, 1) := dk_3 (dk_at dksX2_layTraded_3 14 rfl rfl)
theorem dX2_layTraded_87 : decode cX2_layTraded 87 = .ok (.istore 4, 2) := dk_54 4 (dk_at dksX2_layTraded_3 15 rfl rfl)
theorem dX2_layTraded_89 : decode cX2_layTraded 89 = .ok (.iload 4, 2) := dk_21 4 (dk_at dksX2_layTraded_3 17 rfl rfl)
theorem dX2_layTraded_91 : decode cX2_layTraded 91 = .ok (.aload_n 0, 1) := dk_42 (dk_at dksX2_layTraded_3 19 rfl rfl)
theorem dX2_layTraded_92 : decode cX2_layTraded 92 = .ok (.getfield 7, 3) := dk_180 0 7 (dk_at dksX2_layTraded_3 20 rfl rfl)
theorem dX2_layTraded_95 : decode cX2_layTraded 95 = .ok (.iconst 0, 1) := dk_3 (dk_at dksX2_layTraded_3 23 rfl rfl)
theorem dX2_layTraded_96 : decode cX2_layTraded 96 = .ok (.iaload, 1) := dk_46 (dk_at dksX2_layTraded_4 0 rfl rfl)
theorem dX2_layTraded_97 : decode cX2_layTraded 97 = .ok (.if_icmp .ge 32, 3) := dk_162 0 32 (dk_at dksX2_layTraded_4 1 rfl rfl)
theorem dX2_layTraded_100 : decode cX2_layTraded 100 = .ok (.iload_n 3, 1) := dk_29 (dk_at dksX2_layTraded_4 4 rfl rfl)
theorem dX2_layTraded_101 : decode cX2_layTraded 101 = .ok (.iload 4, 2) := dk_21 4 (dk_at dksX2_layTraded_4 5 rfl rfl)
theorem dX2_layTraded_103 : decode cX2_layTraded 103 = .ok (.invokestatic 87, 3) := dk_184 0 87 (dk_at dksX2_layTraded_4 7 rfl rfl)
theorem dX2_layTraded_106 : decode cX2_layTraded 106 = .ok (.ifCond .eq 17, 3) := dk_153 0 17 (dk_at dksX2_layTraded_4 10 rfl rfl)
theorem dX2_layTraded_109 : decode cX2_layTraded 109 = .ok (.aload_n 0, 1) := dk_42 (dk_at dksX2_layTraded_4 13 rfl rfl)
theorem dX2_layTraded_110 : decode cX2_layTraded 110 = .ok (.getfield 59, 3) := dk_180 0 59 (dk_at dksX2_layTraded_4 14 rfl rfl)
theorem dX2_layTraded_113 : decode cX2_layTraded 113 = .ok (.iload 4, 2) := dk_21 4 (dk_at dksX2_layTraded_4 17 rfl rfl)
theorem dX2_layTraded_115 : decode cX2_layTraded 115 = .ok (.aload_n 0, 1) := dk_42 (dk_at dksX2_layTraded_4 19 rfl rfl)
theorem dX2_layTraded_116 : decode cX2_layTraded 116 = .ok (.getfield 62, 3) := dk_180 0 62 (dk_at dksX2_layTraded_4 20 rfl rfl)
theorem dX2_layTraded_119 : decode cX2_layTraded 119 = .ok (.iload 4, 2) := dk_21 4 (dk_at dksX2_layTraded_5 0 rfl rfl)
theorem dX2_layTraded_121 : decode cX2_layTraded 121 = .ok (.iaload, 1) := dk_46 (dk_at dksX2_layTraded_5 2 rfl rfl)
theorem dX2_layTraded_122 : decode cX2_layTraded 122 = .ok (.iastore, 1) := dk_79 (dk_at dksX2_layTraded_5 3 rfl rfl)
theorem dX2_layTraded_123 : decode cX2_layTraded 123 = .ok (.iinc 4 1, 3) := dk_132 4 1 (dk_at dksX2_layTraded_5 4 rfl rfl)
theorem dX2_layTraded_126 : decode cX2_layTraded 126 = .ok (.goto (-37), 3) := dk_167 255 219 (dk_at dksX2_layTraded_5 7 rfl rfl)
theorem dX2_layTraded_129 : decode cX2_layTraded 129 = .ok (.iload_n 1, 1) := dk_27 (dk_at dksX2_layTraded_5 10 rfl rfl)
theorem dX2_layTraded_130 : decode cX2_layTraded 130 = .ok (.iload_n 3, 1) := dk_29 (dk_at dksX2_layTraded_5 11 rfl rfl)
theorem dX2_layTraded_131 : decode cX2_layTraded 131 = .ok (.iconst (-1), 1) := dk_2 (dk_at dksX2_layTraded_5 12 rfl rfl)
theorem dX2_layTraded_132 : decode cX2_layTraded 132 = .ok (.ixor, 1) := dk_130 (dk_at dksX2_layTraded_5 13 rfl rfl)
theorem dX2_layTraded_133 : decode cX2_layTraded 133 = .ok (.iand, 1) := dk_126 (dk_at dksX2_layTraded_5 14 rfl rfl)
theorem dX2_layTraded_134 : decode cX2_layTraded 134 = .ok (.istore_n 1, 1) := dk_60 (dk_at dksX2_layTraded_5 15 rfl rfl)
theorem dX2_layTraded_135 : decode cX2_layTraded 135 = .ok (.goto (-122), 3) := dk_167 255 134 (dk_at dksX2_layTraded_5 16 rfl rfl)
theorem dX2_layTraded_138 : decode cX2_layTraded 138 = .ok (.iload_n 2, 1) := dk_28 (dk_at dksX2_layTraded_5 19 rfl rfl)
theorem dX2_layTraded_139 : decode cX2_layTraded 139 = .ok (.ireturn, 1) := dk_172 (dk_at dksX2_layTraded_5 20 rfl rfl)
abbrev cX2_layPoints : ByteArray := prog_20_method_132_code
def yX2_layPoints : MethodName := ⟨RX2, "layPoints", "(I)V"⟩
def dkwX2_layPoints_4 : List UInt8 := [167, 255, 165, 177]
abbrev dktX2_layPoints_4 : List UInt8 := dkwX2_layPoints_4 ++ []
def dkwX2_layPoints_3 : List UInt8 := [182, 1, 59, 164, 0, 10, 42, 180, 0, 62, 28, 29, 79, 132, 3, 1, 167, 255, 190, 132, 2, 1]
abbrev dktX2_layPoints_3 : List UInt8 := dkwX2_layPoints_3 ++ dktX2_layPoints_4
def dkwX2_layPoints_2 : List UInt8 := [42, 180, 0, 62, 28, 46, 2, 159, 0, 23, 42, 28, 29, 182, 1, 59, 42, 28, 42, 180, 0, 62, 28, 46]
abbrev dktX2_layPoints_2 : List UInt8 := dkwX2_layPoints_2 ++ dktX2_layPoints_3
def dkwX2_layPoints_1 : List UInt8 := [180, 0, 7, 3, 46, 162, 0, 62, 27, 28, 184, 0, 87, 153, 0, 54, 27, 29, 184, 0, 87, 153, 0, 40]
abbrev dktX2_layPoints_1 : List UInt8 := dkwX2_layPoints_1 ++ dktX2_layPoints_2
def dkwX2_layPoints_0 : List UInt8 := [3, 61, 28, 42, 180, 0, 7, 3, 46, 162, 0, 87, 42, 180, 0, 62, 28, 2, 79, 3, 62, 29, 42]
abbrev dktX2_layPoints_0 : List UInt8 := dkwX2_layPoints_0 ++ dktX2_layPoints_1
theorem dksX2_layPoints_0 : cX2_layPoints.data.toList.drop 0 = dktX2_layPoints_0 := by decide +kernel
theorem dksX2_layPoints_1 : cX2_layPoints.data.toList.drop 23 = dktX2_layPoints_1 := dk_seg dksX2_layPoints_0 23 rfl rfl
theorem dksX2_layPoints_2 : cX2_layPoints.data.toList.drop 47 = dktX2_layPoints_2 := dk_seg dksX2_layPoints_1 24 rfl rfl
theorem dksX2_layPoints_3 : cX2_layPoints.data.toList.drop 71 = dktX2_layPoints_3 := dk_seg dksX2_layPoints_2 24 rfl rfl
theorem dksX2_layPoints_4 : cX2_layPoints.data.toList.drop 93 = dktX2_layPoints_4 := dk_seg dksX2_layPoints_3 22 rfl rfl
theorem dX2_layPoints_0 : decode cX2_layPoints 0 = .ok (.iconst 0, 1) := dk_3 (dk_at dksX2_layPoints_0 0 rfl rfl)
theorem dX2_layPoints_1 : decode cX2_layPoints 1 = .ok (.istore_n 2, 1) := dk_61 (dk_at dksX2_layPoints_0 1 rfl rfl)
theorem dX2_layPoints_2 : decode cX2_layPoints 2 = .ok (.iload_n 2, 1) := dk_28 (dk_at dksX2_layPoints_0 2 rfl rfl)
theorem dX2_layPoints_3 : decode cX2_layPoints 3 = .ok (.aload_n 0, 1) := dk_42 (dk_at dksX2_layPoints_0 3 rfl rfl)
theorem dX2_layPoints_4 : decode cX2_layPoints 4 = .ok (.getfield 7, 3) := dk_180 0 7 (dk_at dksX2_layPoints_0 4 rfl rfl)
theorem dX2_layPoints_7 : decode cX2_layPoints 7 = .ok (.iconst 0, 1) := dk_3 (dk_at dksX2_layPoints_0 7 rfl rfl)
theorem dX2_layPoints_8 : decode cX2_layPoints 8 = .ok (.iaload, 1) := dk_46 (dk_at dksX2_layPoints_0 8 rfl rfl)
theorem dX2_layPoints_9 : decode cX2_layPoints 9 = .ok (.if_icmp .ge 87, 3) := dk_162 0 87 (dk_at dksX2_layPoints_0 9 rfl rfl)
theorem dX2_layPoints_12 : decode cX2_layPoints 12 = .ok (.aload_n 0, 1) := dk_42 (dk_at dksX2_layPoints_0 12 rfl rfl)
theorem dX2_layPoints_13 : decode cX2_layPoints 13 = .ok (.getfield 62, 3) := dk_180 0 62 (dk_at dksX2_layPoints_0 13 rfl rfl)
theorem dX2_layPoints_16 : decode cX2_layPoints 16 = .ok (.iload_n 2, 1) := dk_28 (dk_at dksX2_layPoints_0 16 rfl rfl)
theorem dX2_layPoints_17 : decode cX2_layPoints 17 = .ok (.iconst (-1), 1) := dk_2 (dk_at dksX2_layPoints_0 17 rfl rfl)
theorem dX2_layPoints_18 : decode cX2_layPoints 18 = .ok (.iastore, 1) := dk_79 (dk_at dksX2_layPoints_0 18 rfl rfl)
theorem dX2_layPoints_19 : decode cX2_layPoints 19 = .ok (.iconst 0, 1) := dk_3 (dk_at dksX2_layPoints_0 19 rfl rfl)
theorem dX2_layPoints_20 : decode cX2_layPoints 20 = .ok (.istore_n 3, 1) := dk_62 (dk_at dksX2_layPoints_0 20 rfl rfl)
theorem dX2_layPoints_21 : decode cX2_layPoints 21 = .ok (.iload_n 3, 1) := dk_29 (dk_at dksX2_layPoints_0 21 rfl rfl)
theorem dX2_layPoints_22 : decode cX2_layPoints 22 = .ok (.aload_n 0, 1) := dk_42 (dk_at dksX2_layPoints_0 22 rfl rfl)
theorem dX2_layPoints_23 : decode cX2_layPoints 23 = .ok (.getfield 7, 3) := dk_180 0 7 (dk_at dksX2_layPoints_1 0 rfl rfl)
theorem dX2_layPoints_26 : decode cX2_layPoints 26 = .ok (.iconst 0, 1) := dk_3 (dk_at dksX2_layPoints_1 3 rfl rfl)
theorem dX2_layPoints_27 : decode cX2_layPoints 27 = .ok (.iaload, 1) := dk_46 (dk_at dksX2_layPoints_1 4 rfl rfl)
theorem dX2_layPoints_28 : decode cX2_layPoints 28 = .ok (.if_icmp .ge 62, 3) := dk_162 0 62 (dk_at dksX2_layPoints_1 5 rfl rfl)
theorem dX2_layPoints_31 : decode cX2_layPoints 31 = .ok (.iload_n 1, 1) := dk_27 (dk_at dksX2_layPoints_1 8 rfl rfl)
theorem dX2_layPoints_32 : decode cX2_layPoints 32 = .ok (.iload_n 2, 1) := dk_28 (dk_at dksX2_layPoints_1 9 rfl rfl)
theorem dX2_layPoints_33 : decode cX2_layPoints 33 = .ok (.invokestatic 87, 3) := dk_184 0 87 (dk_at dksX2_layPoints_1 10 rfl rfl)
theorem dX2_layPoints_36 : decode cX2_layPoints 36 = .ok (.ifCond .eq 54, 3) := dk_153 0 54 (dk_at dksX2_layPoints_1 13 rfl rfl)
theorem dX2_layPoints_39 : decode cX2_layPoints 39 = .ok (.iload_n 1, 1) := dk_27 (dk_at dksX2_layPoints_1 16 rfl rfl)
theorem dX2_layPoints_40 : decode cX2_layPoints 40 = .ok (.iload_n 3, 1) := dk_29 (dk_at dksX2_layPoints_1 17 rfl rfl)
theorem dX2_layPoints_41 : decode cX2_layPoints 41 = .ok (.invokestatic 87, 3) := dk_184 0 87 (dk_at dksX2_layPoints_1 18 rfl rfl)
theorem dX2_layPoints_44 : decode cX2_layPoints 44 = .ok (.ifCond .eq 40, 3) := dk_153 0 40 (dk_at dksX2_layPoints_1 21 rfl rfl)
theorem dX2_layPoints_47 : decode cX2_layPoints 47 = .ok (.aload_n 0, 1) := dk_42 (dk_at dksX2_layPoints_2 0 rfl rfl)
theorem dX2_layPoints_48 : decode cX2_layPoints 48 = .ok (.getfield 62, 3) := dk_180 0 62 (dk_at dksX2_layPoints_2 1 rfl rfl)
theorem dX2_layPoints_51 : decode cX2_layPoints 51 = .ok (.iload_n 2, 1) := dk_28 (dk_at dksX2_layPoints_2 4 rfl rfl)
theorem dX2_layPoints_52 : decode cX2_layPoints 52 = .ok (.iaload, 1) := dk_46 (dk_at dksX2_layPoints_2 5 rfl rfl)
theorem dX2_layPoints_53 : decode cX2_layPoints 53 = .ok (.iconst (-1), 1) := dk_2 (dk_at dksX2_layPoints_2 6 rfl rfl)
theorem dX2_layPoints_54 : decode cX2_layPoints 54 = .ok (.if_icmp .eq 23, 3) := dk_159 0 23 (dk_at dksX2_layPoints_2 7 rfl rfl)
theorem dX2_layPoints_57 : decode cX2_layPoints 57 = .ok (.aload_n 0, 1) := dk_42 (dk_at dksX2_layPoints_2 10 rfl rfl)
theorem dX2_layPoints_58 : decode cX2_layPoints 58 = .ok (.iload_n 2, 1) := dk_28 (dk_at dksX2_layPoints_2 11 rfl rfl)
theorem dX2_layPoints_59 : decode cX2_layPoints 59 = .ok (.iload_n 3, 1) := dk_29 (dk_at dksX2_layPoints_2 12 rfl rfl)
theorem dX2_layPoints_60 : decode cX2_layPoints 60 = .ok (.invokevirtual 315, 3) := dk_182 1 59 (dk_at dksX2_layPoints_2 13 rfl rfl)
theorem dX2_layPoints_63 : decode cX2_layPoints 63 = .ok (.aload_n 0, 1) := dk_42 (dk_at dksX2_layPoints_2 16 rfl rfl)
theorem dX2_layPoints_64 : decode cX2_layPoints 64 = .ok (.iload_n 2, 1) := dk_28 (dk_at dksX2_layPoints_2 17 rfl rfl)
theorem dX2_layPoints_65 : decode cX2_layPoints 65 = .ok (.aload_n 0, 1) := dk_42 (dk_at dksX2_layPoints_2 18 rfl rfl)
theorem dX2_layPoints_66 : decode cX2_layPoints 66 = .ok (.getfield 62, 3) := dk_180 0 62 (dk_at dksX2_layPoints_2 19 rfl rfl)
theorem dX2_layPoints_69 : decode cX2_layPoints 69 = .ok (.iload_n 2, 1) := dk_28 (dk_at dksX2_layPoints_2 22 rfl rfl)
theorem dX2_layPoints_70 : decode cX2_layPoints 70 = .ok (.iaload, 1) := dk_46 (dk_at dksX2_layPoints_2 23 rfl rfl)
theorem dX2_layPoints_71 : decode cX2_layPoints 71 = .ok (.invokevirtual 315, 3) := dk_182 1 59 (dk_at dksX2_layPoints_3 0 rfl rfl)
theorem dX2_layPoints_74 : decode cX2_layPoints 74 = .ok (.if_icmp .le 10, 3) := dk_164 0 10 (dk_at dksX2_layPoints_3 3 rfl rfl)
theorem dX2_layPoints_77 : decode cX2_layPoints 77 = .ok (.aload_n 0, 1) := dk_42 (dk_at dksX2_layPoints_3 6 rfl rfl)
theorem dX2_layPoints_78 : decode cX2_layPoints 78 = .ok (.getfield 62, 3) := dk_180 0 62 (dk_at dksX2_layPoints_3 7 rfl rfl)
theorem dX2_layPoints_81 : decode cX2_layPoints 81 = .ok (.iload_n 2, 1) := dk_28 (dk_at dksX2_layPoints_3 10 rfl rfl)
theorem dX2_layPoints_82 : decode cX2_layPoints 82 = .ok (.iload_n 3, 1) := dk_29 (dk_at dksX2_layPoints_3 11 rfl rfl)
theorem dX2_layPoints_83 : decode cX2_layPoints 83 = .ok (.iastore, 1) := dk_79 (dk_at dksX2_layPoints_3 12 rfl rfl)
theorem dX2_layPoints_84 : decode cX2_layPoints 84 = .ok (.iinc 3 1, 3) := dk_132 3 1 (dk_at dksX2_layPoints_3 13 rfl rfl)
theorem dX2_layPoints_87 : decode cX2_layPoints 87 = .ok (.goto (-66), 3) := dk_167 255 190 (dk_at dksX2_layPoints_3 16 rfl rfl)
theorem dX2_layPoints_90 : decode cX2_layPoints 90 = .ok (.iinc 2 1, 3) := dk_132 2 1 (dk_at dksX2_layPoints_3 19 rfl rfl)
theorem dX2_layPoints_93 : decode cX2_layPoints 93 = .ok (.goto (-91), 3) := dk_167 255 165 (dk_at dksX2_layPoints_4 0 rfl rfl)
theorem dX2_layPoints_96 : decode cX2_layPoints 96 = .ok (.return_, 1) := dk_177 (dk_at dksX2_layPoints_4 3 rfl rfl)
abbrev cX2_ringOf : ByteArray := prog_20_method_133_code
def yX2_ringOf : MethodName := ⟨RX2, "ringOf", "(I)I"⟩
def dkwX2_ringOf_1 : List UInt8 := [42, 180, 0, 62, 29, 46, 62, 29, 27, 160, 0, 5, 28, 172, 132, 4, 1, 167, 255, 222, 3, 172]
abbrev dktX2_ringOf_1 : List UInt8 := dkwX2_ringOf_1 ++ []
def dkwX2_ringOf_0 : List UInt8 := [3, 61, 27, 62, 3, 54, 4, 21, 4, 42, 180, 0, 7, 3, 46, 162, 0, 29, 28, 4, 29, 120, 128, 61]
abbrev dktX2_ringOf_0 : List UInt8 := dkwX2_ringOf_0 ++ dktX2_ringOf_1
theorem dksX2_ringOf_0 : cX2_ringOf.data.toList.drop 0 = dktX2_ringOf_0 := by decide +kernel
theorem dksX2_ringOf_1 : cX2_ringOf.data.toList.drop 24 = dktX2_ringOf_1 := dk_seg dksX2_ringOf_0 24 rfl rfl
theorem dX2_ringOf_0 : decode cX2_ringOf 0 = .ok (.iconst 0, 1) := dk_3 (dk_at dksX2_ringOf_0 0 rfl rfl)
theorem dX2_ringOf_1 : decode cX2_ringOf 1 = .ok (.istore_n 2, 1) := dk_61 (dk_at dksX2_ringOf_0 1 rfl rfl)
theorem dX2_ringOf_2 : decode cX2_ringOf 2 = .ok (.iload_n 1, 1) := dk_27 (dk_at dksX2_ringOf_0 2 rfl rfl)
theorem dX2_ringOf_3 : decode cX2_ringOf 3 = .ok (.istore_n 3, 1) := dk_62 (dk_at dksX2_ringOf_0 3 rfl rfl)
theorem dX2_ringOf_4 : decode cX2_ringOf 4 = .ok (.iconst 0, 1) := dk_3 (dk_at dksX2_ringOf_0 4 rfl rfl)
theorem dX2_ringOf_5 : decode cX2_ringOf 5 = .ok (.istore 4, 2) := dk_54 4 (dk_at dksX2_ringOf_0 5 rfl rfl)
theorem dX2_ringOf_7 : decode cX2_ringOf 7 = .ok (.iload 4, 2) := dk_21 4 (dk_at dksX2_ringOf_0 7 rfl rfl)
theorem dX2_ringOf_9 : decode cX2_ringOf 9 = .ok (.aload_n 0, 1) := dk_42 (dk_at dksX2_ringOf_0 9 rfl rfl)
theorem dX2_ringOf_10 : decode cX2_ringOf 10 = .ok (.getfield 7, 3) := dk_180 0 7 (dk_at dksX2_ringOf_0 10 rfl rfl)
theorem dX2_ringOf_13 : decode cX2_ringOf 13 = .ok (.iconst 0, 1) := dk_3 (dk_at dksX2_ringOf_0 13 rfl rfl)
theorem dX2_ringOf_14 : decode cX2_ringOf 14 = .ok (.iaload, 1) := dk_46 (dk_at dksX2_ringOf_0 14 rfl rfl)
theorem dX2_ringOf_15 : decode cX2_ringOf 15 = .ok (.if_icmp .ge 29, 3) := dk_162 0 29 (dk_at dksX2_ringOf_0 15 rfl rfl)
theorem dX2_ringOf_18 : decode cX2_ringOf 18 = .ok (.iload_n 2, 1) := dk_28 (dk_at dksX2_ringOf_0 18 rfl rfl)
theorem dX2_ringOf_19 : decode cX2_ringOf 19 = .ok (.iconst 1, 1) := dk_4 (dk_at dksX2_ringOf_0 19 rfl rfl)
theorem dX2_ringOf_20 : decode cX2_ringOf 20 = .ok (.iload_n 3, 1) := dk_29 (dk_at dksX2_ringOf_0 20 rfl rfl)
theorem dX2_ringOf_21 : decode cX2_ringOf 21 = .ok (.ishl, 1) := dk_120 (dk_at dksX2_ringOf_0 21 rfl rfl)
theorem dX2_ringOf_22 : decode cX2_ringOf 22 = .ok (.ior, 1) := dk_128 (dk_at dksX2_ringOf_0 22 rfl rfl)
theorem dX2_ringOf_23 : decode cX2_ringOf 23 = .ok (.istore_n 2, 1) := dk_61 (dk_at dksX2_ringOf_0 23 rfl rfl)
theorem dX2_ringOf_24 : decode cX2_ringOf 24 = .ok (.aload_n 0, 1) := dk_42 (dk_at dksX2_ringOf_1 0 rfl rfl)
theorem dX2_ringOf_25 : decode cX2_ringOf 25 = .ok (.getfield 62, 3) := dk_180 0 62 (dk_at dksX2_ringOf_1 1 rfl rfl)
theorem dX2_ringOf_28 : decode cX2_ringOf 28 = .ok (.iload_n 3, 1) := dk_29 (dk_at dksX2_ringOf_1 4 rfl rfl)
theorem dX2_ringOf_29 : decode cX2_ringOf 29 = .ok (.iaload, 1) := dk_46 (dk_at dksX2_ringOf_1 5 rfl rfl)
theorem dX2_ringOf_30 : decode cX2_ringOf 30 = .ok (.istore_n 3, 1) := dk_62 (dk_at dksX2_ringOf_1 6 rfl rfl)
theorem dX2_ringOf_31 : decode cX2_ringOf 31 = .ok (.iload_n 3, 1) := dk_29 (dk_at dksX2_ringOf_1 7 rfl rfl)
theorem dX2_ringOf_32 : decode cX2_ringOf 32 = .ok (.iload_n 1, 1) := dk_27 (dk_at dksX2_ringOf_1 8 rfl rfl)
theorem dX2_ringOf_33 : decode cX2_ringOf 33 = .ok (.if_icmp .ne 5, 3) := dk_160 0 5 (dk_at dksX2_ringOf_1 9 rfl rfl)
theorem dX2_ringOf_36 : decode cX2_ringOf 36 = .ok (.iload_n 2, 1) := dk_28 (dk_at dksX2_ringOf_1 12 rfl rfl)
theorem dX2_ringOf_37 : decode cX2_ringOf 37 = .ok (.ireturn, 1) := dk_172 (dk_at dksX2_ringOf_1 13 rfl rfl)
theorem dX2_ringOf_38 : decode cX2_ringOf 38 = .ok (.iinc 4 1, 3) := dk_132 4 1 (dk_at dksX2_ringOf_1 14 rfl rfl)
theorem dX2_ringOf_41 : decode cX2_ringOf 41 = .ok (.goto (-34), 3) := dk_167 255 222 (dk_at dksX2_ringOf_1 17 rfl rfl)
theorem dX2_ringOf_44 : decode cX2_ringOf 44 = .ok (.iconst 0, 1) := dk_3 (dk_at dksX2_ringOf_1 20 rfl rfl)
theorem dX2_ringOf_45 : decode cX2_ringOf 45 = .ok (.ireturn, 1) := dk_172 (dk_at dksX2_ringOf_1 21 rfl rfl)
abbrev cX2_rings : ByteArray := prog_20_method_136_code
def yX2_rings : MethodName := ⟨RX2, "rings", "()I"⟩
theorem dX2_rings_0 : decode cX2_rings 0 = .ok (.aload_n 0, 1) := by decide +kernel
theorem dX2_rings_1 : decode cX2_rings 1 = .ok (.invokevirtual 451, 3) := by decide +kernel
theorem dX2_rings_4 : decode cX2_rings 4 = .ok (.ireturn, 1) := by decide +kernel
abbrev cX2_price : ByteArray := prog_20_method_141_code
def yX2_price : MethodName := ⟨RX2, "price", "(I)I"⟩
def dkwX2_price_0 : List UInt8 := [27, 184, 0, 95, 154, 0, 5, 2, 172, 42, 182, 1, 207, 42, 180, 0, 65, 27, 46, 172]
abbrev dktX2_price_0 : List UInt8 := dkwX2_price_0 ++ []
theorem dksX2_price_0 : cX2_price.data.toList.drop 0 = dktX2_price_0 := by decide +kernel
theorem dX2_price_0 : decode cX2_price 0 = .ok (.iload_n 1, 1) := dk_27 (dk_at dksX2_price_0 0 rfl rfl)
theorem dX2_price_1 : decode cX2_price 1 = .ok (.invokestatic 95, 3) := dk_184 0 95 (dk_at dksX2_price_0 1 rfl rfl)
theorem dX2_price_4 : decode cX2_price 4 = .ok (.ifCond .ne 5, 3) := dk_154 0 5 (dk_at dksX2_price_0 4 rfl rfl)
theorem dX2_price_7 : decode cX2_price 7 = .ok (.iconst (-1), 1) := dk_2 (dk_at dksX2_price_0 7 rfl rfl)
theorem dX2_price_8 : decode cX2_price 8 = .ok (.ireturn, 1) := dk_172 (dk_at dksX2_price_0 8 rfl rfl)
theorem dX2_price_9 : decode cX2_price 9 = .ok (.aload_n 0, 1) := dk_42 (dk_at dksX2_price_0 9 rfl rfl)
theorem dX2_price_10 : decode cX2_price 10 = .ok (.invokevirtual 463, 3) := dk_182 1 207 (dk_at dksX2_price_0 10 rfl rfl)
theorem dX2_price_13 : decode cX2_price 13 = .ok (.aload_n 0, 1) := dk_42 (dk_at dksX2_price_0 13 rfl rfl)
theorem dX2_price_14 : decode cX2_price 14 = .ok (.getfield 65, 3) := dk_180 0 65 (dk_at dksX2_price_0 14 rfl rfl)
theorem dX2_price_17 : decode cX2_price 17 = .ok (.iload_n 1, 1) := dk_27 (dk_at dksX2_price_0 17 rfl rfl)
theorem dX2_price_18 : decode cX2_price 18 = .ok (.iaload, 1) := dk_46 (dk_at dksX2_price_0 18 rfl rfl)
theorem dX2_price_19 : decode cX2_price 19 = .ok (.ireturn, 1) := dk_172 (dk_at dksX2_price_0 19 rfl rfl)
abbrev cX2_layPrices : ByteArray := prog_20_method_140_code
def yX2_layPrices : MethodName := ⟨RX2, "layPrices", "()V"⟩
def dkwX2_layPrices_3 : List UInt8 := [182, 1, 201, 42, 182, 1, 204, 60, 167, 255, 207, 177]
abbrev dktX2_layPrices_3 : List UInt8 := dkwX2_layPrices_3 ++ []
def dkwX2_layPrices_2 : List UInt8 := [27, 28, 184, 0, 87, 153, 0, 7, 4, 167, 0, 4, 3, 96, 79, 132, 2, 1, 167, 255, 226, 42]
abbrev dktX2_layPrices_2 : List UInt8 := dkwX2_layPrices_2 ++ dktX2_layPrices_3
def dkwX2_layPrices_1 : List UInt8 := [42, 182, 1, 204, 60, 27, 2, 159, 0, 50, 3, 61, 28, 8, 162, 0, 31, 42, 180, 0, 65, 28, 92, 46]
abbrev dktX2_layPrices_1 : List UInt8 := dkwX2_layPrices_1 ++ dktX2_layPrices_2
def dkwX2_layPrices_0 : List UInt8 := [3, 60, 27, 8, 162, 0, 16, 42, 180, 0, 65, 27, 3, 79, 132, 1, 1, 167, 255, 241, 42, 182, 1, 201]
abbrev dktX2_layPrices_0 : List UInt8 := dkwX2_layPrices_0 ++ dktX2_layPrices_1
theorem dksX2_layPrices_0 : cX2_layPrices.data.toList.drop 0 = dktX2_layPrices_0 := by decide +kernel
theorem dksX2_layPrices_1 : cX2_layPrices.data.toList.drop 24 = dktX2_layPrices_1 := dk_seg dksX2_layPrices_0 24 rfl rfl
theorem dksX2_layPrices_2 : cX2_layPrices.data.toList.drop 48 = dktX2_layPrices_2 := dk_seg dksX2_layPrices_1 24 rfl rfl
theorem dksX2_layPrices_3 : cX2_layPrices.data.toList.drop 70 = dktX2_layPrices_3 := dk_seg dksX2_layPrices_2 22 rfl rfl
theorem dX2_layPrices_0 : decode cX2_layPrices 0 = .ok (.iconst 0, 1) := dk_3 (dk_at dksX2_layPrices_0 0 rfl rfl)
theorem dX2_layPrices_1 : decode cX2_layPrices 1 = .ok (.istore_n 1, 1) := dk_60 (dk_at dksX2_layPrices_0 1 rfl rfl)
theorem dX2_layPrices_2 : decode cX2_layPrices 2 = .ok (.iload_n 1, 1) := dk_27 (dk_at dksX2_layPrices_0 2 rfl rfl)
theorem dX2_layPrices_3 : decode cX2_layPrices 3 = .ok (.iconst 5, 1) := dk_8 (dk_at dksX2_layPrices_0 3 rfl rfl)
theorem dX2_layPrices_4 : decode cX2_layPrices 4 = .ok (.if_icmp .ge 16, 3) := dk_162 0 16 (dk_at dksX2_layPrices_0 4 rfl rfl)
theorem dX2_layPrices_7 : decode cX2_layPrices 7 = .ok (.aload_n 0, 1) := dk_42 (dk_at dksX2_layPrices_0 7 rfl rfl)
theorem dX2_layPrices_8 : decode cX2_layPrices 8 = .ok (.getfield 65, 3) := dk_180 0 65 (dk_at dksX2_layPrices_0 8 rfl rfl)
theorem dX2_layPrices_11 : decode cX2_layPrices 11 = .ok (.iload_n 1, 1) := dk_27 (dk_at dksX2_layPrices_0 11 rfl rfl)
theorem dX2_layPrices_12 : decode cX2_layPrices 12 = .ok (.iconst 0, 1) := dk_3 (dk_at dksX2_layPrices_0 12 rfl rfl)
theorem dX2_layPrices_13 : decode cX2_layPrices 13 = .ok (.iastore, 1) := dk_79 (dk_at dksX2_layPrices_0 13 rfl rfl)
theorem dX2_layPrices_14 : decode cX2_layPrices 14 = .ok (.iinc 1 1, 3) := dk_132 1 1 (dk_at dksX2_layPrices_0 14 rfl rfl)
theorem dX2_layPrices_17 : decode cX2_layPrices 17 = .ok (.goto (-15), 3) := dk_167 255 241 (dk_at dksX2_layPrices_0 17 rfl rfl)
theorem dX2_layPrices_20 : decode cX2_layPrices 20 = .ok (.aload_n 0, 1) := dk_42 (dk_at dksX2_layPrices_0 20 rfl rfl)
theorem dX2_layPrices_21 : decode cX2_layPrices 21 = .ok (.invokevirtual 457, 3) := dk_182 1 201 (dk_at dksX2_layPrices_0 21 rfl rfl)
theorem dX2_layPrices_24 : decode cX2_layPrices 24 = .ok (.aload_n 0, 1) := dk_42 (dk_at dksX2_layPrices_1 0 rfl rfl)
theorem dX2_layPrices_25 : decode cX2_layPrices 25 = .ok (.invokevirtual 460, 3) := dk_182 1 204 (dk_at dksX2_layPrices_1 1 rfl rfl)
theorem dX2_layPrices_28 : decode cX2_layPrices 28 = .ok (.istore_n 1, 1) := dk_60 (dk_at dksX2_layPrices_1 4 rfl rfl)
theorem dX2_layPrices_29 : decode cX2_layPrices 29 = .ok (.iload_n 1, 1) := dk_27 (dk_at dksX2_layPrices_1 5 rfl rfl)
theorem dX2_layPrices_30 : decode cX2_layPrices 30 = .ok (.iconst (-1), 1) := dk_2 (dk_at dksX2_layPrices_1 6 rfl rfl)
theorem dX2_layPrices_31 : decode cX2_layPrices 31 = .ok (.if_icmp .eq 50, 3) := dk_159 0 50 (dk_at dksX2_layPrices_1 7 rfl rfl)
theorem dX2_layPrices_34 : decode cX2_layPrices 34 = .ok (.iconst 0, 1) := dk_3 (dk_at dksX2_layPrices_1 10 rfl rfl)
theorem dX2_layPrices_35 : decode cX2_layPrices 35 = .ok (.istore_n 2, 1) := dk_61 (dk_at dksX2_layPrices_1 11 rfl rfl)
theorem dX2_layPrices_36 : decode cX2_layPrices 36 = .ok (.iload_n 2, 1) := dk_28 (dk_at dksX2_layPrices_1 12 rfl rfl)
theorem dX2_layPrices_37 : decode cX2_layPrices 37 = .ok (.iconst 5, 1) := dk_8 (dk_at dksX2_layPrices_1 13 rfl rfl)
theorem dX2_layPrices_38 : decode cX2_layPrices 38 = .ok (.if_icmp .ge 31, 3) := dk_162 0 31 (dk_at dksX2_layPrices_1 14 rfl rfl)
theorem dX2_layPrices_41 : decode cX2_layPrices 41 = .ok (.aload_n 0, 1) := dk_42 (dk_at dksX2_layPrices_1 17 rfl rfl)
theorem dX2_layPrices_42 : decode cX2_layPrices 42 = .ok (.getfield 65, 3) := dk_180 0 65 (dk_at dksX2_layPrices_1 18 rfl rfl)
theorem dX2_layPrices_45 : decode cX2_layPrices 45 = .ok (.iload_n 2, 1) := dk_28 (dk_at dksX2_layPrices_1 21 rfl rfl)
theorem dX2_layPrices_46 : decode cX2_layPrices 46 = .ok (.dup2, 1) := dk_92 (dk_at dksX2_layPrices_1 22 rfl rfl)
theorem dX2_layPrices_47 : decode cX2_layPrices 47 = .ok (.iaload, 1) := dk_46 (dk_at dksX2_layPrices_1 23 rfl rfl)
theorem dX2_layPrices_48 : decode cX2_layPrices 48 = .ok (.iload_n 1, 1) := dk_27 (dk_at dksX2_layPrices_2 0 rfl rfl)
theorem dX2_layPrices_49 : decode cX2_layPrices 49 = .ok (.iload_n 2, 1) := dk_28 (dk_at dksX2_layPrices_2 1 rfl rfl)
theorem dX2_layPrices_50 : decode cX2_layPrices 50 = .ok (.invokestatic 87, 3) := dk_184 0 87 (dk_at dksX2_layPrices_2 2 rfl rfl)
theorem dX2_layPrices_53 : decode cX2_layPrices 53 = .ok (.ifCond .eq 7, 3) := dk_153 0 7 (dk_at dksX2_layPrices_2 5 rfl rfl)
theorem dX2_layPrices_56 : decode cX2_layPrices 56 = .ok (.iconst 1, 1) := dk_4 (dk_at dksX2_layPrices_2 8 rfl rfl)
theorem dX2_layPrices_57 : decode cX2_layPrices 57 = .ok (.goto 4, 3) := dk_167 0 4 (dk_at dksX2_layPrices_2 9 rfl rfl)
theorem dX2_layPrices_60 : decode cX2_layPrices 60 = .ok (.iconst 0, 1) := dk_3 (dk_at dksX2_layPrices_2 12 rfl rfl)
theorem dX2_layPrices_61 : decode cX2_layPrices 61 = .ok (.iadd, 1) := dk_96 (dk_at dksX2_layPrices_2 13 rfl rfl)
theorem dX2_layPrices_62 : decode cX2_layPrices 62 = .ok (.iastore, 1) := dk_79 (dk_at dksX2_layPrices_2 14 rfl rfl)
theorem dX2_layPrices_63 : decode cX2_layPrices 63 = .ok (.iinc 2 1, 3) := dk_132 2 1 (dk_at dksX2_layPrices_2 15 rfl rfl)
theorem dX2_layPrices_66 : decode cX2_layPrices 66 = .ok (.goto (-30), 3) := dk_167 255 226 (dk_at dksX2_layPrices_2 18 rfl rfl)
theorem dX2_layPrices_69 : decode cX2_layPrices 69 = .ok (.aload_n 0, 1) := dk_42 (dk_at dksX2_layPrices_2 21 rfl rfl)
theorem dX2_layPrices_70 : decode cX2_layPrices 70 = .ok (.invokevirtual 457, 3) := dk_182 1 201 (dk_at dksX2_layPrices_3 0 rfl rfl)
theorem dX2_layPrices_73 : decode cX2_layPrices 73 = .ok (.aload_n 0, 1) := dk_42 (dk_at dksX2_layPrices_3 3 rfl rfl)
theorem dX2_layPrices_74 : decode cX2_layPrices 74 = .ok (.invokevirtual 460, 3) := dk_182 1 204 (dk_at dksX2_layPrices_3 4 rfl rfl)
theorem dX2_layPrices_77 : decode cX2_layPrices 77 = .ok (.istore_n 1, 1) := dk_60 (dk_at dksX2_layPrices_3 7 rfl rfl)
theorem dX2_layPrices_78 : decode cX2_layPrices 78 = .ok (.goto (-49), 3) := dk_167 255 207 (dk_at dksX2_layPrices_3 8 rfl rfl)
theorem dX2_layPrices_81 : decode cX2_layPrices 81 = .ok (.return_, 1) := dk_177 (dk_at dksX2_layPrices_3 11 rfl rfl)
abbrev cX2_layWould : ByteArray := prog_20_method_137_code
def yX2_layWould : MethodName := ⟨RX2, "layWould", "()V"⟩
def dkwX2_layWould_4 : List UInt8 := [132, 1, 1, 167, 255, 161, 177]
abbrev dktX2_layWould_4 : List UInt8 := dkwX2_layWould_4 ++ []
def dkwX2_layWould_3 : List UInt8 := [167, 0, 13, 42, 180, 0, 68, 27, 46, 4, 29, 120, 128, 79, 21, 4, 61, 132, 3, 1, 167, 255, 188]
abbrev dktX2_layWould_3 : List UInt8 := dkwX2_layWould_3 ++ dktX2_layWould_4
def dkwX2_layWould_2 : List UInt8 := [21, 4, 28, 162, 0, 6, 167, 0, 34, 42, 180, 0, 68, 27, 21, 4, 28, 164, 0, 9, 4, 29, 120]
abbrev dktX2_layWould_2 : List UInt8 := dkwX2_layWould_2 ++ dktX2_layWould_3
def dkwX2_layWould_1 : List UInt8 := [8, 162, 0, 69, 42, 27, 29, 182, 1, 59, 42, 180, 0, 65, 29, 46, 100, 54, 4, 21, 4, 158, 0, 43]
abbrev dktX2_layWould_1 : List UInt8 := dkwX2_layWould_1 ++ dktX2_layWould_2
def dkwX2_layWould_0 : List UInt8 := [3, 60, 27, 42, 180, 0, 7, 3, 46, 162, 0, 91, 3, 61, 42, 180, 0, 68, 27, 3, 79, 3, 62, 29]
abbrev dktX2_layWould_0 : List UInt8 := dkwX2_layWould_0 ++ dktX2_layWould_1
theorem dksX2_layWould_0 : cX2_layWould.data.toList.drop 0 = dktX2_layWould_0 := by decide +kernel
theorem dksX2_layWould_1 : cX2_layWould.data.toList.drop 24 = dktX2_layWould_1 := dk_seg dksX2_layWould_0 24 rfl rfl
theorem dksX2_layWould_2 : cX2_layWould.data.toList.drop 48 = dktX2_layWould_2 := dk_seg dksX2_layWould_1 24 rfl rfl
theorem dksX2_layWould_3 : cX2_layWould.data.toList.drop 71 = dktX2_layWould_3 := dk_seg dksX2_layWould_2 23 rfl rfl
theorem dksX2_layWould_4 : cX2_layWould.data.toList.drop 94 = dktX2_layWould_4 := dk_seg dksX2_layWould_3 23 rfl rfl
theorem dX2_layWould_0 : decode cX2_layWould 0 = .ok (.iconst 0, 1) := dk_3 (dk_at dksX2_layWould_0 0 rfl rfl)
theorem dX2_layWould_1 : decode cX2_layWould 1 = .ok (.istore_n 1, 1) := dk_60 (dk_at dksX2_layWould_0 1 rfl rfl)
theorem dX2_layWould_2 : decode cX2_layWould 2 = .ok (.iload_n 1, 1) := dk_27 (dk_at dksX2_layWould_0 2 rfl rfl)
theorem dX2_layWould_3 : decode cX2_layWould 3 = .ok (.aload_n 0, 1) := dk_42 (dk_at dksX2_layWould_0 3 rfl rfl)
theorem dX2_layWould_4 : decode cX2_layWould 4 = .ok (.getfield 7, 3) := dk_180 0 7 (dk_at dksX2_layWould_0 4 rfl rfl)
theorem dX2_layWould_7 : decode cX2_layWould 7 = .ok (.iconst 0, 1) := dk_3 (dk_at dksX2_layWould_0 7 rfl rfl)
theorem dX2_layWould_8 : decode cX2_layWould 8 = .ok (.iaload, 1) := dk_46 (dk_at dksX2_layWould_0 8 rfl rfl)
theorem dX2_layWould_9 : decode cX2_layWould 9 = .ok (.if_icmp .ge 91, 3) := dk_162 0 91 (dk_at dksX2_layWould_0 9 rfl rfl)
theorem dX2_layWould_12 : decode cX2_layWould 12 = .ok (.iconst 0, 1) := dk_3 (dk_at dksX2_layWould_0 12 rfl rfl)
theorem dX2_layWould_13 : decode cX2_layWould 13 = .ok (.istore_n 2, 1) := dk_61 (dk_at dksX2_layWould_0 13 rfl rfl)
theorem dX2_layWould_14 : decode cX2_layWould 14 = .ok (.aload_n 0, 1) := dk_42 (dk_at dksX2_layWould_0 14 rfl rfl)
theorem dX2_layWould_15 : decode cX2_layWould 15 = .ok (.getfield 68, 3) := dk_180 0 68 (dk_at dksX2_layWould_0 15 rfl rfl)
theorem dX2_layWould_18 : decode cX2_layWould 18 = .ok (.iload_n 1, 1) := dk_27 (dk_at dksX2_layWould_0 18 rfl rfl)
theorem dX2_layWould_19 : decode cX2_layWould 19 = .ok (.iconst 0, 1) := dk_3 (dk_at dksX2_layWould_0 19 rfl rfl)
theorem dX2_layWould_20 : decode cX2_layWould 20 = .ok (.iastore, 1) := dk_79 (dk_at dksX2_layWould_0 20 rfl rfl)
theorem dX2_layWould_21 : decode cX2_layWould 21 = .ok (.iconst 0, 1) := dk_3 (dk_at dksX2_layWould_0 21 rfl rfl)
theorem dX2_layWould_22 : decode cX2_layWould 22 = .ok (.istore_n 3, 1) := dk_62 (dk_at dksX2_layWould_0 22 rfl rfl)
theorem dX2_layWould_23 : decode cX2_layWould 23 = .ok (.iload_n 3, 1) := dk_29 (dk_at dksX2_layWould_0 23 rfl rfl)
theorem dX2_layWould_24 : decode cX2_layWould 24 = .ok (.iconst 5, 1) := dk_8 (dk_at dksX2_layWould_1 0 rfl rfl)
theorem dX2_layWould_25 : decode cX2_layWould 25 = .ok (.if_icmp .ge 69, 3) := dk_162 0 69 (dk_at dksX2_layWould_1 1 rfl rfl)
theorem dX2_layWould_28 : decode cX2_layWould 28 = .ok (.aload_n 0, 1) := dk_42 (dk_at dksX2_layWould_1 4 rfl rfl)
theorem dX2_layWould_29 : decode cX2_layWould 29 = .ok (.iload_n 1, 1) := dk_27 (dk_at dksX2_layWould_1 5 rfl rfl)
theorem dX2_layWould_30 : decode cX2_layWould 30 = .ok (.iload_n 3, 1) := dk_29 (dk_at dksX2_layWould_1 6 rfl rfl)
theorem dX2_layWould_31 : decode cX2_layWould 31 = .ok (.invokevirtual 315, 3) := dk_182 1 59 (dk_at dksX2_layWould_1 7 rfl rfl)
theorem dX2_layWould_34 : decode cX2_layWould 34 = .ok (.aload_n 0, 1) := dk_42 (dk_at dksX2_layWould_1 10 rfl rfl)
theorem dX2_layWould_35 : decode cX2_layWould 35 = .ok (.getfield 65, 3) := dk_180 0 65 (dk_at dksX2_layWould_1 11 rfl rfl)
theorem dX2_layWould_38 : decode cX2_layWould 38 = .ok (.iload_n 3, 1) := dk_29 (dk_at dksX2_layWould_1 14 rfl rfl)
theorem dX2_layWould_39 : decode cX2_layWould 39 = .ok (.iaload, 1) := dk_46 (dk_at dksX2_layWould_1 15 rfl rfl)
theorem dX2_layWould_40 : decode cX2_layWould 40 = .ok (.isub, 1) := dk_100 (dk_at dksX2_layWould_1 16 rfl rfl)
theorem dX2_layWould_41 : decode cX2_layWould 41 = .ok (.istore 4, 2) := dk_54 4 (dk_at dksX2_layWould_1 17 rfl rfl)
theorem dX2_layWould_43 : decode cX2_layWould 43 = .ok (.iload 4, 2) := dk_21 4 (dk_at dksX2_layWould_1 19 rfl rfl)
theorem dX2_layWould_45 : decode cX2_layWould 45 = .ok (.ifCond .le 43, 3) := dk_158 0 43 (dk_at dksX2_layWould_1 21 rfl rfl)
theorem dX2_layWould_48 : decode cX2_layWould 48 = .ok (.iload 4, 2) := dk_21 4 (dk_at dksX2_layWould_2 0 rfl rfl)
theorem dX2_layWould_50 : decode cX2_layWould 50 = .ok (.iload_n 2, 1) := dk_28 (dk_at dksX2_layWould_2 2 rfl rfl)
theorem dX2_layWould_51 : decode cX2_layWould 51 = .ok (.if_icmp .ge 6, 3) := dk_162 0 6 (dk_at dksX2_layWould_2 3 rfl rfl)
theorem dX2_layWould_54 : decode cX2_layWould 54 = .ok (.goto 34, 3) := dk_167 0 34 (dk_at dksX2_layWould_2 6 rfl rfl)
theorem dX2_layWould_57 : decode cX2_layWould 57 = .ok (.aload_n 0, 1) := dk_42 (dk_at dksX2_layWould_2 9 rfl rfl)
theorem dX2_layWould_58 : decode cX2_layWould 58 = .ok (.getfield 68, 3) := dk_180 0 68 (dk_at dksX2_layWould_2 10 rfl rfl)
theorem dX2_layWould_61 : decode cX2_layWould 61 = .ok (.iload_n 1, 1) := dk_27 (dk_at dksX2_layWould_2 13 rfl rfl)
theorem dX2_layWould_62 : decode cX2_layWould 62 = .ok (.iload 4, 2) := dk_21 4 (dk_at dksX2_layWould_2 14 rfl rfl)
theorem dX2_layWould_64 : decode cX2_layWould 64 = .ok (.iload_n 2, 1) := dk_28 (dk_at dksX2_layWould_2 16 rfl rfl)
theorem dX2_layWould_65 : decode cX2_layWould 65 = .ok (.if_icmp .le 9, 3) := dk_164 0 9 (dk_at dksX2_layWould_2 17 rfl rfl)
theorem dX2_layWould_68 : decode cX2_layWould 68 = .ok (.iconst 1, 1) := dk_4 (dk_at dksX2_layWould_2 20 rfl rfl)
theorem dX2_layWould_69 : decode cX2_layWould 69 = .ok (.iload_n 3, 1) := dk_29 (dk_at dksX2_layWould_2 21 rfl rfl)
theorem dX2_layWould_70 : decode cX2_layWould 70 = .ok (.ishl, 1) := dk_120 (dk_at dksX2_layWould_2 22 rfl rfl)
theorem dX2_layWould_71 : decode cX2_layWould 71 = .ok (.goto 13, 3) := dk_167 0 13 (dk_at dksX2_layWould_3 0 rfl rfl)
theorem dX2_layWould_74 : decode cX2_layWould 74 = .ok (.aload_n 0, 1) := dk_42 (dk_at dksX2_layWould_3 3 rfl rfl)
theorem dX2_layWould_75 : decode cX2_layWould 75 = .ok (.getfield 68, 3) := dk_180 0 68 (dk_at dksX2_layWould_3 4 rfl rfl)
theorem dX2_layWould_78 : decode cX2_layWould 78 = .ok (.iload_n 1, 1) := dk_27 (dk_at dksX2_layWould_3 7 rfl rfl)
theorem dX2_layWould_79 : decode cX2_layWould 79 = .ok (.iaload, 1) := dk_46 (dk_at dksX2_layWould_3 8 rfl rfl)
theorem dX2_layWould_80 : decode cX2_layWould 80 = .ok (.iconst 1, 1) := dk_4 (dk_at dksX2_layWould_3 9 rfl rfl)
theorem dX2_layWould_81 : decode cX2_layWould 81 = .ok (.iload_n 3, 1) := dk_29 (dk_at dksX2_layWould_3 10 rfl rfl)
theorem dX2_layWould_82 : decode cX2_layWould 82 = .ok (.ishl, 1) := dk_120 (dk_at dksX2_layWould_3 11 rfl rfl)
theorem dX2_layWould_83 : decode cX2_layWould 83 = .ok (.ior, 1) := dk_128 (dk_at dksX2_layWould_3 12 rfl rfl)
theorem dX2_layWould_84 : decode cX2_layWould 84 = .ok (.iastore, 1) := dk_79 (dk_at dksX2_layWould_3 13 rfl rfl)
theorem dX2_layWould_85 : decode cX2_layWould 85 = .ok (.iload 4, 2) := dk_21 4 (dk_at dksX2_layWould_3 14 rfl rfl)
theorem dX2_layWould_87 : decode cX2_layWould 87 = .ok (.istore_n 2, 1) := dk_61 (dk_at dksX2_layWould_3 16 rfl rfl)
theorem dX2_layWould_88 : decode cX2_layWould 88 = .ok (.iinc 3 1, 3) := dk_132 3 1 (dk_at dksX2_layWould_3 17 rfl rfl)
theorem dX2_layWould_91 : decode cX2_layWould 91 = .ok (.goto (-68), 3) := dk_167 255 188 (dk_at dksX2_layWould_3 20 rfl rfl)
theorem dX2_layWould_94 : decode cX2_layWould 94 = .ok (.iinc 1 1, 3) := dk_132 1 1 (dk_at dksX2_layWould_4 0 rfl rfl)
theorem dX2_layWould_97 : decode cX2_layWould 97 = .ok (.goto (-95), 3) := dk_167 255 161 (dk_at dksX2_layWould_4 3 rfl rfl)
theorem dX2_layWould_100 : decode cX2_layWould 100 = .ok (.return_, 1) := dk_177 (dk_at dksX2_layWould_4 6 rfl rfl)
abbrev cX2_tooMany : ByteArray := prog_20_method_139_code
def yX2_tooMany : MethodName := ⟨RX2, "tooMany", "()I"⟩
def dkwX2_tooMany_1 : List UInt8 := [184, 1, 102, 27, 184, 1, 102, 163, 0, 5, 28, 60, 132, 2, 255, 167, 255, 223, 27, 172]
abbrev dktX2_tooMany_1 : List UInt8 := dkwX2_tooMany_1 ++ []
def dkwX2_tooMany_0 : List UInt8 := [2, 60, 16, 31, 61, 28, 158, 0, 35, 42, 28, 182, 1, 198, 153, 0, 21, 27, 2, 159, 0, 14, 28]
abbrev dktX2_tooMany_0 : List UInt8 := dkwX2_tooMany_0 ++ dktX2_tooMany_1
theorem dksX2_tooMany_0 : cX2_tooMany.data.toList.drop 0 = dktX2_tooMany_0 := by decide +kernel
theorem dksX2_tooMany_1 : cX2_tooMany.data.toList.drop 23 = dktX2_tooMany_1 := dk_seg dksX2_tooMany_0 23 rfl rfl
theorem dX2_tooMany_0 : decode cX2_tooMany 0 = .ok (.iconst (-1), 1) := dk_2 (dk_at dksX2_tooMany_0 0 rfl rfl)
theorem dX2_tooMany_1 : decode cX2_tooMany 1 = .ok (.istore_n 1, 1) := dk_60 (dk_at dksX2_tooMany_0 1 rfl rfl)
theorem dX2_tooMany_2 : decode cX2_tooMany 2 = .ok (.bipush 31, 2) := dk_16 31 (dk_at dksX2_tooMany_0 2 rfl rfl)
theorem dX2_tooMany_4 : decode cX2_tooMany 4 = .ok (.istore_n 2, 1) := dk_61 (dk_at dksX2_tooMany_0 4 rfl rfl)
theorem dX2_tooMany_5 : decode cX2_tooMany 5 = .ok (.iload_n 2, 1) := dk_28 (dk_at dksX2_tooMany_0 5 rfl rfl)
theorem dX2_tooMany_6 : decode cX2_tooMany 6 = .ok (.ifCond .le 35, 3) := dk_158 0 35 (dk_at dksX2_tooMany_0 6 rfl rfl)
theorem dX2_tooMany_9 : decode cX2_tooMany 9 = .ok (.aload_n 0, 1) := dk_42 (dk_at dksX2_tooMany_0 9 rfl rfl)
theorem dX2_tooMany_10 : decode cX2_tooMany 10 = .ok (.iload_n 2, 1) := dk_28 (dk_at dksX2_tooMany_0 10 rfl rfl)
theorem dX2_tooMany_11 : decode cX2_tooMany 11 = .ok (.invokevirtual 454, 3) := dk_182 1 198 (dk_at dksX2_tooMany_0 11 rfl rfl)
theorem dX2_tooMany_14 : decode cX2_tooMany 14 = .ok (.ifCond .eq 21, 3) := dk_153 0 21 (dk_at dksX2_tooMany_0 14 rfl rfl)
theorem dX2_tooMany_17 : decode cX2_tooMany 17 = .ok (.iload_n 1, 1) := dk_27 (dk_at dksX2_tooMany_0 17 rfl rfl)
theorem dX2_tooMany_18 : decode cX2_tooMany 18 = .ok (.iconst (-1), 1) := dk_2 (dk_at dksX2_tooMany_0 18 rfl rfl)
theorem dX2_tooMany_19 : decode cX2_tooMany 19 = .ok (.if_icmp .eq 14, 3) := dk_159 0 14 (dk_at dksX2_tooMany_0 19 rfl rfl)
theorem dX2_tooMany_22 : decode cX2_tooMany 22 = .ok (.iload_n 2, 1) := dk_28 (dk_at dksX2_tooMany_0 22 rfl rfl)
theorem dX2_tooMany_23 : decode cX2_tooMany 23 = .ok (.invokestatic 358, 3) := dk_184 1 102 (dk_at dksX2_tooMany_1 0 rfl rfl)
theorem dX2_tooMany_26 : decode cX2_tooMany 26 = .ok (.iload_n 1, 1) := dk_27 (dk_at dksX2_tooMany_1 3 rfl rfl)
theorem dX2_tooMany_27 : decode cX2_tooMany 27 = .ok (.invokestatic 358, 3) := dk_184 1 102 (dk_at dksX2_tooMany_1 4 rfl rfl)
theorem dX2_tooMany_30 : decode cX2_tooMany 30 = .ok (.if_icmp .gt 5, 3) := dk_163 0 5 (dk_at dksX2_tooMany_1 7 rfl rfl)
theorem dX2_tooMany_33 : decode cX2_tooMany 33 = .ok (.iload_n 2, 1) := dk_28 (dk_at dksX2_tooMany_1 10 rfl rfl)
theorem dX2_tooMany_34 : decode cX2_tooMany 34 = .ok (.istore_n 1, 1) := dk_60 (dk_at dksX2_tooMany_1 11 rfl rfl)
theorem dX2_tooMany_35 : decode cX2_tooMany 35 = .ok (.iinc 2 (-1), 3) := dk_132 2 255 (dk_at dksX2_tooMany_1 12 rfl rfl)
theorem dX2_tooMany_38 : decode cX2_tooMany 38 = .ok (.goto (-33), 3) := dk_167 255 223 (dk_at dksX2_tooMany_1 15 rfl rfl)
theorem dX2_tooMany_41 : decode cX2_tooMany 41 = .ok (.iload_n 1, 1) := dk_27 (dk_at dksX2_tooMany_1 18 rfl rfl)
theorem dX2_tooMany_42 : decode cX2_tooMany 42 = .ok (.ireturn, 1) := dk_172 (dk_at dksX2_tooMany_1 19 rfl rfl)
abbrev cX2_isTooMany : ByteArray := prog_20_method_138_code
def yX2_isTooMany : MethodName := ⟨RX2, "isTooMany", "(I)Z"⟩
def dkwX2_isTooMany_2 : List UInt8 := [167, 255, 213, 28, 27, 184, 1, 102, 164, 0, 7, 4, 167, 0, 4, 3, 172]
abbrev dktX2_isTooMany_2 : List UInt8 := dkwX2_isTooMany_2 ++ []
def dkwX2_isTooMany_1 : List UInt8 := [42, 180, 0, 68, 29, 46, 27, 2, 130, 126, 154, 0, 7, 4, 167, 0, 4, 3, 96, 61, 132, 3, 1]
abbrev dktX2_isTooMany_1 : List UInt8 := dkwX2_isTooMany_1 ++ dktX2_isTooMany_2
def dkwX2_isTooMany_0 : List UInt8 := [3, 61, 3, 62, 29, 42, 180, 0, 7, 3, 46, 162, 0, 39, 28, 42, 180, 0, 68, 29, 46, 153, 0, 20]
abbrev dktX2_isTooMany_0 : List UInt8 := dkwX2_isTooMany_0 ++ dktX2_isTooMany_1
theorem dksX2_isTooMany_0 : cX2_isTooMany.data.toList.drop 0 = dktX2_isTooMany_0 := by decide +kernel
theorem dksX2_isTooMany_1 : cX2_isTooMany.data.toList.drop 24 = dktX2_isTooMany_1 := dk_seg dksX2_isTooMany_0 24 rfl rfl
theorem dksX2_isTooMany_2 : cX2_isTooMany.data.toList.drop 47 = dktX2_isTooMany_2 := dk_seg dksX2_isTooMany_1 23 rfl rfl
theorem dX2_isTooMany_0 : decode cX2_isTooMany 0 = .ok (.iconst 0, 1) := dk_3 (dk_at dksX2_isTooMany_0 0 rfl rfl)
theorem dX2_isTooMany_1 : decode cX2_isTooMany 1 = .ok (.istore_n 2, 1) := dk_61 (dk_at dksX2_isTooMany_0 1 rfl rfl)
theorem dX2_isTooMany_2 : decode cX2_isTooMany 2 = .ok (.iconst 0, 1) := dk_3 (dk_at dksX2_isTooMany_0 2 rfl rfl)
theorem dX2_isTooMany_3 : decode cX2_isTooMany 3 = .ok (.istore_n 3, 1) := dk_62 (dk_at dksX2_isTooMany_0 3 rfl rfl)
theorem dX2_isTooMany_4 : decode cX2_isTooMany 4 = .ok (.iload_n 3, 1) := dk_29 (dk_at dksX2_isTooMany_0 4 rfl rfl)
theorem dX2_isTooMany_5 : decode cX2_isTooMany 5 = .ok (.aload_n 0, 1) := dk_42 (dk_at dksX2_isTooMany_0 5 rfl rfl)
theorem dX2_isTooMany_6 : decode cX2_isTooMany 6 = .ok (.getfield 7, 3) := dk_180 0 7 (dk_at dksX2_isTooMany_0 6 rfl rfl)
theorem dX2_isTooMany_9 : decode cX2_isTooMany 9 = .ok (.iconst 0, 1) := dk_3 (dk_at dksX2_isTooMany_0 9 rfl rfl)
theorem dX2_isTooMany_10 : decode cX2_isTooMany 10 = .ok (.iaload, 1) := dk_46 (dk_at dksX2_isTooMany_0 10 rfl rfl)
theorem dX2_isTooMany_11 : decode cX2_isTooMany 11 = .ok (.if_icmp .ge 39, 3) := dk_162 0 39 (dk_at dksX2_isTooMany_0 11 rfl rfl)
theorem dX2_isTooMany_14 : decode cX2_isTooMany 14 = .ok (.iload_n 2, 1) := dk_28 (dk_at dksX2_isTooMany_0 14 rfl rfl)
theorem dX2_isTooMany_15 : decode cX2_isTooMany 15 = .ok (.aload_n 0, 1) := dk_42 (dk_at dksX2_isTooMany_0 15 rfl rfl)
theorem dX2_isTooMany_16 : decode cX2_isTooMany 16 = .ok (.getfield 68, 3) := dk_180 0 68 (dk_at dksX2_isTooMany_0 16 rfl rfl)
theorem dX2_isTooMany_19 : decode cX2_isTooMany 19 = .ok (.iload_n 3, 1) := dk_29 (dk_at dksX2_isTooMany_0 19 rfl rfl)
theorem dX2_isTooMany_20 : decode cX2_isTooMany 20 = .ok (.iaload, 1) := dk_46 (dk_at dksX2_isTooMany_0 20 rfl rfl)
theorem dX2_isTooMany_21 : decode cX2_isTooMany 21 = .ok (.ifCond .eq 20, 3) := dk_153 0 20 (dk_at dksX2_isTooMany_0 21 rfl rfl)
theorem dX2_isTooMany_24 : decode cX2_isTooMany 24 = .ok (.aload_n 0, 1) := dk_42 (dk_at dksX2_isTooMany_1 0 rfl rfl)
theorem dX2_isTooMany_25 : decode cX2_isTooMany 25 = .ok (.getfield 68, 3) := dk_180 0 68 (dk_at dksX2_isTooMany_1 1 rfl rfl)
theorem dX2_isTooMany_28 : decode cX2_isTooMany 28 = .ok (.iload_n 3, 1) := dk_29 (dk_at dksX2_isTooMany_1 4 rfl rfl)
theorem dX2_isTooMany_29 : decode cX2_isTooMany 29 = .ok (.iaload, 1) := dk_46 (dk_at dksX2_isTooMany_1 5 rfl rfl)
theorem dX2_isTooMany_30 : decode cX2_isTooMany 30 = .ok (.iload_n 1, 1) := dk_27 (dk_at dksX2_isTooMany_1 6 rfl rfl)
theorem dX2_isTooMany_31 : decode cX2_isTooMany 31 = .ok (.iconst (-1), 1) := dk_2 (dk_at dksX2_isTooMany_1 7 rfl rfl)
theorem dX2_isTooMany_32 : decode cX2_isTooMany 32 = .ok (.ixor, 1) := dk_130 (dk_at dksX2_isTooMany_1 8 rfl rfl)
theorem dX2_isTooMany_33 : decode cX2_isTooMany 33 = .ok (.iand, 1) := dk_126 (dk_at dksX2_isTooMany_1 9 rfl rfl)
theorem dX2_isTooMany_34 : decode cX2_isTooMany 34 = .ok (.ifCond .ne 7, 3) := dk_154 0 7 (dk_at dksX2_isTooMany_1 10 rfl rfl)
theorem dX2_isTooMany_37 : decode cX2_isTooMany 37 = .ok (.iconst 1, 1) := dk_4 (dk_at dksX2_isTooMany_1 13 rfl rfl)
theorem dX2_isTooMany_38 : decode cX2_isTooMany 38 = .ok (.goto 4, 3) := dk_167 0 4 (dk_at dksX2_isTooMany_1 14 rfl rfl)
theorem dX2_isTooMany_41 : decode cX2_isTooMany 41 = .ok (.iconst 0, 1) := dk_3 (dk_at dksX2_isTooMany_1 17 rfl rfl)
theorem dX2_isTooMany_42 : decode cX2_isTooMany 42 = .ok (.iadd, 1) := dk_96 (dk_at dksX2_isTooMany_1 18 rfl rfl)
theorem dX2_isTooMany_43 : decode cX2_isTooMany 43 = .ok (.istore_n 2, 1) := dk_61 (dk_at dksX2_isTooMany_1 19 rfl rfl)
theorem dX2_isTooMany_44 : decode cX2_isTooMany 44 = .ok (.iinc 3 1, 3) := dk_132 3 1 (dk_at dksX2_isTooMany_1 20 rfl rfl)
theorem dX2_isTooMany_47 : decode cX2_isTooMany 47 = .ok (.goto (-43), 3) := dk_167 255 213 (dk_at dksX2_isTooMany_2 0 rfl rfl)
theorem dX2_isTooMany_50 : decode cX2_isTooMany 50 = .ok (.iload_n 2, 1) := dk_28 (dk_at dksX2_isTooMany_2 3 rfl rfl)
theorem dX2_isTooMany_51 : decode cX2_isTooMany 51 = .ok (.iload_n 1, 1) := dk_27 (dk_at dksX2_isTooMany_2 4 rfl rfl)
theorem dX2_isTooMany_52 : decode cX2_isTooMany 52 = .ok (.invokestatic 358, 3) := dk_184 1 102 (dk_at dksX2_isTooMany_2 5 rfl rfl)
theorem dX2_isTooMany_55 : decode cX2_isTooMany 55 = .ok (.if_icmp .le 7, 3) := dk_164 0 7 (dk_at dksX2_isTooMany_2 8 rfl rfl)
theorem dX2_isTooMany_58 : decode cX2_isTooMany 58 = .ok (.iconst 1, 1) := dk_4 (dk_at dksX2_isTooMany_2 11 rfl rfl)
theorem dX2_isTooMany_59 : decode cX2_isTooMany 59 = .ok (.goto 4, 3) := dk_167 0 4 (dk_at dksX2_isTooMany_2 12 rfl rfl)
theorem dX2_isTooMany_62 : decode cX2_isTooMany 62 = .ok (.iconst 0, 1) := dk_3 (dk_at dksX2_isTooMany_2 15 rfl rfl)
theorem dX2_isTooMany_63 : decode cX2_isTooMany 63 = .ok (.ireturn, 1) := dk_172 (dk_at dksX2_isTooMany_2 16 rfl rfl)
abbrev cX2_sold : ByteArray := prog_20_method_145_code
def yX2_sold : MethodName := ⟨RX2, "sold", "(I)I"⟩
def dkwX2_sold_2 : List UInt8 := [172]
abbrev dktX2_sold_2 : List UInt8 := dkwX2_sold_2 ++ []
def dkwX2_sold_1 : List UInt8 := [132, 2, 1, 167, 255, 245, 42, 180, 0, 68, 27, 46, 154, 0, 7, 2, 167, 0, 8, 28, 27, 184, 1, 213]
abbrev dktX2_sold_1 : List UInt8 := dkwX2_sold_1 ++ dktX2_sold_2
def dkwX2_sold_0 : List UInt8 := [42, 27, 182, 1, 151, 154, 0, 5, 2, 172, 42, 182, 1, 207, 3, 61, 42, 28, 182, 1, 216, 154, 0, 9]
abbrev dktX2_sold_0 : List UInt8 := dkwX2_sold_0 ++ dktX2_sold_1
theorem dksX2_sold_0 : cX2_sold.data.toList.drop 0 = dktX2_sold_0 := by decide +kernel
theorem dksX2_sold_1 : cX2_sold.data.toList.drop 24 = dktX2_sold_1 := dk_seg dksX2_sold_0 24 rfl rfl
theorem dksX2_sold_2 : cX2_sold.data.toList.drop 48 = dktX2_sold_2 := dk_seg dksX2_sold_1 24 rfl rfl
theorem dX2_sold_0 : decode cX2_sold 0 = .ok (.aload_n 0, 1) := dk_42 (dk_at dksX2_sold_0 0 rfl rfl)
theorem dX2_sold_1 : decode cX2_sold 1 = .ok (.iload_n 1, 1) := dk_27 (dk_at dksX2_sold_0 1 rfl rfl)
theorem dX2_sold_2 : decode cX2_sold 2 = .ok (.invokevirtual 407, 3) := dk_182 1 151 (dk_at dksX2_sold_0 2 rfl rfl)
theorem dX2_sold_5 : decode cX2_sold 5 = .ok (.ifCond .ne 5, 3) := dk_154 0 5 (dk_at dksX2_sold_0 5 rfl rfl)
theorem dX2_sold_8 : decode cX2_sold 8 = .ok (.iconst (-1), 1) := dk_2 (dk_at dksX2_sold_0 8 rfl rfl)
theorem dX2_sold_9 : decode cX2_sold 9 = .ok (.ireturn, 1) := dk_172 (dk_at dksX2_sold_0 9 rfl rfl)
theorem dX2_sold_10 : decode cX2_sold 10 = .ok (.aload_n 0, 1) := dk_42 (dk_at dksX2_sold_0 10 rfl rfl)
theorem dX2_sold_11 : decode cX2_sold 11 = .ok (.invokevirtual 463, 3) := dk_182 1 207 (dk_at dksX2_sold_0 11 rfl rfl)
theorem dX2_sold_14 : decode cX2_sold 14 = .ok (.iconst 0, 1) := dk_3 (dk_at dksX2_sold_0 14 rfl rfl)
theorem dX2_sold_15 : decode cX2_sold 15 = .ok (.istore_n 2, 1) := dk_61 (dk_at dksX2_sold_0 15 rfl rfl)
theorem dX2_sold_16 : decode cX2_sold 16 = .ok (.aload_n 0, 1) := dk_42 (dk_at dksX2_sold_0 16 rfl rfl)
theorem dX2_sold_17 : decode cX2_sold 17 = .ok (.iload_n 2, 1) := dk_28 (dk_at dksX2_sold_0 17 rfl rfl)
theorem dX2_sold_18 : decode cX2_sold 18 = .ok (.invokevirtual 472, 3) := dk_182 1 216 (dk_at dksX2_sold_0 18 rfl rfl)
theorem dX2_sold_21 : decode cX2_sold 21 = .ok (.ifCond .ne 9, 3) := dk_154 0 9 (dk_at dksX2_sold_0 21 rfl rfl)
theorem dX2_sold_24 : decode cX2_sold 24 = .ok (.iinc 2 1, 3) := dk_132 2 1 (dk_at dksX2_sold_1 0 rfl rfl)
theorem dX2_sold_27 : decode cX2_sold 27 = .ok (.goto (-11), 3) := dk_167 255 245 (dk_at dksX2_sold_1 3 rfl rfl)
theorem dX2_sold_30 : decode cX2_sold 30 = .ok (.aload_n 0, 1) := dk_42 (dk_at dksX2_sold_1 6 rfl rfl)
theorem dX2_sold_31 : decode cX2_sold 31 = .ok (.getfield 68, 3) := dk_180 0 68 (dk_at dksX2_sold_1 7 rfl rfl)
theorem dX2_sold_34 : decode cX2_sold 34 = .ok (.iload_n 1, 1) := dk_27 (dk_at dksX2_sold_1 10 rfl rfl)
theorem dX2_sold_35 : decode cX2_sold 35 = .ok (.iaload, 1) := dk_46 (dk_at dksX2_sold_1 11 rfl rfl)
theorem dX2_sold_36 : decode cX2_sold 36 = .ok (.ifCond .ne 7, 3) := dk_154 0 7 (dk_at dksX2_sold_1 12 rfl rfl)
theorem dX2_sold_39 : decode cX2_sold 39 = .ok (.iconst (-1), 1) := dk_2 (dk_at dksX2_sold_1 15 rfl rfl)
theorem dX2_sold_40 : decode cX2_sold 40 = .ok (.goto 8, 3) := dk_167 0 8 (dk_at dksX2_sold_1 16 rfl rfl)
theorem dX2_sold_43 : decode cX2_sold 43 = .ok (.iload_n 2, 1) := dk_28 (dk_at dksX2_sold_1 19 rfl rfl)
theorem dX2_sold_44 : decode cX2_sold 44 = .ok (.iload_n 1, 1) := dk_27 (dk_at dksX2_sold_1 20 rfl rfl)
theorem dX2_sold_45 : decode cX2_sold 45 = .ok (.invokestatic 469, 3) := dk_184 1 213 (dk_at dksX2_sold_1 21 rfl rfl)
theorem dX2_sold_48 : decode cX2_sold 48 = .ok (.ireturn, 1) := dk_172 (dk_at dksX2_sold_2 0 rfl rfl)
abbrev cX2_areSold : ByteArray := prog_20_method_144_code
def yX2_areSold : MethodName := ⟨RX2, "areSold", "(I)Z"⟩
def dkwX2_areSold_3 : List UInt8 := [132, 3, 1, 167, 255, 185, 4, 172]
abbrev dktX2_areSold_3 : List UInt8 := dkwX2_areSold_3 ++ []
def dkwX2_areSold_2 : List UInt8 := [184, 0, 87, 153, 0, 12, 28, 21, 4, 184, 0, 87, 153, 0, 5, 3, 172, 28, 4, 21, 4, 120, 128, 61]
abbrev dktX2_areSold_2 : List UInt8 := dkwX2_areSold_2 ++ dktX2_areSold_3
def dkwX2_areSold_1 : List UInt8 := [42, 180, 0, 68, 29, 46, 154, 0, 10, 21, 4, 153, 0, 37, 3, 172, 42, 180, 0, 68, 29, 46, 21, 4]
abbrev dktX2_areSold_1 : List UInt8 := dkwX2_areSold_1 ++ dktX2_areSold_2
def dkwX2_areSold_0 : List UInt8 := [3, 61, 3, 62, 29, 8, 162, 0, 72, 27, 29, 184, 1, 213, 54, 4, 42, 29, 182, 1, 151, 153, 0, 12]
abbrev dktX2_areSold_0 : List UInt8 := dkwX2_areSold_0 ++ dktX2_areSold_1
theorem dksX2_areSold_0 : cX2_areSold.data.toList.drop 0 = dktX2_areSold_0 := by decide +kernel
theorem dksX2_areSold_1 : cX2_areSold.data.toList.drop 24 = dktX2_areSold_1 := dk_seg dksX2_areSold_0 24 rfl rfl
theorem dksX2_areSold_2 : cX2_areSold.data.toList.drop 48 = dktX2_areSold_2 := dk_seg dksX2_areSold_1 24 rfl rfl
theorem dksX2_areSold_3 : cX2_areSold.data.toList.drop 72 = dktX2_areSold_3 := dk_seg dksX2_areSold_2 24 rfl rfl
theorem dX2_areSold_0 : decode cX2_areSold 0 = .ok (.iconst 0, 1) := dk_3 (dk_at dksX2_areSold_0 0 rfl rfl)
theorem dX2_areSold_1 : decode cX2_areSold 1 = .ok (.istore_n 2, 1) := dk_61 (dk_at dksX2_areSold_0 1 rfl rfl)
theorem dX2_areSold_2 : decode cX2_areSold 2 = .ok (.iconst 0, 1) := dk_3 (dk_at dksX2_areSold_0 2 rfl rfl)
theorem dX2_areSold_3 : decode cX2_areSold 3 = .ok (.istore_n 3, 1) := dk_62 (dk_at dksX2_areSold_0 3 rfl rfl)
theorem dX2_areSold_4 : decode cX2_areSold 4 = .ok (.iload_n 3, 1) := dk_29 (dk_at dksX2_areSold_0 4 rfl rfl)
theorem dX2_areSold_5 : decode cX2_areSold 5 = .ok (.iconst 5, 1) := dk_8 (dk_at dksX2_areSold_0 5 rfl rfl)
theorem dX2_areSold_6 : decode cX2_areSold 6 = .ok (.if_icmp .ge 72, 3) := dk_162 0 72 (dk_at dksX2_areSold_0 6 rfl rfl)
theorem dX2_areSold_9 : decode cX2_areSold 9 = .ok (.iload_n 1, 1) := dk_27 (dk_at dksX2_areSold_0 9 rfl rfl)
theorem dX2_areSold_10 : decode cX2_areSold 10 = .ok (.iload_n 3, 1) := dk_29 (dk_at dksX2_areSold_0 10 rfl rfl)
theorem dX2_areSold_11 : decode cX2_areSold 11 = .ok (.invokestatic 469, 3) := dk_184 1 213 (dk_at dksX2_areSold_0 11 rfl rfl)
theorem dX2_areSold_14 : decode cX2_areSold 14 = .ok (.istore 4, 2) := dk_54 4 (dk_at dksX2_areSold_0 14 rfl rfl)
theorem dX2_areSold_16 : decode cX2_areSold 16 = .ok (.aload_n 0, 1) := dk_42 (dk_at dksX2_areSold_0 16 rfl rfl)
theorem dX2_areSold_17 : decode cX2_areSold 17 = .ok (.iload_n 3, 1) := dk_29 (dk_at dksX2_areSold_0 17 rfl rfl)
theorem dX2_areSold_18 : decode cX2_areSold 18 = .ok (.invokevirtual 407, 3) := dk_182 1 151 (dk_at dksX2_areSold_0 18 rfl rfl)
theorem dX2_areSold_21 : decode cX2_areSold 21 = .ok (.ifCond .eq 12, 3) := dk_153 0 12 (dk_at dksX2_areSold_0 21 rfl rfl)
theorem dX2_areSold_24 : decode cX2_areSold 24 = .ok (.aload_n 0, 1) := dk_42 (dk_at dksX2_areSold_1 0 rfl rfl)
theorem dX2_areSold_25 : decode cX2_areSold 25 = .ok (.getfield 68, 3) := dk_180 0 68 (dk_at dksX2_areSold_1 1 rfl rfl)
theorem dX2_areSold_28 : decode cX2_areSold 28 = .ok (.iload_n 3, 1) := dk_29 (dk_at dksX2_areSold_1 4 rfl rfl)
theorem dX2_areSold_29 : decode cX2_areSold 29 = .ok (.iaload, 1) := dk_46 (dk_at dksX2_areSold_1 5 rfl rfl)
theorem dX2_areSold_30 : decode cX2_areSold 30 = .ok (.ifCond .ne 10, 3) := dk_154 0 10 (dk_at dksX2_areSold_1 6 rfl rfl)
theorem dX2_areSold_33 : decode cX2_areSold 33 = .ok (.iload 4, 2) := dk_21 4 (dk_at dksX2_areSold_1 9 rfl rfl)
theorem dX2_areSold_35 : decode cX2_areSold 35 = .ok (.ifCond .eq 37, 3) := dk_153 0 37 (dk_at dksX2_areSold_1 11 rfl rfl)
theorem dX2_areSold_38 : decode cX2_areSold 38 = .ok (.iconst 0, 1) := dk_3 (dk_at dksX2_areSold_1 14 rfl rfl)
theorem dX2_areSold_39 : decode cX2_areSold 39 = .ok (.ireturn, 1) := dk_172 (dk_at dksX2_areSold_1 15 rfl rfl)
theorem dX2_areSold_40 : decode cX2_areSold 40 = .ok (.aload_n 0, 1) := dk_42 (dk_at dksX2_areSold_1 16 rfl rfl)
theorem dX2_areSold_41 : decode cX2_areSold 41 = .ok (.getfield 68, 3) := dk_180 0 68 (dk_at dksX2_areSold_1 17 rfl rfl)
theorem dX2_areSold_44 : decode cX2_areSold 44 = .ok (.iload_n 3, 1) := dk_29 (dk_at dksX2_areSold_1 20 rfl rfl)
theorem dX2_areSold_45 : decode cX2_areSold 45 = .ok (.iaload, 1) := dk_46 (dk_at dksX2_areSold_1 21 rfl rfl)
theorem dX2_areSold_46 : decode cX2_areSold 46 = .ok (.iload 4, 2) := dk_21 4 (dk_at dksX2_areSold_1 22 rfl rfl)
theorem dX2_areSold_48 : decode cX2_areSold 48 = .ok (.invokestatic 87, 3) := dk_184 0 87 (dk_at dksX2_areSold_2 0 rfl rfl)
theorem dX2_areSold_51 : decode cX2_areSold 51 = .ok (.ifCond .eq 12, 3) := dk_153 0 12 (dk_at dksX2_areSold_2 3 rfl rfl)
theorem dX2_areSold_54 : decode cX2_areSold 54 = .ok (.iload_n 2, 1) := dk_28 (dk_at dksX2_areSold_2 6 rfl rfl)
theorem dX2_areSold_55 : decode cX2_areSold 55 = .ok (.iload 4, 2) := dk_21 4 (dk_at dksX2_areSold_2 7 rfl rfl)
theorem dX2_areSold_57 : decode cX2_areSold 57 = .ok (.invokestatic 87, 3) := dk_184 0 87 (dk_at dksX2_areSold_2 9 rfl rfl)
theorem dX2_areSold_60 : decode cX2_areSold 60 = .ok (.ifCond .eq 5, 3) := dk_153 0 5 (dk_at dksX2_areSold_2 12 rfl rfl)
theorem dX2_areSold_63 : decode cX2_areSold 63 = .ok (.iconst 0, 1) := dk_3 (dk_at dksX2_areSold_2 15 rfl rfl)
theorem dX2_areSold_64 : decode cX2_areSold 64 = .ok (.ireturn, 1) := dk_172 (dk_at dksX2_areSold_2 16 rfl rfl)
theorem dX2_areSold_65 : decode cX2_areSold 65 = .ok (.iload_n 2, 1) := dk_28 (dk_at dksX2_areSold_2 17 rfl rfl)
theorem dX2_areSold_66 : decode cX2_areSold 66 = .ok (.iconst 1, 1) := dk_4 (dk_at dksX2_areSold_2 18 rfl rfl)
theorem dX2_areSold_67 : decode cX2_areSold 67 = .ok (.iload 4, 2) := dk_21 4 (dk_at dksX2_areSold_2 19 rfl rfl)
theorem dX2_areSold_69 : decode cX2_areSold 69 = .ok (.ishl, 1) := dk_120 (dk_at dksX2_areSold_2 21 rfl rfl)
theorem dX2_areSold_70 : decode cX2_areSold 70 = .ok (.ior, 1) := dk_128 (dk_at dksX2_areSold_2 22 rfl rfl)
theorem dX2_areSold_71 : decode cX2_areSold 71 = .ok (.istore_n 2, 1) := dk_61 (dk_at dksX2_areSold_2 23 rfl rfl)
theorem dX2_areSold_72 : decode cX2_areSold 72 = .ok (.iinc 3 1, 3) := dk_132 3 1 (dk_at dksX2_areSold_3 0 rfl rfl)
theorem dX2_areSold_75 : decode cX2_areSold 75 = .ok (.goto (-71), 3) := dk_167 255 185 (dk_at dksX2_areSold_3 3 rfl rfl)
theorem dX2_areSold_78 : decode cX2_areSold 78 = .ok (.iconst 1, 1) := dk_4 (dk_at dksX2_areSold_3 6 rfl rfl)
theorem dX2_areSold_79 : decode cX2_areSold 79 = .ok (.ireturn, 1) := dk_172 (dk_at dksX2_areSold_3 7 rfl rfl)
abbrev cX2_fieldBy : ByteArray := prog_20_method_142_code
def yX2_fieldBy : MethodName := ⟨RX2, "fieldBy", "(II)I"⟩
def dkwX2_fieldBy_0 : List UInt8 := [26, 7, 27, 100, 184, 1, 210, 172]
abbrev dktX2_fieldBy_0 : List UInt8 := dkwX2_fieldBy_0 ++ []
theorem dksX2_fieldBy_0 : cX2_fieldBy.data.toList.drop 0 = dktX2_fieldBy_0 := by decide +kernel
theorem dX2_fieldBy_0 : decode cX2_fieldBy 0 = .ok (.iload_n 0, 1) := dk_26 (dk_at dksX2_fieldBy_0 0 rfl rfl)
theorem dX2_fieldBy_1 : decode cX2_fieldBy 1 = .ok (.iconst 4, 1) := dk_7 (dk_at dksX2_fieldBy_0 1 rfl rfl)
theorem dX2_fieldBy_2 : decode cX2_fieldBy 2 = .ok (.iload_n 1, 1) := dk_27 (dk_at dksX2_fieldBy_0 2 rfl rfl)
theorem dX2_fieldBy_3 : decode cX2_fieldBy 3 = .ok (.isub, 1) := dk_100 (dk_at dksX2_fieldBy_0 3 rfl rfl)
theorem dX2_fieldBy_4 : decode cX2_fieldBy 4 = .ok (.invokestatic 466, 3) := dk_184 1 210 (dk_at dksX2_fieldBy_0 4 rfl rfl)
theorem dX2_fieldBy_7 : decode cX2_fieldBy 7 = .ok (.ireturn, 1) := dk_172 (dk_at dksX2_fieldBy_0 7 rfl rfl)
abbrev cX2_digitBy : ByteArray := prog_20_method_143_code
def yX2_digitBy : MethodName := ⟨RX2, "digitBy", "(II)I"⟩
def dkwX2_digitBy_0 : List UInt8 := [26, 61, 3, 62, 29, 27, 162, 0, 13, 28, 8, 108, 61, 132, 3, 1, 167, 255, 244, 28, 8, 112, 172]
abbrev dktX2_digitBy_0 : List UInt8 := dkwX2_digitBy_0 ++ []
theorem dksX2_digitBy_0 : cX2_digitBy.data.toList.drop 0 = dktX2_digitBy_0 := by decide +kernel
theorem dX2_digitBy_0 : decode cX2_digitBy 0 = .ok (.iload_n 0, 1) := dk_26 (dk_at dksX2_digitBy_0 0 rfl rfl)
theorem dX2_digitBy_1 : decode cX2_digitBy 1 = .ok (.istore_n 2, 1) := dk_61 (dk_at dksX2_digitBy_0 1 rfl rfl)
theorem dX2_digitBy_2 : decode cX2_digitBy 2 = .ok (.iconst 0, 1) := dk_3 (dk_at dksX2_digitBy_0 2 rfl rfl)
theorem dX2_digitBy_3 : decode cX2_digitBy 3 = .ok (.istore_n 3, 1) := dk_62 (dk_at dksX2_digitBy_0 3 rfl rfl)
theorem dX2_digitBy_4 : decode cX2_digitBy 4 = .ok (.iload_n 3, 1) := dk_29 (dk_at dksX2_digitBy_0 4 rfl rfl)
theorem dX2_digitBy_5 : decode cX2_digitBy 5 = .ok (.iload_n 1, 1) := dk_27 (dk_at dksX2_digitBy_0 5 rfl rfl)
theorem dX2_digitBy_6 : decode cX2_digitBy 6 = .ok (.if_icmp .ge 13, 3) := dk_162 0 13 (dk_at dksX2_digitBy_0 6 rfl rfl)
theorem dX2_digitBy_9 : decode cX2_digitBy 9 = .ok (.iload_n 2, 1) := dk_28 (dk_at dksX2_digitBy_0 9 rfl rfl)
theorem dX2_digitBy_10 : decode cX2_digitBy 10 = .ok (.iconst 5, 1) := dk_8 (dk_at dksX2_digitBy_0 10 rfl rfl)
theorem dX2_digitBy_11 : decode cX2_digitBy 11 = .ok (.idiv, 1) := dk_108 (dk_at dksX2_digitBy_0 11 rfl rfl)
theorem dX2_digitBy_12 : decode cX2_digitBy 12 = .ok (.istore_n 2, 1) := dk_61 (dk_at dksX2_digitBy_0 12 rfl rfl)
theorem dX2_digitBy_13 : decode cX2_digitBy 13 = .ok (.iinc 3 1, 3) := dk_132 3 1 (dk_at dksX2_digitBy_0 13 rfl rfl)
theorem dX2_digitBy_16 : decode cX2_digitBy 16 = .ok (.goto (-12), 3) := dk_167 255 244 (dk_at dksX2_digitBy_0 16 rfl rfl)
theorem dX2_digitBy_19 : decode cX2_digitBy 19 = .ok (.iload_n 2, 1) := dk_28 (dk_at dksX2_digitBy_0 19 rfl rfl)
theorem dX2_digitBy_20 : decode cX2_digitBy 20 = .ok (.iconst 5, 1) := dk_8 (dk_at dksX2_digitBy_0 20 rfl rfl)
theorem dX2_digitBy_21 : decode cX2_digitBy 21 = .ok (.irem, 1) := dk_112 (dk_at dksX2_digitBy_0 21 rfl rfl)
theorem dX2_digitBy_22 : decode cX2_digitBy 22 = .ok (.ireturn, 1) := dk_172 (dk_at dksX2_digitBy_0 22 rfl rfl)
abbrev cX2_envy : ByteArray := prog_20_method_147_code
def yX2_envy : MethodName := ⟨RX2, "envy", "()I"⟩
def dkwX2_envy_2 : List UInt8 := [96, 60, 132, 3, 1, 167, 255, 220, 132, 2, 1, 167, 255, 202, 27, 172]
abbrev dktX2_envy_2 : List UInt8 := dkwX2_envy_2 ++ []
def dkwX2_envy_1 : List UInt8 := [162, 0, 32, 27, 42, 28, 29, 182, 1, 219, 42, 28, 28, 182, 1, 219, 164, 0, 7, 4, 167, 0, 4, 3]
abbrev dktX2_envy_1 : List UInt8 := dkwX2_envy_1 ++ dktX2_envy_2
def dkwX2_envy_0 : List UInt8 := [3, 60, 3, 61, 28, 42, 180, 0, 7, 3, 46, 162, 0, 50, 3, 62, 29, 42, 180, 0, 7, 3, 46]
abbrev dktX2_envy_0 : List UInt8 := dkwX2_envy_0 ++ dktX2_envy_1
theorem dksX2_envy_0 : cX2_envy.data.toList.drop 0 = dktX2_envy_0 := by decide +kernel
theorem dksX2_envy_1 : cX2_envy.data.toList.drop 23 = dktX2_envy_1 := dk_seg dksX2_envy_0 23 rfl rfl
theorem dksX2_envy_2 : cX2_envy.data.toList.drop 47 = dktX2_envy_2 := dk_seg dksX2_envy_1 24 rfl rfl
theorem dX2_envy_0 : decode cX2_envy 0 = .ok (.iconst 0, 1) := dk_3 (dk_at dksX2_envy_0 0 rfl rfl)
theorem dX2_envy_1 : decode cX2_envy 1 = .ok (.istore_n 1, 1) := dk_60 (dk_at dksX2_envy_0 1 rfl rfl)
theorem dX2_envy_2 : decode cX2_envy 2 = .ok (.iconst 0, 1) := dk_3 (dk_at dksX2_envy_0 2 rfl rfl)
theorem dX2_envy_3 : decode cX2_envy 3 = .ok (.istore_n 2, 1) := dk_61 (dk_at dksX2_envy_0 3 rfl rfl)
theorem dX2_envy_4 : decode cX2_envy 4 = .ok (.iload_n 2, 1) := dk_28 (dk_at dksX2_envy_0 4 rfl rfl)
theorem dX2_envy_5 : decode cX2_envy 5 = .ok (.aload_n 0, 1) := dk_42 (dk_at dksX2_envy_0 5 rfl rfl)
theorem dX2_envy_6 : decode cX2_envy 6 = .ok (.getfield 7, 3) := dk_180 0 7 (dk_at dksX2_envy_0 6 rfl rfl)
theorem dX2_envy_9 : decode cX2_envy 9 = .ok (.iconst 0, 1) := dk_3 (dk_at dksX2_envy_0 9 rfl rfl)
theorem dX2_envy_10 : decode cX2_envy 10 = .ok (.iaload, 1) := dk_46 (dk_at dksX2_envy_0 10 rfl rfl)
theorem dX2_envy_11 : decode cX2_envy 11 = .ok (.if_icmp .ge 50, 3) := dk_162 0 50 (dk_at dksX2_envy_0 11 rfl rfl)
theorem dX2_envy_14 : decode cX2_envy 14 = .ok (.iconst 0, 1) := dk_3 (dk_at dksX2_envy_0 14 rfl rfl)
theorem dX2_envy_15 : decode cX2_envy 15 = .ok (.istore_n 3, 1) := dk_62 (dk_at dksX2_envy_0 15 rfl rfl)
theorem dX2_envy_16 : decode cX2_envy 16 = .ok (.iload_n 3, 1) := dk_29 (dk_at dksX2_envy_0 16 rfl rfl)
theorem dX2_envy_17 : decode cX2_envy 17 = .ok (.aload_n 0, 1) := dk_42 (dk_at dksX2_envy_0 17 rfl rfl)
theorem dX2_envy_18 : decode cX2_envy 18 = .ok (.getfield 7, 3) := dk_180 0 7 (dk_at dksX2_envy_0 18 rfl rfl)
theorem dX2_envy_21 : decode cX2_envy 21 = .ok (.iconst 0, 1) := dk_3 (dk_at dksX2_envy_0 21 rfl rfl)
theorem dX2_envy_22 : decode cX2_envy 22 = .ok (.iaload, 1) := dk_46 (dk_at dksX2_envy_0 22 rfl rfl)
theorem dX2_envy_23 : decode cX2_envy 23 = .ok (.if_icmp .ge 32, 3) := dk_162 0 32 (dk_at dksX2_envy_1 0 rfl rfl)
theorem dX2_envy_26 : decode cX2_envy 26 = .ok (.iload_n 1, 1) := dk_27 (dk_at dksX2_envy_1 3 rfl rfl)
theorem dX2_envy_27 : decode cX2_envy 27 = .ok (.aload_n 0, 1) := dk_42 (dk_at dksX2_envy_1 4 rfl rfl)
theorem dX2_envy_28 : decode cX2_envy 28 = .ok (.iload_n 2, 1) := dk_28 (dk_at dksX2_envy_1 5 rfl rfl)
theorem dX2_envy_29 : decode cX2_envy 29 = .ok (.iload_n 3, 1) := dk_29 (dk_at dksX2_envy_1 6 rfl rfl)
theorem dX2_envy_30 : decode cX2_envy 30 = .ok (.invokevirtual 475, 3) := dk_182 1 219 (dk_at dksX2_envy_1 7 rfl rfl)
theorem dX2_envy_33 : decode cX2_envy 33 = .ok (.aload_n 0, 1) := dk_42 (dk_at dksX2_envy_1 10 rfl rfl)
theorem dX2_envy_34 : decode cX2_envy 34 = .ok (.iload_n 2, 1) := dk_28 (dk_at dksX2_envy_1 11 rfl rfl)
theorem dX2_envy_35 : decode cX2_envy 35 = .ok (.iload_n 2, 1) := dk_28 (dk_at dksX2_envy_1 12 rfl rfl)
theorem dX2_envy_36 : decode cX2_envy 36 = .ok (.invokevirtual 475, 3) := dk_182 1 219 (dk_at dksX2_envy_1 13 rfl rfl)
theorem dX2_envy_39 : decode cX2_envy 39 = .ok (.if_icmp .le 7, 3) := dk_164 0 7 (dk_at dksX2_envy_1 16 rfl rfl)
theorem dX2_envy_42 : decode cX2_envy 42 = .ok (.iconst 1, 1) := dk_4 (dk_at dksX2_envy_1 19 rfl rfl)
theorem dX2_envy_43 : decode cX2_envy 43 = .ok (.goto 4, 3) := dk_167 0 4 (dk_at dksX2_envy_1 20 rfl rfl)
theorem dX2_envy_46 : decode cX2_envy 46 = .ok (.iconst 0, 1) := dk_3 (dk_at dksX2_envy_1 23 rfl rfl)
theorem dX2_envy_47 : decode cX2_envy 47 = .ok (.iadd, 1) := dk_96 (dk_at dksX2_envy_2 0 rfl rfl)
theorem dX2_envy_48 : decode cX2_envy 48 = .ok (.istore_n 1, 1) := dk_60 (dk_at dksX2_envy_2 1 rfl rfl)
theorem dX2_envy_49 : decode cX2_envy 49 = .ok (.iinc 3 1, 3) := dk_132 3 1 (dk_at dksX2_envy_2 2 rfl rfl)
theorem dX2_envy_52 : decode cX2_envy 52 = .ok (.goto (-36), 3) := dk_167 255 220 (dk_at dksX2_envy_2 5 rfl rfl)
theorem dX2_envy_55 : decode cX2_envy 55 = .ok (.iinc 2 1, 3) := dk_132 2 1 (dk_at dksX2_envy_2 8 rfl rfl)
theorem dX2_envy_58 : decode cX2_envy 58 = .ok (.goto (-54), 3) := dk_167 255 202 (dk_at dksX2_envy_2 11 rfl rfl)
theorem dX2_envy_61 : decode cX2_envy 61 = .ok (.iload_n 1, 1) := dk_27 (dk_at dksX2_envy_2 14 rfl rfl)
theorem dX2_envy_62 : decode cX2_envy 62 = .ok (.ireturn, 1) := dk_172 (dk_at dksX2_envy_2 15 rfl rfl)
abbrev cX2_wantsOwn : ByteArray := prog_20_method_146_code
def yX2_wantsOwn : MethodName := ⟨RX2, "wantsOwn", "(II)I"⟩
def dkwX2_wantsOwn_0 : List UInt8 := [42, 28, 182, 1, 66, 2, 160, 0, 7, 3, 167, 0, 13, 42, 27, 42, 28, 182, 1, 66, 182, 1, 59, 172]
abbrev dktX2_wantsOwn_0 : List UInt8 := dkwX2_wantsOwn_0 ++ []
theorem dksX2_wantsOwn_0 : cX2_wantsOwn.data.toList.drop 0 = dktX2_wantsOwn_0 := by decide +kernel
theorem dX2_wantsOwn_0 : decode cX2_wantsOwn 0 = .ok (.aload_n 0, 1) := dk_42 (dk_at dksX2_wantsOwn_0 0 rfl rfl)
theorem dX2_wantsOwn_1 : decode cX2_wantsOwn 1 = .ok (.iload_n 2, 1) := dk_28 (dk_at dksX2_wantsOwn_0 1 rfl rfl)
theorem dX2_wantsOwn_2 : decode cX2_wantsOwn 2 = .ok (.invokevirtual 322, 3) := dk_182 1 66 (dk_at dksX2_wantsOwn_0 2 rfl rfl)
theorem dX2_wantsOwn_5 : decode cX2_wantsOwn 5 = .ok (.iconst (-1), 1) := dk_2 (dk_at dksX2_wantsOwn_0 5 rfl rfl)
theorem dX2_wantsOwn_6 : decode cX2_wantsOwn 6 = .ok (.if_icmp .ne 7, 3) := dk_160 0 7 (dk_at dksX2_wantsOwn_0 6 rfl rfl)
theorem dX2_wantsOwn_9 : decode cX2_wantsOwn 9 = .ok (.iconst 0, 1) := dk_3 (dk_at dksX2_wantsOwn_0 9 rfl rfl)
theorem dX2_wantsOwn_10 : decode cX2_wantsOwn 10 = .ok (.goto 13, 3) := dk_167 0 13 (dk_at dksX2_wantsOwn_0 10 rfl rfl)
theorem dX2_wantsOwn_13 : decode cX2_wantsOwn 13 = .ok (.aload_n 0, 1) := dk_42 (dk_at dksX2_wantsOwn_0 13 rfl rfl)
theorem dX2_wantsOwn_14 : decode cX2_wantsOwn 14 = .ok (.iload_n 1, 1) := dk_27 (dk_at dksX2_wantsOwn_0 14 rfl rfl)
theorem dX2_wantsOwn_15 : decode cX2_wantsOwn 15 = .ok (.aload_n 0, 1) := dk_42 (dk_at dksX2_wantsOwn_0 15 rfl rfl)
theorem dX2_wantsOwn_16 : decode cX2_wantsOwn 16 = .ok (.iload_n 2, 1) := dk_28 (dk_at dksX2_wantsOwn_0 16 rfl rfl)
theorem dX2_wantsOwn_17 : decode cX2_wantsOwn 17 = .ok (.invokevirtual 322, 3) := dk_182 1 66 (dk_at dksX2_wantsOwn_0 17 rfl rfl)
theorem dX2_wantsOwn_20 : decode cX2_wantsOwn 20 = .ok (.invokevirtual 315, 3) := dk_182 1 59 (dk_at dksX2_wantsOwn_0 20 rfl rfl)
theorem dX2_wantsOwn_23 : decode cX2_wantsOwn 23 = .ok (.ireturn, 1) := dk_172 (dk_at dksX2_wantsOwn_0 23 rfl rfl)
abbrev cX2_said : ByteArray := prog_20_method_148_code
def yX2_said : MethodName := ⟨RX2, "said", "(III)I"⟩
def dkwX2_said_4 : List UInt8 := [96, 29, 79, 42, 180, 0, 7, 7, 92, 46, 4, 96, 79, 42, 180, 0, 7, 7, 46, 172]
abbrev dktX2_said_4 : List UInt8 := dkwX2_said_4 ++ []
def dkwX2_said_3 : List UInt8 := [180, 0, 7, 21, 4, 27, 79, 42, 180, 0, 7, 21, 4, 4, 96, 28, 79, 42, 180, 0, 7, 21, 4, 5]
abbrev dktX2_said_3 : List UInt8 := dkwX2_said_3 ++ dktX2_said_4
def dkwX2_said_2 : List UInt8 := [16, 8, 160, 0, 6, 16, 254, 172, 16, 62, 6, 42, 180, 0, 7, 7, 46, 104, 96, 54, 4, 42]
abbrev dktX2_said_2 : List UInt8 := dkwX2_said_2 ++ dktX2_said_3
def dkwX2_said_1 : List UInt8 := [184, 0, 95, 153, 0, 25, 29, 16, 157, 16, 99, 184, 0, 75, 153, 0, 14, 42, 180, 0, 7, 7, 46]
abbrev dktX2_said_1 : List UInt8 := dkwX2_said_1 ++ dktX2_said_2
def dkwX2_said_0 : List UInt8 := [27, 2, 160, 0, 12, 42, 180, 0, 7, 7, 3, 79, 3, 172, 42, 27, 182, 1, 151, 153, 0, 32, 28]
abbrev dktX2_said_0 : List UInt8 := dkwX2_said_0 ++ dktX2_said_1
theorem dksX2_said_0 : cX2_said.data.toList.drop 0 = dktX2_said_0 := by decide +kernel
theorem dksX2_said_1 : cX2_said.data.toList.drop 23 = dktX2_said_1 := dk_seg dksX2_said_0 23 rfl rfl
theorem dksX2_said_2 : cX2_said.data.toList.drop 46 = dktX2_said_2 := dk_seg dksX2_said_1 23 rfl rfl
theorem dksX2_said_3 : cX2_said.data.toList.drop 68 = dktX2_said_3 := dk_seg dksX2_said_2 22 rfl rfl
theorem dksX2_said_4 : cX2_said.data.toList.drop 92 = dktX2_said_4 := dk_seg dksX2_said_3 24 rfl rfl
theorem dX2_said_0 : decode cX2_said 0 = .ok (.iload_n 1, 1) := dk_27 (dk_at dksX2_said_0 0 rfl rfl)
theorem dX2_said_1 : decode cX2_said 1 = .ok (.iconst (-1), 1) := dk_2 (dk_at dksX2_said_0 1 rfl rfl)
theorem dX2_said_2 : decode cX2_said 2 = .ok (.if_icmp .ne 12, 3) := dk_160 0 12 (dk_at dksX2_said_0 2 rfl rfl)
theorem dX2_said_5 : decode cX2_said 5 = .ok (.aload_n 0, 1) := dk_42 (dk_at dksX2_said_0 5 rfl rfl)
theorem dX2_said_6 : decode cX2_said 6 = .ok (.getfield 7, 3) := dk_180 0 7 (dk_at dksX2_said_0 6 rfl rfl)
theorem dX2_said_9 : decode cX2_said 9 = .ok (.iconst 4, 1) := dk_7 (dk_at dksX2_said_0 9 rfl rfl)
theorem dX2_said_10 : decode cX2_said 10 = .ok (.iconst 0, 1) := dk_3 (dk_at dksX2_said_0 10 rfl rfl)
theorem dX2_said_11 : decode cX2_said 11 = .ok (.iastore, 1) := dk_79 (dk_at dksX2_said_0 11 rfl rfl)
theorem dX2_said_12 : decode cX2_said 12 = .ok (.iconst 0, 1) := dk_3 (dk_at dksX2_said_0 12 rfl rfl)
theorem dX2_said_13 : decode cX2_said 13 = .ok (.ireturn, 1) := dk_172 (dk_at dksX2_said_0 13 rfl rfl)
theorem dX2_said_14 : decode cX2_said 14 = .ok (.aload_n 0, 1) := dk_42 (dk_at dksX2_said_0 14 rfl rfl)
theorem dX2_said_15 : decode cX2_said 15 = .ok (.iload_n 1, 1) := dk_27 (dk_at dksX2_said_0 15 rfl rfl)
theorem dX2_said_16 : decode cX2_said 16 = .ok (.invokevirtual 407, 3) := dk_182 1 151 (dk_at dksX2_said_0 16 rfl rfl)
theorem dX2_said_19 : decode cX2_said 19 = .ok (.ifCond .eq 32, 3) := dk_153 0 32 (dk_at dksX2_said_0 19 rfl rfl)
theorem dX2_said_22 : decode cX2_said 22 = .ok (.iload_n 2, 1) := dk_28 (dk_at dksX2_said_0 22 rfl rfl)
theorem dX2_said_23 : decode cX2_said 23 = .ok (.invokestatic 95, 3) := dk_184 0 95 (dk_at dksX2_said_1 0 rfl rfl)
theorem dX2_said_26 : decode cX2_said 26 = .ok (.ifCond .eq 25, 3) := dk_153 0 25 (dk_at dksX2_said_1 3 rfl rfl)
theorem dX2_said_29 : decode cX2_said 29 = .ok (.iload_n 3, 1) := dk_29 (dk_at dksX2_said_1 6 rfl rfl)
theorem dX2_said_30 : decode cX2_said 30 = .ok (.bipush (-99), 2) := dk_16 157 (dk_at dksX2_said_1 7 rfl rfl)
theorem dX2_said_32 : decode cX2_said 32 = .ok (.bipush 99, 2) := dk_16 99 (dk_at dksX2_said_1 9 rfl rfl)
theorem dX2_said_34 : decode cX2_said 34 = .ok (.invokestatic 75, 3) := dk_184 0 75 (dk_at dksX2_said_1 11 rfl rfl)
theorem dX2_said_37 : decode cX2_said 37 = .ok (.ifCond .eq 14, 3) := dk_153 0 14 (dk_at dksX2_said_1 14 rfl rfl)
theorem dX2_said_40 : decode cX2_said 40 = .ok (.aload_n 0, 1) := dk_42 (dk_at dksX2_said_1 17 rfl rfl)
theorem dX2_said_41 : decode cX2_said 41 = .ok (.getfield 7, 3) := dk_180 0 7 (dk_at dksX2_said_1 18 rfl rfl)
theorem dX2_said_44 : decode cX2_said 44 = .ok (.iconst 4, 1) := dk_7 (dk_at dksX2_said_1 21 rfl rfl)
theorem dX2_said_45 : decode cX2_said 45 = .ok (.iaload, 1) := dk_46 (dk_at dksX2_said_1 22 rfl rfl)
theorem dX2_said_46 : decode cX2_said 46 = .ok (.bipush 8, 2) := dk_16 8 (dk_at dksX2_said_2 0 rfl rfl)
theorem dX2_said_48 : decode cX2_said 48 = .ok (.if_icmp .ne 6, 3) := dk_160 0 6 (dk_at dksX2_said_2 2 rfl rfl)
theorem dX2_said_51 : decode cX2_said 51 = .ok (.bipush (-2), 2) := dk_16 254 (dk_at dksX2_said_2 5 rfl rfl)
theorem dX2_said_53 : decode cX2_said 53 = .ok (.ireturn, 1) := dk_172 (dk_at dksX2_said_2 7 rfl rfl)
theorem dX2_said_54 : decode cX2_said 54 = .ok (.bipush 62, 2) := dk_16 62 (dk_at dksX2_said_2 8 rfl rfl)
theorem dX2_said_56 : decode cX2_said 56 = .ok (.iconst 3, 1) := dk_6 (dk_at dksX2_said_2 10 rfl rfl)
theorem dX2_said_57 : decode cX2_said 57 = .ok (.aload_n 0, 1) := dk_42 (dk_at dksX2_said_2 11 rfl rfl)
theorem dX2_said_58 : decode cX2_said 58 = .ok (.getfield 7, 3) := dk_180 0 7 (dk_at dksX2_said_2 12 rfl rfl)
theorem dX2_said_61 : decode cX2_said 61 = .ok (.iconst 4, 1) := dk_7 (dk_at dksX2_said_2 15 rfl rfl)
theorem dX2_said_62 : decode cX2_said 62 = .ok (.iaload, 1) := dk_46 (dk_at dksX2_said_2 16 rfl rfl)
theorem dX2_said_63 : decode cX2_said 63 = .ok (.imul, 1) := dk_104 (dk_at dksX2_said_2 17 rfl rfl)
theorem dX2_said_64 : decode cX2_said 64 = .ok (.iadd, 1) := dk_96 (dk_at dksX2_said_2 18 rfl rfl)
theorem dX2_said_65 : decode cX2_said 65 = .ok (.istore 4, 2) := dk_54 4 (dk_at dksX2_said_2 19 rfl rfl)
theorem dX2_said_67 : decode cX2_said 67 = .ok (.aload_n 0, 1) := dk_42 (dk_at dksX2_said_2 21 rfl rfl)
theorem dX2_said_68 : decode cX2_said 68 = .ok (.getfield 7, 3) := dk_180 0 7 (dk_at dksX2_said_3 0 rfl rfl)
theorem dX2_said_71 : decode cX2_said 71 = .ok (.iload 4, 2) := dk_21 4 (dk_at dksX2_said_3 3 rfl rfl)
theorem dX2_said_73 : decode cX2_said 73 = .ok (.iload_n 1, 1) := dk_27 (dk_at dksX2_said_3 5 rfl rfl)
theorem dX2_said_74 : decode cX2_said 74 = .ok (.iastore, 1) := dk_79 (dk_at dksX2_said_3 6 rfl rfl)
theorem dX2_said_75 : decode cX2_said 75 = .ok (.aload_n 0, 1) := dk_42 (dk_at dksX2_said_3 7 rfl rfl)
theorem dX2_said_76 : decode cX2_said 76 = .ok (.getfield 7, 3) := dk_180 0 7 (dk_at dksX2_said_3 8 rfl rfl)
theorem dX2_said_79 : decode cX2_said 79 = .ok (.iload 4, 2) := dk_21 4 (dk_at dksX2_said_3 11 rfl rfl)
theorem dX2_said_81 : decode cX2_said 81 = .ok (.iconst 1, 1) := dk_4 (dk_at dksX2_said_3 13 rfl rfl)
theorem dX2_said_82 : decode cX2_said 82 = .ok (.iadd, 1) := dk_96 (dk_at dksX2_said_3 14 rfl rfl)
theorem dX2_said_83 : decode cX2_said 83 = .ok (.iload_n 2, 1) := dk_28 (dk_at dksX2_said_3 15 rfl rfl)
theorem dX2_said_84 : decode cX2_said 84 = .ok (.iastore, 1) := dk_79 (dk_at dksX2_said_3 16 rfl rfl)
theorem dX2_said_85 : decode cX2_said 85 = .ok (.aload_n 0, 1) := dk_42 (dk_at dksX2_said_3 17 rfl rfl)
theorem dX2_said_86 : decode cX2_said 86 = .ok (.getfield 7, 3) := dk_180 0 7 (dk_at dksX2_said_3 18 rfl rfl)
theorem dX2_said_89 : decode cX2_said 89 = .ok (.iload 4, 2) := dk_21 4 (dk_at dksX2_said_3 21 rfl rfl)
theorem dX2_said_91 : decode cX2_said 91 = .ok (.iconst 2, 1) := dk_5 (dk_at dksX2_said_3 23 rfl rfl)
theorem dX2_said_92 : decode cX2_said 92 = .ok (.iadd, 1) := dk_96 (dk_at dksX2_said_4 0 rfl rfl)
theorem dX2_said_93 : decode cX2_said 93 = .ok (.iload_n 3, 1) := dk_29 (dk_at dksX2_said_4 1 rfl rfl)
theorem dX2_said_94 : decode cX2_said 94 = .ok (.iastore, 1) := dk_79 (dk_at dksX2_said_4 2 rfl rfl)
theorem dX2_said_95 : decode cX2_said 95 = .ok (.aload_n 0, 1) := dk_42 (dk_at dksX2_said_4 3 rfl rfl)
theorem dX2_said_96 : decode cX2_said 96 = .ok (.getfield 7, 3) := dk_180 0 7 (dk_at dksX2_said_4 4 rfl rfl)
theorem dX2_said_99 : decode cX2_said 99 = .ok (.iconst 4, 1) := dk_7 (dk_at dksX2_said_4 7 rfl rfl)
theorem dX2_said_100 : decode cX2_said 100 = .ok (.dup2, 1) := dk_92 (dk_at dksX2_said_4 8 rfl rfl)
theorem dX2_said_101 : decode cX2_said 101 = .ok (.iaload, 1) := dk_46 (dk_at dksX2_said_4 9 rfl rfl)
theorem dX2_said_102 : decode cX2_said 102 = .ok (.iconst 1, 1) := dk_4 (dk_at dksX2_said_4 10 rfl rfl)
theorem dX2_said_103 : decode cX2_said 103 = .ok (.iadd, 1) := dk_96 (dk_at dksX2_said_4 11 rfl rfl)
theorem dX2_said_104 : decode cX2_said 104 = .ok (.iastore, 1) := dk_79 (dk_at dksX2_said_4 12 rfl rfl)
theorem dX2_said_105 : decode cX2_said 105 = .ok (.aload_n 0, 1) := dk_42 (dk_at dksX2_said_4 13 rfl rfl)
theorem dX2_said_106 : decode cX2_said 106 = .ok (.getfield 7, 3) := dk_180 0 7 (dk_at dksX2_said_4 14 rfl rfl)
theorem dX2_said_109 : decode cX2_said 109 = .ok (.iconst 4, 1) := dk_7 (dk_at dksX2_said_4 17 rfl rfl)
theorem dX2_said_110 : decode cX2_said 110 = .ok (.iaload, 1) := dk_46 (dk_at dksX2_said_4 18 rfl rfl)
theorem dX2_said_111 : decode cX2_said 111 = .ok (.ireturn, 1) := dk_172 (dk_at dksX2_said_4 19 rfl rfl)
abbrev cX2_whose : ByteArray := prog_20_method_149_code
def yX2_whose : MethodName := ⟨RX2, "whose", "()I"⟩
def dkwX2_whose_4 : List UInt8 := [167, 0, 4, 3, 128, 60, 132, 2, 1, 167, 255, 158, 27, 172]
abbrev dktX2_whose_4 : List UInt8 := dkwX2_whose_4 ++ []
def dkwX2_whose_3 : List UInt8 := [160, 0, 7, 4, 167, 0, 4, 3, 62, 132, 4, 3, 167, 255, 194, 27, 29, 153, 0, 9, 4, 28, 120]
abbrev dktX2_whose_3 : List UInt8 := dkwX2_whose_3 ++ dktX2_whose_4
def dkwX2_whose_2 : List UInt8 := [46, 42, 180, 0, 7, 21, 4, 4, 96, 46, 182, 1, 93, 42, 180, 0, 7, 21, 4, 5, 96, 46]
abbrev dktX2_whose_2 : List UInt8 := dkwX2_whose_2 ++ dktX2_whose_3
def dkwX2_whose_1 : List UInt8 := [6, 42, 180, 0, 7, 7, 46, 104, 96, 162, 0, 52, 29, 153, 0, 40, 42, 28, 42, 180, 0, 7, 21, 4]
abbrev dktX2_whose_1 : List UInt8 := dkwX2_whose_1 ++ dktX2_whose_2
def dkwX2_whose_0 : List UInt8 := [3, 60, 3, 61, 28, 42, 180, 0, 7, 4, 46, 162, 0, 94, 4, 62, 16, 62, 54, 4, 21, 4, 16, 62]
abbrev dktX2_whose_0 : List UInt8 := dkwX2_whose_0 ++ dktX2_whose_1
theorem dksX2_whose_0 : cX2_whose.data.toList.drop 0 = dktX2_whose_0 := by decide +kernel
theorem dksX2_whose_1 : cX2_whose.data.toList.drop 24 = dktX2_whose_1 := dk_seg dksX2_whose_0 24 rfl rfl
theorem dksX2_whose_2 : cX2_whose.data.toList.drop 48 = dktX2_whose_2 := dk_seg dksX2_whose_1 24 rfl rfl
theorem dksX2_whose_3 : cX2_whose.data.toList.drop 70 = dktX2_whose_3 := dk_seg dksX2_whose_2 22 rfl rfl
theorem dksX2_whose_4 : cX2_whose.data.toList.drop 93 = dktX2_whose_4 := dk_seg dksX2_whose_3 23 rfl rfl
theorem dX2_whose_0 : decode cX2_whose 0 = .ok (.iconst 0, 1) := dk_3 (dk_at dksX2_whose_0 0 rfl rfl)
theorem dX2_whose_1 : decode cX2_whose 1 = .ok (.istore_n 1, 1) := dk_60 (dk_at dksX2_whose_0 1 rfl rfl)
theorem dX2_whose_2 : decode cX2_whose 2 = .ok (.iconst 0, 1) := dk_3 (dk_at dksX2_whose_0 2 rfl rfl)
theorem dX2_whose_3 : decode cX2_whose 3 = .ok (.istore_n 2, 1) := dk_61 (dk_at dksX2_whose_0 3 rfl rfl)
theorem dX2_whose_4 : decode cX2_whose 4 = .ok (.iload_n 2, 1) := dk_28 (dk_at dksX2_whose_0 4 rfl rfl)
theorem dX2_whose_5 : decode cX2_whose 5 = .ok (.aload_n 0, 1) := dk_42 (dk_at dksX2_whose_0 5 rfl rfl)
theorem dX2_whose_6 : decode cX2_whose 6 = .ok (.getfield 7, 3) := dk_180 0 7 (dk_at dksX2_whose_0 6 rfl rfl)
theorem dX2_whose_9 : decode cX2_whose 9 = .ok (.iconst 1, 1) := dk_4 (dk_at dksX2_whose_0 9 rfl rfl)
theorem dX2_whose_10 : decode cX2_whose 10 = .ok (.iaload, 1) := dk_46 (dk_at dksX2_whose_0 10 rfl rfl)
theorem dX2_whose_11 : decode cX2_whose 11 = .ok (.if_icmp .ge 94, 3) := dk_162 0 94 (dk_at dksX2_whose_0 11 rfl rfl)
theorem dX2_whose_14 : decode cX2_whose 14 = .ok (.iconst 1, 1) := dk_4 (dk_at dksX2_whose_0 14 rfl rfl)
theorem dX2_whose_15 : decode cX2_whose 15 = .ok (.istore_n 3, 1) := dk_62 (dk_at dksX2_whose_0 15 rfl rfl)
theorem dX2_whose_16 : decode cX2_whose 16 = .ok (.bipush 62, 2) := dk_16 62 (dk_at dksX2_whose_0 16 rfl rfl)
theorem dX2_whose_18 : decode cX2_whose 18 = .ok (.istore 4, 2) := dk_54 4 (dk_at dksX2_whose_0 18 rfl rfl)
theorem dX2_whose_20 : decode cX2_whose 20 = .ok (.iload 4, 2) := dk_21 4 (dk_at dksX2_whose_0 20 rfl rfl)
theorem dX2_whose_22 : decode cX2_whose 22 = .ok (.bipush 62, 2) := dk_16 62 (dk_at dksX2_whose_0 22 rfl rfl)
theorem dX2_whose_24 : decode cX2_whose 24 = .ok (.iconst 3, 1) := dk_6 (dk_at dksX2_whose_1 0 rfl rfl)
theorem dX2_whose_25 : decode cX2_whose 25 = .ok (.aload_n 0, 1) := dk_42 (dk_at dksX2_whose_1 1 rfl rfl)
theorem dX2_whose_26 : decode cX2_whose 26 = .ok (.getfield 7, 3) := dk_180 0 7 (dk_at dksX2_whose_1 2 rfl rfl)
theorem dX2_whose_29 : decode cX2_whose 29 = .ok (.iconst 4, 1) := dk_7 (dk_at dksX2_whose_1 5 rfl rfl)
theorem dX2_whose_30 : decode cX2_whose 30 = .ok (.iaload, 1) := dk_46 (dk_at dksX2_whose_1 6 rfl rfl)
theorem dX2_whose_31 : decode cX2_whose 31 = .ok (.imul, 1) := dk_104 (dk_at dksX2_whose_1 7 rfl rfl)
theorem dX2_whose_32 : decode cX2_whose 32 = .ok (.iadd, 1) := dk_96 (dk_at dksX2_whose_1 8 rfl rfl)
theorem dX2_whose_33 : decode cX2_whose 33 = .ok (.if_icmp .ge 52, 3) := dk_162 0 52 (dk_at dksX2_whose_1 9 rfl rfl)
theorem dX2_whose_36 : decode cX2_whose 36 = .ok (.iload_n 3, 1) := dk_29 (dk_at dksX2_whose_1 12 rfl rfl)
theorem dX2_whose_37 : decode cX2_whose 37 = .ok (.ifCond .eq 40, 3) := dk_153 0 40 (dk_at dksX2_whose_1 13 rfl rfl)
theorem dX2_whose_40 : decode cX2_whose 40 = .ok (.aload_n 0, 1) := dk_42 (dk_at dksX2_whose_1 16 rfl rfl)
theorem dX2_whose_41 : decode cX2_whose 41 = .ok (.iload_n 2, 1) := dk_28 (dk_at dksX2_whose_1 17 rfl rfl)
theorem dX2_whose_42 : decode cX2_whose 42 = .ok (.aload_n 0, 1) := dk_42 (dk_at dksX2_whose_1 18 rfl rfl)
theorem dX2_whose_43 : decode cX2_whose 43 = .ok (.getfield 7, 3) := dk_180 0 7 (dk_at dksX2_whose_1 19 rfl rfl)
theorem dX2_whose_46 : decode cX2_whose 46 = .ok (.iload 4, 2) := dk_21 4 (dk_at dksX2_whose_1 22 rfl rfl)
theorem dX2_whose_48 : decode cX2_whose 48 = .ok (.iaload, 1) := dk_46 (dk_at dksX2_whose_2 0 rfl rfl)
theorem dX2_whose_49 : decode cX2_whose 49 = .ok (.aload_n 0, 1) := dk_42 (dk_at dksX2_whose_2 1 rfl rfl)
theorem dX2_whose_50 : decode cX2_whose 50 = .ok (.getfield 7, 3) := dk_180 0 7 (dk_at dksX2_whose_2 2 rfl rfl)
theorem dX2_whose_53 : decode cX2_whose 53 = .ok (.iload 4, 2) := dk_21 4 (dk_at dksX2_whose_2 5 rfl rfl)
theorem dX2_whose_55 : decode cX2_whose 55 = .ok (.iconst 1, 1) := dk_4 (dk_at dksX2_whose_2 7 rfl rfl)
theorem dX2_whose_56 : decode cX2_whose 56 = .ok (.iadd, 1) := dk_96 (dk_at dksX2_whose_2 8 rfl rfl)
theorem dX2_whose_57 : decode cX2_whose 57 = .ok (.iaload, 1) := dk_46 (dk_at dksX2_whose_2 9 rfl rfl)
theorem dX2_whose_58 : decode cX2_whose 58 = .ok (.invokevirtual 349, 3) := dk_182 1 93 (dk_at dksX2_whose_2 10 rfl rfl)
theorem dX2_whose_61 : decode cX2_whose 61 = .ok (.aload_n 0, 1) := dk_42 (dk_at dksX2_whose_2 13 rfl rfl)
theorem dX2_whose_62 : decode cX2_whose 62 = .ok (.getfield 7, 3) := dk_180 0 7 (dk_at dksX2_whose_2 14 rfl rfl)
theorem dX2_whose_65 : decode cX2_whose 65 = .ok (.iload 4, 2) := dk_21 4 (dk_at dksX2_whose_2 17 rfl rfl)
theorem dX2_whose_67 : decode cX2_whose 67 = .ok (.iconst 2, 1) := dk_5 (dk_at dksX2_whose_2 19 rfl rfl)
theorem dX2_whose_68 : decode cX2_whose 68 = .ok (.iadd, 1) := dk_96 (dk_at dksX2_whose_2 20 rfl rfl)
theorem dX2_whose_69 : decode cX2_whose 69 = .ok (.iaload, 1) := dk_46 (dk_at dksX2_whose_2 21 rfl rfl)
theorem dX2_whose_70 : decode cX2_whose 70 = .ok (.if_icmp .ne 7, 3) := dk_160 0 7 (dk_at dksX2_whose_3 0 rfl rfl)
theorem dX2_whose_73 : decode cX2_whose 73 = .ok (.iconst 1, 1) := dk_4 (dk_at dksX2_whose_3 3 rfl rfl)
theorem dX2_whose_74 : decode cX2_whose 74 = .ok (.goto 4, 3) := dk_167 0 4 (dk_at dksX2_whose_3 4 rfl rfl)
theorem dX2_whose_77 : decode cX2_whose 77 = .ok (.iconst 0, 1) := dk_3 (dk_at dksX2_whose_3 7 rfl rfl)
theorem dX2_whose_78 : decode cX2_whose 78 = .ok (.istore_n 3, 1) := dk_62 (dk_at dksX2_whose_3 8 rfl rfl)
theorem dX2_whose_79 : decode cX2_whose 79 = .ok (.iinc 4 3, 3) := dk_132 4 3 (dk_at dksX2_whose_3 9 rfl rfl)
theorem dX2_whose_82 : decode cX2_whose 82 = .ok (.goto (-62), 3) := dk_167 255 194 (dk_at dksX2_whose_3 12 rfl rfl)
theorem dX2_whose_85 : decode cX2_whose 85 = .ok (.iload_n 1, 1) := dk_27 (dk_at dksX2_whose_3 15 rfl rfl)
theorem dX2_whose_86 : decode cX2_whose 86 = .ok (.iload_n 3, 1) := dk_29 (dk_at dksX2_whose_3 16 rfl rfl)
theorem dX2_whose_87 : decode cX2_whose 87 = .ok (.ifCond .eq 9, 3) := dk_153 0 9 (dk_at dksX2_whose_3 17 rfl rfl)
theorem dX2_whose_90 : decode cX2_whose 90 = .ok (.iconst 1, 1) := dk_4 (dk_at dksX2_whose_3 20 rfl rfl)
theorem dX2_whose_91 : decode cX2_whose 91 = .ok (.iload_n 2, 1) := dk_28 (dk_at dksX2_whose_3 21 rfl rfl)
theorem dX2_whose_92 : decode cX2_whose 92 = .ok (.ishl, 1) := dk_120 (dk_at dksX2_whose_3 22 rfl rfl)
theorem dX2_whose_93 : decode cX2_whose 93 = .ok (.goto 4, 3) := dk_167 0 4 (dk_at dksX2_whose_4 0 rfl rfl)
theorem dX2_whose_96 : decode cX2_whose 96 = .ok (.iconst 0, 1) := dk_3 (dk_at dksX2_whose_4 3 rfl rfl)
theorem dX2_whose_97 : decode cX2_whose 97 = .ok (.ior, 1) := dk_128 (dk_at dksX2_whose_4 4 rfl rfl)
theorem dX2_whose_98 : decode cX2_whose 98 = .ok (.istore_n 1, 1) := dk_60 (dk_at dksX2_whose_4 5 rfl rfl)
theorem dX2_whose_99 : decode cX2_whose 99 = .ok (.iinc 2 1, 3) := dk_132 2 1 (dk_at dksX2_whose_4 6 rfl rfl)
theorem dX2_whose_102 : decode cX2_whose 102 = .ok (.goto (-98), 3) := dk_167 255 158 (dk_at dksX2_whose_4 9 rfl rfl)
theorem dX2_whose_105 : decode cX2_whose 105 = .ok (.iload_n 1, 1) := dk_27 (dk_at dksX2_whose_4 12 rfl rfl)
theorem dX2_whose_106 : decode cX2_whose 106 = .ok (.ireturn, 1) := dk_172 (dk_at dksX2_whose_4 13 rfl rfl)
abbrev cX2_image : ByteArray := prog_20_method_150_code
def yX2_image : MethodName := ⟨RX2, "image", "()I"⟩
def dkwX2_image_0 : List UInt8 := [42, 180, 0, 7, 42, 180, 0, 13, 184, 0, 71, 42, 180, 0, 7, 8, 46, 172]
abbrev dktX2_image_0 : List UInt8 := dkwX2_image_0 ++ []
theorem dksX2_image_0 : cX2_image.data.toList.drop 0 = dktX2_image_0 := by decide +kernel
theorem dX2_image_0 : decode cX2_image 0 = .ok (.aload_n 0, 1) := dk_42 (dk_at dksX2_image_0 0 rfl rfl)
theorem dX2_image_1 : decode cX2_image 1 = .ok (.getfield 7, 3) := dk_180 0 7 (dk_at dksX2_image_0 1 rfl rfl)
theorem dX2_image_4 : decode cX2_image 4 = .ok (.aload_n 0, 1) := dk_42 (dk_at dksX2_image_0 4 rfl rfl)
theorem dX2_image_5 : decode cX2_image 5 = .ok (.getfield 13, 3) := dk_180 0 13 (dk_at dksX2_image_0 5 rfl rfl)
theorem dX2_image_8 : decode cX2_image 8 = .ok (.invokestatic 71, 3) := dk_184 0 71 (dk_at dksX2_image_0 8 rfl rfl)
theorem dX2_image_11 : decode cX2_image 11 = .ok (.aload_n 0, 1) := dk_42 (dk_at dksX2_image_0 11 rfl rfl)
theorem dX2_image_12 : decode cX2_image 12 = .ok (.getfield 7, 3) := dk_180 0 7 (dk_at dksX2_image_0 12 rfl rfl)
theorem dX2_image_15 : decode cX2_image 15 = .ok (.iconst 5, 1) := dk_8 (dk_at dksX2_image_0 15 rfl rfl)
theorem dX2_image_16 : decode cX2_image 16 = .ok (.iaload, 1) := dk_46 (dk_at dksX2_image_0 16 rfl rfl)
theorem dX2_image_17 : decode cX2_image 17 = .ok (.ireturn, 1) := dk_172 (dk_at dksX2_image_0 17 rfl rfl)
abbrev cX2_back : ByteArray := prog_20_method_151_code
def yX2_back : MethodName := ⟨RX2, "back", "()I"⟩
def dkwX2_back_0 : List UInt8 := [42, 180, 0, 13, 42, 180, 0, 7, 184, 0, 71, 42, 180, 0, 7, 8, 46, 172]
abbrev dktX2_back_0 : List UInt8 := dkwX2_back_0 ++ []
theorem dksX2_back_0 : cX2_back.data.toList.drop 0 = dktX2_back_0 := by decide +kernel
theorem dX2_back_0 : decode cX2_back 0 = .ok (.aload_n 0, 1) := dk_42 (dk_at dksX2_back_0 0 rfl rfl)
theorem dX2_back_1 : decode cX2_back 1 = .ok (.getfield 13, 3) := dk_180 0 13 (dk_at dksX2_back_0 1 rfl rfl)
theorem dX2_back_4 : decode cX2_back 4 = .ok (.aload_n 0, 1) := dk_42 (dk_at dksX2_back_0 4 rfl rfl)
theorem dX2_back_5 : decode cX2_back 5 = .ok (.getfield 7, 3) := dk_180 0 7 (dk_at dksX2_back_0 5 rfl rfl)
theorem dX2_back_8 : decode cX2_back 8 = .ok (.invokestatic 71, 3) := dk_184 0 71 (dk_at dksX2_back_0 8 rfl rfl)
theorem dX2_back_11 : decode cX2_back 11 = .ok (.aload_n 0, 1) := dk_42 (dk_at dksX2_back_0 11 rfl rfl)
theorem dX2_back_12 : decode cX2_back 12 = .ok (.getfield 7, 3) := dk_180 0 7 (dk_at dksX2_back_0 12 rfl rfl)
theorem dX2_back_15 : decode cX2_back 15 = .ok (.iconst 5, 1) := dk_8 (dk_at dksX2_back_0 15 rfl rfl)
theorem dX2_back_16 : decode cX2_back 16 = .ok (.iaload, 1) := dk_46 (dk_at dksX2_back_0 16 rfl rfl)
theorem dX2_back_17 : decode cX2_back 17 = .ok (.ireturn, 1) := dk_172 (dk_at dksX2_back_0 17 rfl rfl)
abbrev cX2_about : ByteArray := prog_20_method_152_code
def yX2_about : MethodName := ⟨RX2, "about", "(I)I"⟩
def dkwX2_about_1 : List UInt8 := [180, 0, 99, 167, 0, 5, 16, 254, 172]
abbrev dktX2_about_1 : List UInt8 := dkwX2_about_1 ++ []
def dkwX2_about_0 : List UInt8 := [27, 3, 7, 184, 0, 75, 153, 0, 12, 42, 180, 0, 7, 27, 46, 167, 0, 17, 27, 8, 160, 0, 10, 42]
abbrev dktX2_about_0 : List UInt8 := dkwX2_about_0 ++ dktX2_about_1
theorem dksX2_about_0 : cX2_about.data.toList.drop 0 = dktX2_about_0 := by decide +kernel
theorem dksX2_about_1 : cX2_about.data.toList.drop 24 = dktX2_about_1 := dk_seg dksX2_about_0 24 rfl rfl
theorem dX2_about_0 : decode cX2_about 0 = .ok (.iload_n 1, 1) := dk_27 (dk_at dksX2_about_0 0 rfl rfl)
theorem dX2_about_1 : decode cX2_about 1 = .ok (.iconst 0, 1) := dk_3 (dk_at dksX2_about_0 1 rfl rfl)
theorem dX2_about_2 : decode cX2_about 2 = .ok (.iconst 4, 1) := dk_7 (dk_at dksX2_about_0 2 rfl rfl)
theorem dX2_about_3 : decode cX2_about 3 = .ok (.invokestatic 75, 3) := dk_184 0 75 (dk_at dksX2_about_0 3 rfl rfl)
theorem dX2_about_6 : decode cX2_about 6 = .ok (.ifCond .eq 12, 3) := dk_153 0 12 (dk_at dksX2_about_0 6 rfl rfl)
theorem dX2_about_9 : decode cX2_about 9 = .ok (.aload_n 0, 1) := dk_42 (dk_at dksX2_about_0 9 rfl rfl)
theorem dX2_about_10 : decode cX2_about 10 = .ok (.getfield 7, 3) := dk_180 0 7 (dk_at dksX2_about_0 10 rfl rfl)
theorem dX2_about_13 : decode cX2_about 13 = .ok (.iload_n 1, 1) := dk_27 (dk_at dksX2_about_0 13 rfl rfl)
theorem dX2_about_14 : decode cX2_about 14 = .ok (.iaload, 1) := dk_46 (dk_at dksX2_about_0 14 rfl rfl)
theorem dX2_about_15 : decode cX2_about 15 = .ok (.goto 17, 3) := dk_167 0 17 (dk_at dksX2_about_0 15 rfl rfl)
theorem dX2_about_18 : decode cX2_about 18 = .ok (.iload_n 1, 1) := dk_27 (dk_at dksX2_about_0 18 rfl rfl)
theorem dX2_about_19 : decode cX2_about 19 = .ok (.iconst 5, 1) := dk_8 (dk_at dksX2_about_0 19 rfl rfl)
theorem dX2_about_20 : decode cX2_about 20 = .ok (.if_icmp .ne 10, 3) := dk_160 0 10 (dk_at dksX2_about_0 20 rfl rfl)
theorem dX2_about_23 : decode cX2_about 23 = .ok (.aload_n 0, 1) := dk_42 (dk_at dksX2_about_0 23 rfl rfl)
theorem dX2_about_24 : decode cX2_about 24 = .ok (.getfield 99, 3) := dk_180 0 99 (dk_at dksX2_about_1 0 rfl rfl)
theorem dX2_about_27 : decode cX2_about 27 = .ok (.goto 5, 3) := dk_167 0 5 (dk_at dksX2_about_1 3 rfl rfl)
theorem dX2_about_30 : decode cX2_about 30 = .ok (.bipush (-2), 2) := dk_16 254 (dk_at dksX2_about_1 6 rfl rfl)
theorem dX2_about_32 : decode cX2_about 32 = .ok (.ireturn, 1) := dk_172 (dk_at dksX2_about_1 8 rfl rfl)
theorem q139 : (Jvm.Cond.initialized "SownByArgumentModel") ∈ lw_all := lw_g (lw_at lw_m1 5 rfl) rfl
theorem q776 : (Jvm.Cond.selects "SownByArgumentModel" ({ cls := "java/lang/Object", name := "getClass", desc := "()Ljava/lang/Class;" } : Jvm.MethodName) ({ cls := "java/lang/Object", name := "getClass", desc := "()Ljava/lang/Class;" } : Jvm.MethodName)) ∈ lw_all := lw_g (lw_at lw_m3 162 rfl) rfl
theorem q1397 : (Jvm.Cond.instantiable "SownByArgumentModel" (35 : Nat)) ∈ lw_all := lw_g (lw_at lw_m6 63 rfl) rfl
theorem q1399 : (Jvm.Cond.instanceMethod ({ cls := "SownByArgumentModel", name := "<init>", desc := "()V" } : Jvm.MethodName)) ∈ lw_all := lw_g (lw_at lw_m6 65 rfl) rfl
theorem q1400 : (Jvm.Cond.code ({ cls := "SownByArgumentModel", name := "<init>", desc := "()V" } : Jvm.MethodName) prog_20_method_1_code (2 : Nat) (Option.none : Option Jvm.ClassFile.FieldType)) ∈ lw_all := lw_g (lw_at lw_m6 66 rfl) rfl
theorem q1401 : (Jvm.Cond.methodLink "SownByArgumentModel" (1 : Nat) ({ cls := "java/lang/Object", name := "<init>", desc := "()V" } : Jvm.MethodName)) ∈ lw_all := lw_g (lw_at lw_m6 67 rfl) rfl
theorem q1402 : (Jvm.Cond.methodLink "SownByArgumentModel" (71 : Nat) ({ cls := "SownByArgumentModel", name := "copy", desc := "([I[I)V" } : Jvm.MethodName)) ∈ lw_all := lw_g (lw_at lw_m6 68 rfl) rfl
theorem q1403 : (Jvm.Cond.static ({ cls := "SownByArgumentModel", name := "copy", desc := "([I[I)V" } : Jvm.MethodName)) ∈ lw_all := lw_g (lw_at lw_m6 69 rfl) rfl
theorem q1404 : (Jvm.Cond.code ({ cls := "SownByArgumentModel", name := "copy", desc := "([I[I)V" } : Jvm.MethodName) prog_20_method_2_code (3 : Nat) (Option.none : Option Jvm.ClassFile.FieldType)) ∈ lw_all := lw_g (lw_at lw_m6 70 rfl) rfl
theorem q1405 : (Jvm.Cond.fieldLink "SownByArgumentModel" (7 : Nat) "SownByArgumentModel" "a" "[I") ∈ lw_all := lw_g (lw_at lw_m6 71 rfl) rfl
theorem q1406 : (Jvm.Cond.fieldLink "SownByArgumentModel" (13 : Nat) "SownByArgumentModel" "image" "[I") ∈ lw_all := lw_g (lw_at lw_m6 72 rfl) rfl
theorem q1407 : (Jvm.Cond.fieldLink "SownByArgumentModel" (16 : Nat) "SownByArgumentModel" "texts" "[I") ∈ lw_all := lw_g (lw_at lw_m6 73 rfl) rfl
theorem q1408 : (Jvm.Cond.fieldLink "SownByArgumentModel" (19 : Nat) "SownByArgumentModel" "tape" "[I") ∈ lw_all := lw_g (lw_at lw_m6 74 rfl) rfl
theorem q1409 : (Jvm.Cond.fieldLink "SownByArgumentModel" (99 : Nat) "SownByArgumentModel" "taped" "I") ∈ lw_all := lw_g (lw_at lw_m6 75 rfl) rfl
theorem q1410 : (Jvm.Cond.fieldLink "SownByArgumentModel" (22 : Nat) "SownByArgumentModel" "fault" "I") ∈ lw_all := lw_g (lw_at lw_m6 76 rfl) rfl
theorem q1411 : (Jvm.Cond.fieldLink "SownByArgumentModel" (26 : Nat) "SownByArgumentModel" "faultPlace" "I") ∈ lw_all := lw_g (lw_at lw_m6 77 rfl) rfl
theorem q1412 : (Jvm.Cond.fieldLink "SownByArgumentModel" (106 : Nat) "SownByArgumentModel" "at" "I") ∈ lw_all := lw_g (lw_at lw_m6 78 rfl) rfl
theorem q1413 : (Jvm.Cond.fieldLink "SownByArgumentModel" (112 : Nat) "SownByArgumentModel" "place" "I") ∈ lw_all := lw_g (lw_at lw_m6 79 rfl) rfl
theorem q1414 : (Jvm.Cond.fieldLink "SownByArgumentModel" (115 : Nat) "SownByArgumentModel" "token" "I") ∈ lw_all := lw_g (lw_at lw_m6 80 rfl) rfl
theorem q1415 : (Jvm.Cond.fieldLink "SownByArgumentModel" (121 : Nat) "SownByArgumentModel" "number" "I") ∈ lw_all := lw_g (lw_at lw_m6 81 rfl) rfl
theorem q1416 : (Jvm.Cond.fieldLink "SownByArgumentModel" (128 : Nat) "SownByArgumentModel" "word" "J") ∈ lw_all := lw_g (lw_at lw_m6 82 rfl) rfl
theorem q1417 : (Jvm.Cond.fieldLink "SownByArgumentModel" (153 : Nat) "SownByArgumentModel" "text0" "I") ∈ lw_all := lw_g (lw_at lw_m6 83 rfl) rfl
theorem q1418 : (Jvm.Cond.fieldLink "SownByArgumentModel" (156 : Nat) "SownByArgumentModel" "written" "I") ∈ lw_all := lw_g (lw_at lw_m6 84 rfl) rfl
theorem q1419 : (Jvm.Cond.fieldLink "SownByArgumentModel" (163 : Nat) "SownByArgumentModel" "sort0" "I") ∈ lw_all := lw_g (lw_at lw_m6 85 rfl) rfl
theorem q1420 : (Jvm.Cond.fieldLink "SownByArgumentModel" (29 : Nat) "SownByArgumentModel" "pile" "[I") ∈ lw_all := lw_g (lw_at lw_m6 86 rfl) rfl
theorem q1421 : (Jvm.Cond.fieldLink "SownByArgumentModel" (166 : Nat) "SownByArgumentModel" "piled" "I") ∈ lw_all := lw_g (lw_at lw_m6 87 rfl) rfl
theorem q1422 : (Jvm.Cond.fieldLink "SownByArgumentModel" (176 : Nat) "SownByArgumentModel" "opens" "I") ∈ lw_all := lw_g (lw_at lw_m6 88 rfl) rfl
theorem q1423 : (Jvm.Cond.fieldLink "SownByArgumentModel" (214 : Nat) "SownByArgumentModel" "isWhole" "Z") ∈ lw_all := lw_g (lw_at lw_m6 89 rfl) rfl
theorem q1424 : (Jvm.Cond.fieldLink "SownByArgumentModel" (260 : Nat) "SownByArgumentModel" "isWorth" "Z") ∈ lw_all := lw_g (lw_at lw_m6 90 rfl) rfl
theorem q1425 : (Jvm.Cond.fieldLink "SownByArgumentModel" (263 : Nat) "SownByArgumentModel" "claimed" "I") ∈ lw_all := lw_g (lw_at lw_m6 91 rfl) rfl
theorem q1426 : (Jvm.Cond.fieldLink "SownByArgumentModel" (32 : Nat) "SownByArgumentModel" "named" "[I") ∈ lw_all := lw_g (lw_at lw_m6 92 rfl) rfl
theorem q1427 : (Jvm.Cond.fieldLink "SownByArgumentModel" (35 : Nat) "SownByArgumentModel" "values" "[J") ∈ lw_all := lw_g (lw_at lw_m6 93 rfl) rfl
theorem q1428 : (Jvm.Cond.fieldLink "SownByArgumentModel" (39 : Nat) "SownByArgumentModel" "truth" "[Z") ∈ lw_all := lw_g (lw_at lw_m6 94 rfl) rfl
theorem q1429 : (Jvm.Cond.fieldLink "SownByArgumentModel" (287 : Nat) "SownByArgumentModel" "isClaiming" "Z") ∈ lw_all := lw_g (lw_at lw_m6 95 rfl) rfl
theorem q1430 : (Jvm.Cond.fieldLink "SownByArgumentModel" (43 : Nat) "SownByArgumentModel" "isWritten" "Z") ∈ lw_all := lw_g (lw_at lw_m6 96 rfl) rfl
theorem q1431 : (Jvm.Cond.fieldLink "SownByArgumentModel" (355 : Nat) "SownByArgumentModel" "refuted" "I") ∈ lw_all := lw_g (lw_at lw_m6 97 rfl) rfl
theorem q1432 : (Jvm.Cond.fieldLink "SownByArgumentModel" (47 : Nat) "SownByArgumentModel" "claimOf" "[I") ∈ lw_all := lw_g (lw_at lw_m6 98 rfl) rfl
theorem q1433 : (Jvm.Cond.fieldLink "SownByArgumentModel" (50 : Nat) "SownByArgumentModel" "aside" "[I") ∈ lw_all := lw_g (lw_at lw_m6 99 rfl) rfl
theorem q1434 : (Jvm.Cond.fieldLink "SownByArgumentModel" (53 : Nat) "SownByArgumentModel" "wins" "[Z") ∈ lw_all := lw_g (lw_at lw_m6 100 rfl) rfl
theorem q1435 : (Jvm.Cond.fieldLink "SownByArgumentModel" (56 : Nat) "SownByArgumentModel" "chosen" "[I") ∈ lw_all := lw_g (lw_at lw_m6 101 rfl) rfl
theorem q1436 : (Jvm.Cond.fieldLink "SownByArgumentModel" (59 : Nat) "SownByArgumentModel" "traded" "[I") ∈ lw_all := lw_g (lw_at lw_m6 102 rfl) rfl
theorem q1437 : (Jvm.Cond.fieldLink "SownByArgumentModel" (62 : Nat) "SownByArgumentModel" "points" "[I") ∈ lw_all := lw_g (lw_at lw_m6 103 rfl) rfl
theorem q1438 : (Jvm.Cond.fieldLink "SownByArgumentModel" (65 : Nat) "SownByArgumentModel" "prices" "[I") ∈ lw_all := lw_g (lw_at lw_m6 104 rfl) rfl
theorem q1439 : (Jvm.Cond.fieldLink "SownByArgumentModel" (68 : Nat) "SownByArgumentModel" "would" "[I") ∈ lw_all := lw_g (lw_at lw_m6 105 rfl) rfl
theorem q1440 : (Jvm.Cond.laysFinal "SownByArgumentModel" "SownByArgumentModel" "a" "[I") ∈ lw_all := lw_g (lw_at lw_m6 106 rfl) rfl
theorem q1441 : (Jvm.Cond.soleField "SownByArgumentModel" "a") ∈ lw_all := lw_g (lw_at lw_m6 107 rfl) rfl
theorem q1442 : (Jvm.Cond.laysFinal "SownByArgumentModel" "SownByArgumentModel" "image" "[I") ∈ lw_all := lw_g (lw_at lw_m6 108 rfl) rfl
theorem q1443 : (Jvm.Cond.soleField "SownByArgumentModel" "image") ∈ lw_all := lw_g (lw_at lw_m6 109 rfl) rfl
theorem q1444 : (Jvm.Cond.laysFinal "SownByArgumentModel" "SownByArgumentModel" "texts" "[I") ∈ lw_all := lw_g (lw_at lw_m6 110 rfl) rfl
theorem q1445 : (Jvm.Cond.soleField "SownByArgumentModel" "texts") ∈ lw_all := lw_g (lw_at lw_m6 111 rfl) rfl
theorem q1446 : (Jvm.Cond.laysFinal "SownByArgumentModel" "SownByArgumentModel" "tape" "[I") ∈ lw_all := lw_g (lw_at lw_m6 112 rfl) rfl
theorem q1447 : (Jvm.Cond.soleField "SownByArgumentModel" "tape") ∈ lw_all := lw_g (lw_at lw_m6 113 rfl) rfl
theorem q1448 : (Jvm.Cond.lays "SownByArgumentModel" "SownByArgumentModel" "taped" "I") ∈ lw_all := lw_g (lw_at lw_m6 114 rfl) rfl
theorem q1449 : (Jvm.Cond.soleField "SownByArgumentModel" "taped") ∈ lw_all := lw_g (lw_at lw_m6 115 rfl) rfl
theorem q1450 : (Jvm.Cond.lays "SownByArgumentModel" "SownByArgumentModel" "fault" "I") ∈ lw_all := lw_g (lw_at lw_m6 116 rfl) rfl
theorem q1451 : (Jvm.Cond.soleField "SownByArgumentModel" "fault") ∈ lw_all := lw_g (lw_at lw_m6 117 rfl) rfl
theorem q1452 : (Jvm.Cond.lays "SownByArgumentModel" "SownByArgumentModel" "faultPlace" "I") ∈ lw_all := lw_g (lw_at lw_m6 118 rfl) rfl
theorem q1453 : (Jvm.Cond.soleField "SownByArgumentModel" "faultPlace") ∈ lw_all := lw_g (lw_at lw_m6 119 rfl) rfl
theorem q1454 : (Jvm.Cond.lays "SownByArgumentModel" "SownByArgumentModel" "at" "I") ∈ lw_all := lw_g (lw_at lw_m6 120 rfl) rfl
theorem q1455 : (Jvm.Cond.soleField "SownByArgumentModel" "at") ∈ lw_all := lw_g (lw_at lw_m6 121 rfl) rfl
theorem q1456 : (Jvm.Cond.lays "SownByArgumentModel" "SownByArgumentModel" "place" "I") ∈ lw_all := lw_g (lw_at lw_m6 122 rfl) rfl
theorem q1457 : (Jvm.Cond.soleField "SownByArgumentModel" "place") ∈ lw_all := lw_g (lw_at lw_m6 123 rfl) rfl
theorem q1458 : (Jvm.Cond.lays "SownByArgumentModel" "SownByArgumentModel" "token" "I") ∈ lw_all := lw_g (lw_at lw_m6 124 rfl) rfl
theorem q1459 : (Jvm.Cond.soleField "SownByArgumentModel" "token") ∈ lw_all := lw_g (lw_at lw_m6 125 rfl) rfl
theorem q1460 : (Jvm.Cond.lays "SownByArgumentModel" "SownByArgumentModel" "number" "I") ∈ lw_all := lw_g (lw_at lw_m6 126 rfl) rfl
theorem q1461 : (Jvm.Cond.soleField "SownByArgumentModel" "number") ∈ lw_all := lw_g (lw_at lw_m6 127 rfl) rfl
theorem q1462 : (Jvm.Cond.lays "SownByArgumentModel" "SownByArgumentModel" "word" "J") ∈ lw_all := lw_g (lw_at lw_m6 128 rfl) rfl
theorem q1463 : (Jvm.Cond.soleField "SownByArgumentModel" "word") ∈ lw_all := lw_g (lw_at lw_m6 129 rfl) rfl
theorem q1464 : (Jvm.Cond.lays "SownByArgumentModel" "SownByArgumentModel" "text0" "I") ∈ lw_all := lw_g (lw_at lw_m6 130 rfl) rfl
theorem q1465 : (Jvm.Cond.soleField "SownByArgumentModel" "text0") ∈ lw_all := lw_g (lw_at lw_m6 131 rfl) rfl
theorem q1466 : (Jvm.Cond.lays "SownByArgumentModel" "SownByArgumentModel" "written" "I") ∈ lw_all := lw_g (lw_at lw_m6 132 rfl) rfl
theorem q1467 : (Jvm.Cond.soleField "SownByArgumentModel" "written") ∈ lw_all := lw_g (lw_at lw_m6 133 rfl) rfl
theorem q1468 : (Jvm.Cond.lays "SownByArgumentModel" "SownByArgumentModel" "sort0" "I") ∈ lw_all := lw_g (lw_at lw_m6 134 rfl) rfl
theorem q1469 : (Jvm.Cond.soleField "SownByArgumentModel" "sort0") ∈ lw_all := lw_g (lw_at lw_m6 135 rfl) rfl
theorem q1470 : (Jvm.Cond.laysFinal "SownByArgumentModel" "SownByArgumentModel" "pile" "[I") ∈ lw_all := lw_g (lw_at lw_m6 136 rfl) rfl
theorem q1471 : (Jvm.Cond.soleField "SownByArgumentModel" "pile") ∈ lw_all := lw_g (lw_at lw_m6 137 rfl) rfl
theorem q1472 : (Jvm.Cond.lays "SownByArgumentModel" "SownByArgumentModel" "piled" "I") ∈ lw_all := lw_g (lw_at lw_m6 138 rfl) rfl
theorem q1473 : (Jvm.Cond.soleField "SownByArgumentModel" "piled") ∈ lw_all := lw_g (lw_at lw_m6 139 rfl) rfl
theorem q1474 : (Jvm.Cond.lays "SownByArgumentModel" "SownByArgumentModel" "opens" "I") ∈ lw_all := lw_g (lw_at lw_m6 140 rfl) rfl
theorem q1475 : (Jvm.Cond.soleField "SownByArgumentModel" "opens") ∈ lw_all := lw_g (lw_at lw_m6 141 rfl) rfl
theorem q1476 : (Jvm.Cond.lays "SownByArgumentModel" "SownByArgumentModel" "isWhole" "Z") ∈ lw_all := lw_g (lw_at lw_m6 142 rfl) rfl
theorem q1477 : (Jvm.Cond.soleField "SownByArgumentModel" "isWhole") ∈ lw_all := lw_g (lw_at lw_m6 143 rfl) rfl
theorem q1478 : (Jvm.Cond.lays "SownByArgumentModel" "SownByArgumentModel" "isWorth" "Z") ∈ lw_all := lw_g (lw_at lw_m6 144 rfl) rfl
theorem q1479 : (Jvm.Cond.soleField "SownByArgumentModel" "isWorth") ∈ lw_all := lw_g (lw_at lw_m6 145 rfl) rfl
theorem q1480 : (Jvm.Cond.lays "SownByArgumentModel" "SownByArgumentModel" "claimed" "I") ∈ lw_all := lw_g (lw_at lw_m6 146 rfl) rfl
theorem q1481 : (Jvm.Cond.soleField "SownByArgumentModel" "claimed") ∈ lw_all := lw_g (lw_at lw_m6 147 rfl) rfl
theorem q1482 : (Jvm.Cond.laysFinal "SownByArgumentModel" "SownByArgumentModel" "named" "[I") ∈ lw_all := lw_g (lw_at lw_m6 148 rfl) rfl
theorem q1483 : (Jvm.Cond.soleField "SownByArgumentModel" "named") ∈ lw_all := lw_g (lw_at lw_m6 149 rfl) rfl
theorem q1484 : (Jvm.Cond.laysFinal "SownByArgumentModel" "SownByArgumentModel" "values" "[J") ∈ lw_all := lw_g (lw_at lw_m6 150 rfl) rfl
theorem q1485 : (Jvm.Cond.soleField "SownByArgumentModel" "values") ∈ lw_all := lw_g (lw_at lw_m6 151 rfl) rfl
theorem q1486 : (Jvm.Cond.laysFinal "SownByArgumentModel" "SownByArgumentModel" "truth" "[Z") ∈ lw_all := lw_g (lw_at lw_m6 152 rfl) rfl
theorem q1487 : (Jvm.Cond.soleField "SownByArgumentModel" "truth") ∈ lw_all := lw_g (lw_at lw_m6 153 rfl) rfl
theorem q1488 : (Jvm.Cond.lays "SownByArgumentModel" "SownByArgumentModel" "isClaiming" "Z") ∈ lw_all := lw_g (lw_at lw_m6 154 rfl) rfl
theorem q1489 : (Jvm.Cond.soleField "SownByArgumentModel" "isClaiming") ∈ lw_all := lw_g (lw_at lw_m6 155 rfl) rfl
theorem q1490 : (Jvm.Cond.lays "SownByArgumentModel" "SownByArgumentModel" "isWritten" "Z") ∈ lw_all := lw_g (lw_at lw_m6 156 rfl) rfl
theorem q1491 : (Jvm.Cond.soleField "SownByArgumentModel" "isWritten") ∈ lw_all := lw_g (lw_at lw_m6 157 rfl) rfl
theorem q1492 : (Jvm.Cond.lays "SownByArgumentModel" "SownByArgumentModel" "refuted" "I") ∈ lw_all := lw_g (lw_at lw_m6 158 rfl) rfl
theorem q1493 : (Jvm.Cond.soleField "SownByArgumentModel" "refuted") ∈ lw_all := lw_g (lw_at lw_m6 159 rfl) rfl
theorem q1494 : (Jvm.Cond.laysFinal "SownByArgumentModel" "SownByArgumentModel" "claimOf" "[I") ∈ lw_all := lw_g (lw_at lw_m6 160 rfl) rfl
theorem q1495 : (Jvm.Cond.soleField "SownByArgumentModel" "claimOf") ∈ lw_all := lw_g (lw_at lw_m6 161 rfl) rfl
theorem q1496 : (Jvm.Cond.laysFinal "SownByArgumentModel" "SownByArgumentModel" "aside" "[I") ∈ lw_all := lw_g (lw_at lw_m6 162 rfl) rfl
theorem q1497 : (Jvm.Cond.soleField "SownByArgumentModel" "aside") ∈ lw_all := lw_g (lw_at lw_m6 163 rfl) rfl
theorem q1498 : (Jvm.Cond.laysFinal "SownByArgumentModel" "SownByArgumentModel" "wins" "[Z") ∈ lw_all := lw_g (lw_at lw_m6 164 rfl) rfl
theorem q1499 : (Jvm.Cond.soleField "SownByArgumentModel" "wins") ∈ lw_all := lw_g (lw_at lw_m6 165 rfl) rfl
theorem q1500 : (Jvm.Cond.laysFinal "SownByArgumentModel" "SownByArgumentModel" "chosen" "[I") ∈ lw_all := lw_g (lw_at lw_m6 166 rfl) rfl
theorem q1501 : (Jvm.Cond.soleField "SownByArgumentModel" "chosen") ∈ lw_all := lw_g (lw_at lw_m6 167 rfl) rfl
theorem q1502 : (Jvm.Cond.laysFinal "SownByArgumentModel" "SownByArgumentModel" "traded" "[I") ∈ lw_all := lw_g (lw_at lw_m6 168 rfl) rfl
theorem q1503 : (Jvm.Cond.soleField "SownByArgumentModel" "traded") ∈ lw_all := lw_g (lw_at lw_m6 169 rfl) rfl
theorem q1504 : (Jvm.Cond.laysFinal "SownByArgumentModel" "SownByArgumentModel" "points" "[I") ∈ lw_all := lw_g (lw_at lw_m6 170 rfl) rfl
theorem q1505 : (Jvm.Cond.soleField "SownByArgumentModel" "points") ∈ lw_all := lw_g (lw_at lw_m6 171 rfl) rfl
theorem q1506 : (Jvm.Cond.laysFinal "SownByArgumentModel" "SownByArgumentModel" "prices" "[I") ∈ lw_all := lw_g (lw_at lw_m6 172 rfl) rfl
theorem q1507 : (Jvm.Cond.soleField "SownByArgumentModel" "prices") ∈ lw_all := lw_g (lw_at lw_m6 173 rfl) rfl
theorem q1508 : (Jvm.Cond.laysFinal "SownByArgumentModel" "SownByArgumentModel" "would" "[I") ∈ lw_all := lw_g (lw_at lw_m6 174 rfl) rfl
theorem q1509 : (Jvm.Cond.soleField "SownByArgumentModel" "would") ∈ lw_all := lw_g (lw_at lw_m6 175 rfl) rfl
theorem q1510 : (Jvm.Cond.superclass "SownByArgumentModel" "java/lang/Object") ∈ lw_all := lw_g (lw_at lw_m6 176 rfl) rfl
theorem q1513 : (Jvm.Cond.instanceMethod ({ cls := "SownByArgumentModel", name := "farmer", desc := "(I)I" } : Jvm.MethodName)) ∈ lw_all := lw_g (lw_at lw_m6 179 rfl) rfl
theorem q1514 : (Jvm.Cond.selects "SownByArgumentModel" ({ cls := "SownByArgumentModel", name := "farmer", desc := "(I)I" } : Jvm.MethodName) ({ cls := "SownByArgumentModel", name := "farmer", desc := "(I)I" } : Jvm.MethodName)) ∈ lw_all := lw_g (lw_at lw_m6 180 rfl) rfl
theorem q1515 : (Jvm.Cond.code ({ cls := "SownByArgumentModel", name := "farmer", desc := "(I)I" } : Jvm.MethodName) prog_20_method_18_code (2 : Nat) (Option.some Jvm.ClassFile.FieldType.int)) ∈ lw_all := lw_g (lw_at lw_m6 181 rfl) rfl
theorem q1516 : (Jvm.Cond.methodLink "SownByArgumentModel" (75 : Nat) ({ cls := "SownByArgumentModel", name := "isIn", desc := "(III)Z" } : Jvm.MethodName)) ∈ lw_all := lw_g (lw_at lw_m6 182 rfl) rfl
theorem q1517 : (Jvm.Cond.static ({ cls := "SownByArgumentModel", name := "isIn", desc := "(III)Z" } : Jvm.MethodName)) ∈ lw_all := lw_g (lw_at lw_m6 183 rfl) rfl
theorem q1518 : (Jvm.Cond.code ({ cls := "SownByArgumentModel", name := "isIn", desc := "(III)Z" } : Jvm.MethodName) prog_20_method_3_code (3 : Nat) (Option.some Jvm.ClassFile.FieldType.boolean)) ∈ lw_all := lw_g (lw_at lw_m6 184 rfl) rfl
theorem q1520 : (Jvm.Cond.instanceMethod ({ cls := "SownByArgumentModel", name := "soil", desc := "(II)Z" } : Jvm.MethodName)) ∈ lw_all := lw_g (lw_at lw_m6 186 rfl) rfl
theorem q1521 : (Jvm.Cond.selects "SownByArgumentModel" ({ cls := "SownByArgumentModel", name := "soil", desc := "(II)Z" } : Jvm.MethodName) ({ cls := "SownByArgumentModel", name := "soil", desc := "(II)Z" } : Jvm.MethodName)) ∈ lw_all := lw_g (lw_at lw_m6 187 rfl) rfl
theorem q1522 : (Jvm.Cond.code ({ cls := "SownByArgumentModel", name := "soil", desc := "(II)Z" } : Jvm.MethodName) prog_20_method_19_code (3 : Nat) (Option.some Jvm.ClassFile.FieldType.boolean)) ∈ lw_all := lw_g (lw_at lw_m6 188 rfl) rfl
theorem q1523 : (Jvm.Cond.methodLink "SownByArgumentModel" (95 : Nat) ({ cls := "SownByArgumentModel", name := "isField", desc := "(I)Z" } : Jvm.MethodName)) ∈ lw_all := lw_g (lw_at lw_m6 189 rfl) rfl
theorem q1524 : (Jvm.Cond.static ({ cls := "SownByArgumentModel", name := "isField", desc := "(I)Z" } : Jvm.MethodName)) ∈ lw_all := lw_g (lw_at lw_m6 190 rfl) rfl
theorem q1525 : (Jvm.Cond.code ({ cls := "SownByArgumentModel", name := "isField", desc := "(I)Z" } : Jvm.MethodName) prog_20_method_8_code (1 : Nat) (Option.some Jvm.ClassFile.FieldType.boolean)) ∈ lw_all := lw_g (lw_at lw_m6 191 rfl) rfl
theorem q1527 : (Jvm.Cond.instanceMethod ({ cls := "SownByArgumentModel", name := "wants", desc := "(III)Z" } : Jvm.MethodName)) ∈ lw_all := lw_g (lw_at lw_m6 193 rfl) rfl
theorem q1528 : (Jvm.Cond.selects "SownByArgumentModel" ({ cls := "SownByArgumentModel", name := "wants", desc := "(III)Z" } : Jvm.MethodName) ({ cls := "SownByArgumentModel", name := "wants", desc := "(III)Z" } : Jvm.MethodName)) ∈ lw_all := lw_g (lw_at lw_m6 194 rfl) rfl
theorem q1529 : (Jvm.Cond.code ({ cls := "SownByArgumentModel", name := "wants", desc := "(III)Z" } : Jvm.MethodName) prog_20_method_20_code (4 : Nat) (Option.some Jvm.ClassFile.FieldType.boolean)) ∈ lw_all := lw_g (lw_at lw_m6 195 rfl) rfl
theorem q1531 : (Jvm.Cond.instanceMethod ({ cls := "SownByArgumentModel", name := "feed", desc := "(IIIII)I" } : Jvm.MethodName)) ∈ lw_all := lw_g (lw_at lw_m6 197 rfl) rfl
theorem q1532 : (Jvm.Cond.selects "SownByArgumentModel" ({ cls := "SownByArgumentModel", name := "feed", desc := "(IIIII)I" } : Jvm.MethodName) ({ cls := "SownByArgumentModel", name := "feed", desc := "(IIIII)I" } : Jvm.MethodName)) ∈ lw_all := lw_g (lw_at lw_m6 198 rfl) rfl
theorem q1533 : (Jvm.Cond.code ({ cls := "SownByArgumentModel", name := "feed", desc := "(IIIII)I" } : Jvm.MethodName) prog_20_method_22_code (6 : Nat) (Option.some Jvm.ClassFile.FieldType.int)) ∈ lw_all := lw_g (lw_at lw_m6 199 rfl) rfl
theorem q1534 : (Jvm.Cond.methodLink "SownByArgumentModel" (102 : Nat) ({ cls := "SownByArgumentModel", name := "four", desc := "(I)V" } : Jvm.MethodName)) ∈ lw_all := lw_g (lw_at lw_m6 200 rfl) rfl
theorem q1535 : (Jvm.Cond.privateMethod ({ cls := "SownByArgumentModel", name := "four", desc := "(I)V" } : Jvm.MethodName)) ∈ lw_tbl := lw_at lw_m6 201 rfl
theorem q1536 : (Jvm.Cond.instanceMethod ({ cls := "SownByArgumentModel", name := "four", desc := "(I)V" } : Jvm.MethodName)) ∈ lw_all := lw_g (lw_at lw_m6 202 rfl) rfl
theorem q1537 : (Jvm.Cond.code ({ cls := "SownByArgumentModel", name := "four", desc := "(I)V" } : Jvm.MethodName) prog_20_method_21_code (3 : Nat) (Option.none : Option Jvm.ClassFile.FieldType)) ∈ lw_all := lw_g (lw_at lw_m6 203 rfl) rfl
theorem q1539 : (Jvm.Cond.instanceMethod ({ cls := "SownByArgumentModel", name := "end", desc := "(I)I" } : Jvm.MethodName)) ∈ lw_all := lw_g (lw_at lw_m6 205 rfl) rfl
theorem q1540 : (Jvm.Cond.selects "SownByArgumentModel" ({ cls := "SownByArgumentModel", name := "end", desc := "(I)I" } : Jvm.MethodName) ({ cls := "SownByArgumentModel", name := "end", desc := "(I)I" } : Jvm.MethodName)) ∈ lw_all := lw_g (lw_at lw_m6 206 rfl) rfl
theorem q1541 : (Jvm.Cond.code ({ cls := "SownByArgumentModel", name := "end", desc := "(I)I" } : Jvm.MethodName) prog_20_method_23_code (2 : Nat) (Option.some Jvm.ClassFile.FieldType.int)) ∈ lw_all := lw_g (lw_at lw_m6 207 rfl) rfl
theorem q1543 : (Jvm.Cond.instanceMethod ({ cls := "SownByArgumentModel", name := "text", desc := "()I" } : Jvm.MethodName)) ∈ lw_all := lw_g (lw_at lw_m6 209 rfl) rfl
theorem q1544 : (Jvm.Cond.selects "SownByArgumentModel" ({ cls := "SownByArgumentModel", name := "text", desc := "()I" } : Jvm.MethodName) ({ cls := "SownByArgumentModel", name := "text", desc := "()I" } : Jvm.MethodName)) ∈ lw_all := lw_g (lw_at lw_m6 210 rfl) rfl
theorem q1545 : (Jvm.Cond.code ({ cls := "SownByArgumentModel", name := "text", desc := "()I" } : Jvm.MethodName) prog_20_method_62_code (1 : Nat) (Option.some Jvm.ClassFile.FieldType.int)) ∈ lw_all := lw_g (lw_at lw_m6 211 rfl) rfl
theorem q1546 : (Jvm.Cond.methodLink "SownByArgumentModel" (273 : Nat) ({ cls := "SownByArgumentModel", name := "readText", desc := "()I" } : Jvm.MethodName)) ∈ lw_all := lw_g (lw_at lw_m6 212 rfl) rfl
theorem q1547 : (Jvm.Cond.privateMethod ({ cls := "SownByArgumentModel", name := "readText", desc := "()I" } : Jvm.MethodName)) ∈ lw_tbl := lw_at lw_m6 213 rfl
theorem q1548 : (Jvm.Cond.instanceMethod ({ cls := "SownByArgumentModel", name := "readText", desc := "()I" } : Jvm.MethodName)) ∈ lw_all := lw_g (lw_at lw_m6 214 rfl) rfl
theorem q1549 : (Jvm.Cond.code ({ cls := "SownByArgumentModel", name := "readText", desc := "()I" } : Jvm.MethodName) prog_20_method_61_code (2 : Nat) (Option.some Jvm.ClassFile.FieldType.int)) ∈ lw_all := lw_g (lw_at lw_m6 215 rfl) rfl
theorem q1550 : (Jvm.Cond.methodLink "SownByArgumentModel" (189 : Nat) ({ cls := "SownByArgumentModel", name := "nextToken", desc := "()V" } : Jvm.MethodName)) ∈ lw_all := lw_g (lw_at lw_m6 216 rfl) rfl
theorem q1551 : (Jvm.Cond.privateMethod ({ cls := "SownByArgumentModel", name := "nextToken", desc := "()V" } : Jvm.MethodName)) ∈ lw_tbl := lw_at lw_m6 217 rfl
theorem q1552 : (Jvm.Cond.instanceMethod ({ cls := "SownByArgumentModel", name := "nextToken", desc := "()V" } : Jvm.MethodName)) ∈ lw_all := lw_g (lw_at lw_m6 218 rfl) rfl
theorem q1553 : (Jvm.Cond.code ({ cls := "SownByArgumentModel", name := "nextToken", desc := "()V" } : Jvm.MethodName) prog_20_method_28_code (2 : Nat) (Option.none : Option Jvm.ClassFile.FieldType)) ∈ lw_all := lw_g (lw_at lw_m6 219 rfl) rfl
theorem q1554 : (Jvm.Cond.methodLink "SownByArgumentModel" (109 : Nat) ({ cls := "SownByArgumentModel", name := "byteAt", desc := "(I)I" } : Jvm.MethodName)) ∈ lw_all := lw_g (lw_at lw_m6 220 rfl) rfl
theorem q1555 : (Jvm.Cond.privateMethod ({ cls := "SownByArgumentModel", name := "byteAt", desc := "(I)I" } : Jvm.MethodName)) ∈ lw_tbl := lw_at lw_m6 221 rfl
theorem q1556 : (Jvm.Cond.instanceMethod ({ cls := "SownByArgumentModel", name := "byteAt", desc := "(I)I" } : Jvm.MethodName)) ∈ lw_all := lw_g (lw_at lw_m6 222 rfl) rfl
theorem q1557 : (Jvm.Cond.code ({ cls := "SownByArgumentModel", name := "byteAt", desc := "(I)I" } : Jvm.MethodName) prog_20_method_24_code (2 : Nat) (Option.some Jvm.ClassFile.FieldType.int)) ∈ lw_all := lw_g (lw_at lw_m6 223 rfl) rfl
theorem q1558 : (Jvm.Cond.methodLink "SownByArgumentModel" (118 : Nat) ({ cls := "SownByArgumentModel", name := "isFigure", desc := "(I)Z" } : Jvm.MethodName)) ∈ lw_all := lw_g (lw_at lw_m6 224 rfl) rfl
theorem q1559 : (Jvm.Cond.static ({ cls := "SownByArgumentModel", name := "isFigure", desc := "(I)Z" } : Jvm.MethodName)) ∈ lw_all := lw_g (lw_at lw_m6 225 rfl) rfl
theorem q1560 : (Jvm.Cond.code ({ cls := "SownByArgumentModel", name := "isFigure", desc := "(I)Z" } : Jvm.MethodName) prog_20_method_26_code (1 : Nat) (Option.some Jvm.ClassFile.FieldType.boolean)) ∈ lw_all := lw_g (lw_at lw_m6 226 rfl) rfl
theorem q1561 : (Jvm.Cond.constant "SownByArgumentModel" (124 : Nat) (99999 : Int32)) ∈ lw_all := lw_g (lw_at lw_m6 227 rfl) rfl
theorem q1562 : (Jvm.Cond.methodLink "SownByArgumentModel" (125 : Nat) ({ cls := "SownByArgumentModel", name := "isLetterByte", desc := "(I)Z" } : Jvm.MethodName)) ∈ lw_all := lw_g (lw_at lw_m6 228 rfl) rfl
theorem q1563 : (Jvm.Cond.static ({ cls := "SownByArgumentModel", name := "isLetterByte", desc := "(I)Z" } : Jvm.MethodName)) ∈ lw_all := lw_g (lw_at lw_m6 229 rfl) rfl
theorem q1564 : (Jvm.Cond.code ({ cls := "SownByArgumentModel", name := "isLetterByte", desc := "(I)Z" } : Jvm.MethodName) prog_20_method_25_code (1 : Nat) (Option.some Jvm.ClassFile.FieldType.boolean)) ∈ lw_all := lw_g (lw_at lw_m6 230 rfl) rfl
theorem q1565 : (Jvm.Cond.constantLong "SownByArgumentModel" (132 : Nat) (1152921504606846976 : Int64)) ∈ lw_all := lw_g (lw_at lw_m6 231 rfl) rfl
theorem q1566 : (Jvm.Cond.methodLink "SownByArgumentModel" (134 : Nat) ({ cls := "SownByArgumentModel", name := "isSign", desc := "(I)Z" } : Jvm.MethodName)) ∈ lw_all := lw_g (lw_at lw_m6 232 rfl) rfl
theorem q1567 : (Jvm.Cond.static ({ cls := "SownByArgumentModel", name := "isSign", desc := "(I)Z" } : Jvm.MethodName)) ∈ lw_all := lw_g (lw_at lw_m6 233 rfl) rfl
theorem q1568 : (Jvm.Cond.code ({ cls := "SownByArgumentModel", name := "isSign", desc := "(I)Z" } : Jvm.MethodName) prog_20_method_27_code (1 : Nat) (Option.some Jvm.ClassFile.FieldType.boolean)) ∈ lw_all := lw_g (lw_at lw_m6 234 rfl) rfl
theorem q1569 : (Jvm.Cond.methodLink "SownByArgumentModel" (270 : Nat) ({ cls := "SownByArgumentModel", name := "clause", desc := "()I" } : Jvm.MethodName)) ∈ lw_all := lw_g (lw_at lw_m6 235 rfl) rfl
theorem q1570 : (Jvm.Cond.privateMethod ({ cls := "SownByArgumentModel", name := "clause", desc := "()I" } : Jvm.MethodName)) ∈ lw_tbl := lw_at lw_m6 236 rfl
theorem q1571 : (Jvm.Cond.instanceMethod ({ cls := "SownByArgumentModel", name := "clause", desc := "()I" } : Jvm.MethodName)) ∈ lw_all := lw_g (lw_at lw_m6 237 rfl) rfl
theorem q1572 : (Jvm.Cond.code ({ cls := "SownByArgumentModel", name := "clause", desc := "()I" } : Jvm.MethodName) prog_20_method_60_code (5 : Nat) (Option.some Jvm.ClassFile.FieldType.int)) ∈ lw_all := lw_g (lw_at lw_m6 238 rfl) rfl
theorem q1573 : (Jvm.Cond.methodLink "SownByArgumentModel" (257 : Nat) ({ cls := "SownByArgumentModel", name := "sortOf", desc := "()I" } : Jvm.MethodName)) ∈ lw_all := lw_g (lw_at lw_m6 239 rfl) rfl
theorem q1574 : (Jvm.Cond.privateMethod ({ cls := "SownByArgumentModel", name := "sortOf", desc := "()I" } : Jvm.MethodName)) ∈ lw_tbl := lw_at lw_m7 0 rfl
theorem q1575 : (Jvm.Cond.instanceMethod ({ cls := "SownByArgumentModel", name := "sortOf", desc := "()I" } : Jvm.MethodName)) ∈ lw_all := lw_g (lw_at lw_m7 1 rfl) rfl
theorem q1576 : (Jvm.Cond.code ({ cls := "SownByArgumentModel", name := "sortOf", desc := "()I" } : Jvm.MethodName) prog_20_method_59_code (1 : Nat) (Option.some Jvm.ClassFile.FieldType.int)) ∈ lw_all := lw_g (lw_at lw_m7 2 rfl) rfl
theorem q1577 : (Jvm.Cond.methodLink "SownByArgumentModel" (149 : Nat) ({ cls := "SownByArgumentModel", name := "w5", desc := "(IIIII)J" } : Jvm.MethodName)) ∈ lw_all := lw_g (lw_at lw_m7 3 rfl) rfl
theorem q1578 : (Jvm.Cond.static ({ cls := "SownByArgumentModel", name := "w5", desc := "(IIIII)J" } : Jvm.MethodName)) ∈ lw_all := lw_g (lw_at lw_m7 4 rfl) rfl
theorem q1579 : (Jvm.Cond.code ({ cls := "SownByArgumentModel", name := "w5", desc := "(IIIII)J" } : Jvm.MethodName) prog_20_method_32_code (5 : Nat) (Option.some Jvm.ClassFile.FieldType.long)) ∈ lw_all := lw_g (lw_at lw_m7 5 rfl) rfl
theorem q1580 : (Jvm.Cond.methodLink "SownByArgumentModel" (145 : Nat) ({ cls := "SownByArgumentModel", name := "w4", desc := "(IIII)J" } : Jvm.MethodName)) ∈ lw_all := lw_g (lw_at lw_m7 6 rfl) rfl
theorem q1581 : (Jvm.Cond.static ({ cls := "SownByArgumentModel", name := "w4", desc := "(IIII)J" } : Jvm.MethodName)) ∈ lw_all := lw_g (lw_at lw_m7 7 rfl) rfl
theorem q1582 : (Jvm.Cond.code ({ cls := "SownByArgumentModel", name := "w4", desc := "(IIII)J" } : Jvm.MethodName) prog_20_method_31_code (4 : Nat) (Option.some Jvm.ClassFile.FieldType.long)) ∈ lw_all := lw_g (lw_at lw_m7 8 rfl) rfl
theorem q1583 : (Jvm.Cond.methodLink "SownByArgumentModel" (141 : Nat) ({ cls := "SownByArgumentModel", name := "w3", desc := "(III)J" } : Jvm.MethodName)) ∈ lw_all := lw_g (lw_at lw_m7 9 rfl) rfl
theorem q1584 : (Jvm.Cond.static ({ cls := "SownByArgumentModel", name := "w3", desc := "(III)J" } : Jvm.MethodName)) ∈ lw_all := lw_g (lw_at lw_m7 10 rfl) rfl
theorem q1585 : (Jvm.Cond.code ({ cls := "SownByArgumentModel", name := "w3", desc := "(III)J" } : Jvm.MethodName) prog_20_method_30_code (3 : Nat) (Option.some Jvm.ClassFile.FieldType.long)) ∈ lw_all := lw_g (lw_at lw_m7 11 rfl) rfl
theorem q1586 : (Jvm.Cond.methodLink "SownByArgumentModel" (137 : Nat) ({ cls := "SownByArgumentModel", name := "w2", desc := "(II)J" } : Jvm.MethodName)) ∈ lw_all := lw_g (lw_at lw_m7 12 rfl) rfl
theorem q1587 : (Jvm.Cond.static ({ cls := "SownByArgumentModel", name := "w2", desc := "(II)J" } : Jvm.MethodName)) ∈ lw_all := lw_g (lw_at lw_m7 13 rfl) rfl
theorem q1588 : (Jvm.Cond.code ({ cls := "SownByArgumentModel", name := "w2", desc := "(II)J" } : Jvm.MethodName) prog_20_method_29_code (2 : Nat) (Option.some Jvm.ClassFile.FieldType.long)) ∈ lw_all := lw_g (lw_at lw_m7 14 rfl) rfl
theorem q1589 : (Jvm.Cond.methodLink "SownByArgumentModel" (204 : Nat) ({ cls := "SownByArgumentModel", name := "isWord", desc := "(J)Z" } : Jvm.MethodName)) ∈ lw_all := lw_g (lw_at lw_m7 15 rfl) rfl
theorem q1590 : (Jvm.Cond.privateMethod ({ cls := "SownByArgumentModel", name := "isWord", desc := "(J)Z" } : Jvm.MethodName)) ∈ lw_tbl := lw_at lw_m7 16 rfl
theorem q1591 : (Jvm.Cond.instanceMethod ({ cls := "SownByArgumentModel", name := "isWord", desc := "(J)Z" } : Jvm.MethodName)) ∈ lw_all := lw_g (lw_at lw_m7 17 rfl) rfl
theorem q1592 : (Jvm.Cond.code ({ cls := "SownByArgumentModel", name := "isWord", desc := "(J)Z" } : Jvm.MethodName) prog_20_method_34_code (3 : Nat) (Option.some Jvm.ClassFile.FieldType.boolean)) ∈ lw_all := lw_g (lw_at lw_m7 18 rfl) rfl
theorem q1593 : (Jvm.Cond.methodLink "SownByArgumentModel" (159 : Nat) ({ cls := "SownByArgumentModel", name := "w6", desc := "(IIIIII)J" } : Jvm.MethodName)) ∈ lw_all := lw_g (lw_at lw_m7 19 rfl) rfl
theorem q1594 : (Jvm.Cond.static ({ cls := "SownByArgumentModel", name := "w6", desc := "(IIIIII)J" } : Jvm.MethodName)) ∈ lw_all := lw_g (lw_at lw_m7 20 rfl) rfl
theorem q1595 : (Jvm.Cond.code ({ cls := "SownByArgumentModel", name := "w6", desc := "(IIIIII)J" } : Jvm.MethodName) prog_20_method_33_code (6 : Nat) (Option.some Jvm.ClassFile.FieldType.long)) ∈ lw_all := lw_g (lw_at lw_m7 21 rfl) rfl
theorem q1596 : (Jvm.Cond.methodLink "SownByArgumentModel" (254 : Nat) ({ cls := "SownByArgumentModel", name := "isRetract", desc := "()Z" } : Jvm.MethodName)) ∈ lw_all := lw_g (lw_at lw_m7 22 rfl) rfl
theorem q1597 : (Jvm.Cond.privateMethod ({ cls := "SownByArgumentModel", name := "isRetract", desc := "()Z" } : Jvm.MethodName)) ∈ lw_tbl := lw_at lw_m7 23 rfl
theorem q1598 : (Jvm.Cond.instanceMethod ({ cls := "SownByArgumentModel", name := "isRetract", desc := "()Z" } : Jvm.MethodName)) ∈ lw_all := lw_g (lw_at lw_m7 24 rfl) rfl
theorem q1599 : (Jvm.Cond.code ({ cls := "SownByArgumentModel", name := "isRetract", desc := "()Z" } : Jvm.MethodName) prog_20_method_36_code (1 : Nat) (Option.some Jvm.ClassFile.FieldType.boolean)) ∈ lw_all := lw_g (lw_at lw_m7 25 rfl) rfl
theorem q1600 : (Jvm.Cond.methodLink "SownByArgumentModel" (266 : Nat) ({ cls := "SownByArgumentModel", name := "body", desc := "(II)I" } : Jvm.MethodName)) ∈ lw_all := lw_g (lw_at lw_m7 26 rfl) rfl
theorem q1601 : (Jvm.Cond.privateMethod ({ cls := "SownByArgumentModel", name := "body", desc := "(II)I" } : Jvm.MethodName)) ∈ lw_tbl := lw_at lw_m7 27 rfl
theorem q1602 : (Jvm.Cond.instanceMethod ({ cls := "SownByArgumentModel", name := "body", desc := "(II)I" } : Jvm.MethodName)) ∈ lw_all := lw_g (lw_at lw_m7 28 rfl) rfl
theorem q1603 : (Jvm.Cond.code ({ cls := "SownByArgumentModel", name := "body", desc := "(II)I" } : Jvm.MethodName) prog_20_method_58_code (3 : Nat) (Option.some Jvm.ClassFile.FieldType.int)) ∈ lw_all := lw_g (lw_at lw_m7 29 rfl) rfl
theorem q1604 : (Jvm.Cond.methodLink "SownByArgumentModel" (247 : Nat) ({ cls := "SownByArgumentModel", name := "lawClause", desc := "(IZ)I" } : Jvm.MethodName)) ∈ lw_all := lw_g (lw_at lw_m7 30 rfl) rfl
theorem q1605 : (Jvm.Cond.privateMethod ({ cls := "SownByArgumentModel", name := "lawClause", desc := "(IZ)I" } : Jvm.MethodName)) ∈ lw_tbl := lw_at lw_m7 31 rfl
theorem q1606 : (Jvm.Cond.instanceMethod ({ cls := "SownByArgumentModel", name := "lawClause", desc := "(IZ)I" } : Jvm.MethodName)) ∈ lw_all := lw_g (lw_at lw_m7 32 rfl) rfl
theorem q1607 : (Jvm.Cond.code ({ cls := "SownByArgumentModel", name := "lawClause", desc := "(IZ)I" } : Jvm.MethodName) prog_20_method_55_code (4 : Nat) (Option.some Jvm.ClassFile.FieldType.int)) ∈ lw_all := lw_g (lw_at lw_m7 33 rfl) rfl
theorem q1608 : (Jvm.Cond.methodLink "SownByArgumentModel" (235 : Nat) ({ cls := "SownByArgumentModel", name := "summed", desc := "(Z)I" } : Jvm.MethodName)) ∈ lw_all := lw_g (lw_at lw_m7 34 rfl) rfl
theorem q1609 : (Jvm.Cond.privateMethod ({ cls := "SownByArgumentModel", name := "summed", desc := "(Z)I" } : Jvm.MethodName)) ∈ lw_tbl := lw_at lw_m7 35 rfl
theorem q1610 : (Jvm.Cond.instanceMethod ({ cls := "SownByArgumentModel", name := "summed", desc := "(Z)I" } : Jvm.MethodName)) ∈ lw_all := lw_g (lw_at lw_m7 36 rfl) rfl
theorem q1611 : (Jvm.Cond.code ({ cls := "SownByArgumentModel", name := "summed", desc := "(Z)I" } : Jvm.MethodName) prog_20_method_53_code (3 : Nat) (Option.some Jvm.ClassFile.FieldType.int)) ∈ lw_all := lw_g (lw_at lw_m7 37 rfl) rfl
theorem q1612 : (Jvm.Cond.methodLink "SownByArgumentModel" (229 : Nat) ({ cls := "SownByArgumentModel", name := "behindOne", desc := "()I" } : Jvm.MethodName)) ∈ lw_all := lw_g (lw_at lw_m7 38 rfl) rfl
theorem q1613 : (Jvm.Cond.privateMethod ({ cls := "SownByArgumentModel", name := "behindOne", desc := "()I" } : Jvm.MethodName)) ∈ lw_tbl := lw_at lw_m7 39 rfl
theorem q1614 : (Jvm.Cond.instanceMethod ({ cls := "SownByArgumentModel", name := "behindOne", desc := "()I" } : Jvm.MethodName)) ∈ lw_all := lw_g (lw_at lw_m7 40 rfl) rfl
theorem q1615 : (Jvm.Cond.code ({ cls := "SownByArgumentModel", name := "behindOne", desc := "()I" } : Jvm.MethodName) prog_20_method_52_code (4 : Nat) (Option.some Jvm.ClassFile.FieldType.int)) ∈ lw_all := lw_g (lw_at lw_m7 41 rfl) rfl
theorem q1616 : (Jvm.Cond.methodLink "SownByArgumentModel" (223 : Nat) ({ cls := "SownByArgumentModel", name := "betweenOf", desc := "()I" } : Jvm.MethodName)) ∈ lw_all := lw_g (lw_at lw_m7 42 rfl) rfl
theorem q1617 : (Jvm.Cond.privateMethod ({ cls := "SownByArgumentModel", name := "betweenOf", desc := "()I" } : Jvm.MethodName)) ∈ lw_tbl := lw_at lw_m7 43 rfl
theorem q1618 : (Jvm.Cond.instanceMethod ({ cls := "SownByArgumentModel", name := "betweenOf", desc := "()I" } : Jvm.MethodName)) ∈ lw_all := lw_g (lw_at lw_m7 44 rfl) rfl
theorem q1619 : (Jvm.Cond.code ({ cls := "SownByArgumentModel", name := "betweenOf", desc := "()I" } : Jvm.MethodName) prog_20_method_50_code (1 : Nat) (Option.some Jvm.ClassFile.FieldType.int)) ∈ lw_all := lw_g (lw_at lw_m7 45 rfl) rfl
theorem q1620 : (Jvm.Cond.methodLink "SownByArgumentModel" (185 : Nat) ({ cls := "SownByArgumentModel", name := "isAsking", desc := "()Z" } : Jvm.MethodName)) ∈ lw_all := lw_g (lw_at lw_m7 46 rfl) rfl
theorem q1621 : (Jvm.Cond.privateMethod ({ cls := "SownByArgumentModel", name := "isAsking", desc := "()Z" } : Jvm.MethodName)) ∈ lw_tbl := lw_at lw_m7 47 rfl
theorem q1622 : (Jvm.Cond.instanceMethod ({ cls := "SownByArgumentModel", name := "isAsking", desc := "()Z" } : Jvm.MethodName)) ∈ lw_all := lw_g (lw_at lw_m7 48 rfl) rfl
theorem q1623 : (Jvm.Cond.code ({ cls := "SownByArgumentModel", name := "isAsking", desc := "()Z" } : Jvm.MethodName) prog_20_method_43_code (1 : Nat) (Option.some Jvm.ClassFile.FieldType.boolean)) ∈ lw_all := lw_g (lw_at lw_m7 49 rfl) rfl
theorem q1624 : (Jvm.Cond.methodLink "SownByArgumentModel" (182 : Nat) ({ cls := "SownByArgumentModel", name := "openNow", desc := "()I" } : Jvm.MethodName)) ∈ lw_all := lw_g (lw_at lw_m7 50 rfl) rfl
theorem q1625 : (Jvm.Cond.privateMethod ({ cls := "SownByArgumentModel", name := "openNow", desc := "()I" } : Jvm.MethodName)) ∈ lw_tbl := lw_at lw_m7 51 rfl
theorem q1626 : (Jvm.Cond.instanceMethod ({ cls := "SownByArgumentModel", name := "openNow", desc := "()I" } : Jvm.MethodName)) ∈ lw_all := lw_g (lw_at lw_m7 52 rfl) rfl
theorem q1627 : (Jvm.Cond.code ({ cls := "SownByArgumentModel", name := "openNow", desc := "()I" } : Jvm.MethodName) prog_20_method_42_code (1 : Nat) (Option.some Jvm.ClassFile.FieldType.int)) ∈ lw_all := lw_g (lw_at lw_m7 53 rfl) rfl
theorem q1628 : (Jvm.Cond.methodLink "SownByArgumentModel" (179 : Nat) ({ cls := "SownByArgumentModel", name := "openAt", desc := "()I" } : Jvm.MethodName)) ∈ lw_all := lw_g (lw_at lw_m7 54 rfl) rfl
theorem q1629 : (Jvm.Cond.privateMethod ({ cls := "SownByArgumentModel", name := "openAt", desc := "()I" } : Jvm.MethodName)) ∈ lw_tbl := lw_at lw_m7 55 rfl
theorem q1630 : (Jvm.Cond.instanceMethod ({ cls := "SownByArgumentModel", name := "openAt", desc := "()I" } : Jvm.MethodName)) ∈ lw_all := lw_g (lw_at lw_m7 56 rfl) rfl
theorem q1631 : (Jvm.Cond.code ({ cls := "SownByArgumentModel", name := "openAt", desc := "()I" } : Jvm.MethodName) prog_20_method_41_code (2 : Nat) (Option.some Jvm.ClassFile.FieldType.int)) ∈ lw_all := lw_g (lw_at lw_m7 57 rfl) rfl
theorem q1632 : (Jvm.Cond.methodLink "SownByArgumentModel" (217 : Nat) ({ cls := "SownByArgumentModel", name := "isCompared", desc := "()Z" } : Jvm.MethodName)) ∈ lw_all := lw_g (lw_at lw_m7 58 rfl) rfl
theorem q1633 : (Jvm.Cond.privateMethod ({ cls := "SownByArgumentModel", name := "isCompared", desc := "()Z" } : Jvm.MethodName)) ∈ lw_tbl := lw_at lw_m7 59 rfl
theorem q1634 : (Jvm.Cond.instanceMethod ({ cls := "SownByArgumentModel", name := "isCompared", desc := "()Z" } : Jvm.MethodName)) ∈ lw_all := lw_g (lw_at lw_m7 60 rfl) rfl
theorem q1635 : (Jvm.Cond.code ({ cls := "SownByArgumentModel", name := "isCompared", desc := "()Z" } : Jvm.MethodName) prog_20_method_44_code (2 : Nat) (Option.some Jvm.ClassFile.FieldType.boolean)) ∈ lw_all := lw_g (lw_at lw_m7 61 rfl) rfl
theorem q1636 : (Jvm.Cond.methodLink "SownByArgumentModel" (169 : Nat) ({ cls := "SownByArgumentModel", name := "rank", desc := "(I)I" } : Jvm.MethodName)) ∈ lw_all := lw_g (lw_at lw_m7 62 rfl) rfl
theorem q1637 : (Jvm.Cond.static ({ cls := "SownByArgumentModel", name := "rank", desc := "(I)I" } : Jvm.MethodName)) ∈ lw_all := lw_g (lw_at lw_m7 63 rfl) rfl
theorem q1638 : (Jvm.Cond.code ({ cls := "SownByArgumentModel", name := "rank", desc := "(I)I" } : Jvm.MethodName) prog_20_method_39_code (1 : Nat) (Option.some Jvm.ClassFile.FieldType.int)) ∈ lw_all := lw_g (lw_at lw_m7 64 rfl) rfl
theorem q1639 : (Jvm.Cond.methodLink "SownByArgumentModel" (220 : Nat) ({ cls := "SownByArgumentModel", name := "compareOf", desc := "()I" } : Jvm.MethodName)) ∈ lw_all := lw_g (lw_at lw_m7 65 rfl) rfl
theorem q1640 : (Jvm.Cond.privateMethod ({ cls := "SownByArgumentModel", name := "compareOf", desc := "()I" } : Jvm.MethodName)) ∈ lw_tbl := lw_at lw_m7 66 rfl
theorem q1641 : (Jvm.Cond.instanceMethod ({ cls := "SownByArgumentModel", name := "compareOf", desc := "()I" } : Jvm.MethodName)) ∈ lw_all := lw_g (lw_at lw_m7 67 rfl) rfl
theorem q1642 : (Jvm.Cond.code ({ cls := "SownByArgumentModel", name := "compareOf", desc := "()I" } : Jvm.MethodName) prog_20_method_49_code (1 : Nat) (Option.some Jvm.ClassFile.FieldType.int)) ∈ lw_all := lw_g (lw_at lw_m7 68 rfl) rfl
theorem q1643 : (Jvm.Cond.methodLink "SownByArgumentModel" (211 : Nat) ({ cls := "SownByArgumentModel", name := "settle", desc := "(I)V" } : Jvm.MethodName)) ∈ lw_all := lw_g (lw_at lw_m7 69 rfl) rfl
theorem q1644 : (Jvm.Cond.privateMethod ({ cls := "SownByArgumentModel", name := "settle", desc := "(I)V" } : Jvm.MethodName)) ∈ lw_tbl := lw_at lw_m7 70 rfl
theorem q1645 : (Jvm.Cond.instanceMethod ({ cls := "SownByArgumentModel", name := "settle", desc := "(I)V" } : Jvm.MethodName)) ∈ lw_all := lw_g (lw_at lw_m7 71 rfl) rfl
theorem q1646 : (Jvm.Cond.code ({ cls := "SownByArgumentModel", name := "settle", desc := "(I)V" } : Jvm.MethodName) prog_20_method_40_code (2 : Nat) (Option.none : Option Jvm.ClassFile.FieldType)) ∈ lw_all := lw_g (lw_at lw_m7 72 rfl) rfl
theorem q1647 : (Jvm.Cond.methodLink "SownByArgumentModel" (172 : Nat) ({ cls := "SownByArgumentModel", name := "emit", desc := "(II)V" } : Jvm.MethodName)) ∈ lw_all := lw_g (lw_at lw_m7 73 rfl) rfl
theorem q1648 : (Jvm.Cond.privateMethod ({ cls := "SownByArgumentModel", name := "emit", desc := "(II)V" } : Jvm.MethodName)) ∈ lw_tbl := lw_at lw_m7 74 rfl
theorem q1649 : (Jvm.Cond.instanceMethod ({ cls := "SownByArgumentModel", name := "emit", desc := "(II)V" } : Jvm.MethodName)) ∈ lw_all := lw_g (lw_at lw_m7 75 rfl) rfl
theorem q1650 : (Jvm.Cond.code ({ cls := "SownByArgumentModel", name := "emit", desc := "(II)V" } : Jvm.MethodName) prog_20_method_35_code (3 : Nat) (Option.none : Option Jvm.ClassFile.FieldType)) ∈ lw_all := lw_g (lw_at lw_m7 76 rfl) rfl
theorem q1651 : (Jvm.Cond.methodLink "SownByArgumentModel" (226 : Nat) ({ cls := "SownByArgumentModel", name := "partOf", desc := "(I)I" } : Jvm.MethodName)) ∈ lw_all := lw_g (lw_at lw_m7 77 rfl) rfl
theorem q1652 : (Jvm.Cond.privateMethod ({ cls := "SownByArgumentModel", name := "partOf", desc := "(I)I" } : Jvm.MethodName)) ∈ lw_tbl := lw_at lw_m7 78 rfl
theorem q1653 : (Jvm.Cond.instanceMethod ({ cls := "SownByArgumentModel", name := "partOf", desc := "(I)I" } : Jvm.MethodName)) ∈ lw_all := lw_g (lw_at lw_m7 79 rfl) rfl
theorem q1654 : (Jvm.Cond.code ({ cls := "SownByArgumentModel", name := "partOf", desc := "(I)I" } : Jvm.MethodName) prog_20_method_51_code (2 : Nat) (Option.some Jvm.ClassFile.FieldType.int)) ∈ lw_all := lw_g (lw_at lw_m7 80 rfl) rfl
theorem q1655 : (Jvm.Cond.methodLink "SownByArgumentModel" (198 : Nat) ({ cls := "SownByArgumentModel", name := "endOne", desc := "()I" } : Jvm.MethodName)) ∈ lw_all := lw_g (lw_at lw_m7 81 rfl) rfl
theorem q1656 : (Jvm.Cond.privateMethod ({ cls := "SownByArgumentModel", name := "endOne", desc := "()I" } : Jvm.MethodName)) ∈ lw_tbl := lw_at lw_m7 82 rfl
theorem q1657 : (Jvm.Cond.instanceMethod ({ cls := "SownByArgumentModel", name := "endOne", desc := "()I" } : Jvm.MethodName)) ∈ lw_all := lw_g (lw_at lw_m7 83 rfl) rfl
theorem q1658 : (Jvm.Cond.code ({ cls := "SownByArgumentModel", name := "endOne", desc := "()I" } : Jvm.MethodName) prog_20_method_48_code (1 : Nat) (Option.some Jvm.ClassFile.FieldType.int)) ∈ lw_all := lw_g (lw_at lw_m7 84 rfl) rfl
theorem q1659 : (Jvm.Cond.methodLink "SownByArgumentModel" (232 : Nat) ({ cls := "SownByArgumentModel", name := "beginOne", desc := "()I" } : Jvm.MethodName)) ∈ lw_all := lw_g (lw_at lw_m7 85 rfl) rfl
theorem q1660 : (Jvm.Cond.privateMethod ({ cls := "SownByArgumentModel", name := "beginOne", desc := "()I" } : Jvm.MethodName)) ∈ lw_tbl := lw_at lw_m7 86 rfl
theorem q1661 : (Jvm.Cond.instanceMethod ({ cls := "SownByArgumentModel", name := "beginOne", desc := "()I" } : Jvm.MethodName)) ∈ lw_all := lw_g (lw_at lw_m7 87 rfl) rfl
theorem q1662 : (Jvm.Cond.code ({ cls := "SownByArgumentModel", name := "beginOne", desc := "()I" } : Jvm.MethodName) prog_20_method_47_code (2 : Nat) (Option.some Jvm.ClassFile.FieldType.int)) ∈ lw_all := lw_g (lw_at lw_m7 88 rfl) rfl
theorem q1663 : (Jvm.Cond.methodLink "SownByArgumentModel" (192 : Nat) ({ cls := "SownByArgumentModel", name := "nameOf", desc := "()I" } : Jvm.MethodName)) ∈ lw_all := lw_g (lw_at lw_m7 89 rfl) rfl
theorem q1664 : (Jvm.Cond.privateMethod ({ cls := "SownByArgumentModel", name := "nameOf", desc := "()I" } : Jvm.MethodName)) ∈ lw_tbl := lw_at lw_m7 90 rfl
theorem q1665 : (Jvm.Cond.instanceMethod ({ cls := "SownByArgumentModel", name := "nameOf", desc := "()I" } : Jvm.MethodName)) ∈ lw_all := lw_g (lw_at lw_m7 91 rfl) rfl
theorem q1666 : (Jvm.Cond.code ({ cls := "SownByArgumentModel", name := "nameOf", desc := "()I" } : Jvm.MethodName) prog_20_method_37_code (1 : Nat) (Option.some Jvm.ClassFile.FieldType.int)) ∈ lw_all := lw_g (lw_at lw_m7 92 rfl) rfl
theorem q1667 : (Jvm.Cond.methodLink "SownByArgumentModel" (195 : Nat) ({ cls := "SownByArgumentModel", name := "isOf", desc := "(I)Z" } : Jvm.MethodName)) ∈ lw_all := lw_g (lw_at lw_m7 93 rfl) rfl
theorem q1668 : (Jvm.Cond.privateMethod ({ cls := "SownByArgumentModel", name := "isOf", desc := "(I)Z" } : Jvm.MethodName)) ∈ lw_tbl := lw_at lw_m7 94 rfl
theorem q1669 : (Jvm.Cond.instanceMethod ({ cls := "SownByArgumentModel", name := "isOf", desc := "(I)Z" } : Jvm.MethodName)) ∈ lw_all := lw_g (lw_at lw_m7 95 rfl) rfl
theorem q1670 : (Jvm.Cond.code ({ cls := "SownByArgumentModel", name := "isOf", desc := "(I)Z" } : Jvm.MethodName) prog_20_method_38_code (2 : Nat) (Option.some Jvm.ClassFile.FieldType.boolean)) ∈ lw_all := lw_g (lw_at lw_m7 96 rfl) rfl
theorem q1671 : (Jvm.Cond.methodLink "SownByArgumentModel" (201 : Nat) ({ cls := "SownByArgumentModel", name := "opened", desc := "(I)I" } : Jvm.MethodName)) ∈ lw_all := lw_g (lw_at lw_m7 97 rfl) rfl
theorem q1672 : (Jvm.Cond.privateMethod ({ cls := "SownByArgumentModel", name := "opened", desc := "(I)I" } : Jvm.MethodName)) ∈ lw_tbl := lw_at lw_m7 98 rfl
theorem q1673 : (Jvm.Cond.instanceMethod ({ cls := "SownByArgumentModel", name := "opened", desc := "(I)I" } : Jvm.MethodName)) ∈ lw_all := lw_g (lw_at lw_m7 99 rfl) rfl
theorem q1674 : (Jvm.Cond.code ({ cls := "SownByArgumentModel", name := "opened", desc := "(I)I" } : Jvm.MethodName) prog_20_method_46_code (2 : Nat) (Option.some Jvm.ClassFile.FieldType.int)) ∈ lw_all := lw_g (lw_at lw_m7 100 rfl) rfl
theorem q1675 : (Jvm.Cond.methodLink "SownByArgumentModel" (208 : Nat) ({ cls := "SownByArgumentModel", name := "isAskAhead", desc := "()Z" } : Jvm.MethodName)) ∈ lw_all := lw_g (lw_at lw_m7 101 rfl) rfl
theorem q1676 : (Jvm.Cond.privateMethod ({ cls := "SownByArgumentModel", name := "isAskAhead", desc := "()Z" } : Jvm.MethodName)) ∈ lw_tbl := lw_at lw_m7 102 rfl
theorem q1677 : (Jvm.Cond.instanceMethod ({ cls := "SownByArgumentModel", name := "isAskAhead", desc := "()Z" } : Jvm.MethodName)) ∈ lw_all := lw_g (lw_at lw_m7 103 rfl) rfl
theorem q1678 : (Jvm.Cond.code ({ cls := "SownByArgumentModel", name := "isAskAhead", desc := "()Z" } : Jvm.MethodName) prog_20_method_45_code (1 : Nat) (Option.some Jvm.ClassFile.FieldType.boolean)) ∈ lw_all := lw_g (lw_at lw_m7 104 rfl) rfl
theorem q1679 : (Jvm.Cond.methodLink "SownByArgumentModel" (239 : Nat) ({ cls := "SownByArgumentModel", name := "figure", desc := "(III)I" } : Jvm.MethodName)) ∈ lw_all := lw_g (lw_at lw_m7 105 rfl) rfl
theorem q1680 : (Jvm.Cond.privateMethod ({ cls := "SownByArgumentModel", name := "figure", desc := "(III)I" } : Jvm.MethodName)) ∈ lw_tbl := lw_at lw_m7 106 rfl
theorem q1681 : (Jvm.Cond.instanceMethod ({ cls := "SownByArgumentModel", name := "figure", desc := "(III)I" } : Jvm.MethodName)) ∈ lw_all := lw_g (lw_at lw_m7 107 rfl) rfl
theorem q1682 : (Jvm.Cond.code ({ cls := "SownByArgumentModel", name := "figure", desc := "(III)I" } : Jvm.MethodName) prog_20_method_54_code (4 : Nat) (Option.some Jvm.ClassFile.FieldType.int)) ∈ lw_all := lw_g (lw_at lw_m7 108 rfl) rfl
theorem q1683 : (Jvm.Cond.methodLink "SownByArgumentModel" (251 : Nat) ({ cls := "SownByArgumentModel", name := "wantClause", desc := "(IZ)I" } : Jvm.MethodName)) ∈ lw_all := lw_g (lw_at lw_m7 109 rfl) rfl
theorem q1684 : (Jvm.Cond.privateMethod ({ cls := "SownByArgumentModel", name := "wantClause", desc := "(IZ)I" } : Jvm.MethodName)) ∈ lw_tbl := lw_at lw_m7 110 rfl
theorem q1685 : (Jvm.Cond.instanceMethod ({ cls := "SownByArgumentModel", name := "wantClause", desc := "(IZ)I" } : Jvm.MethodName)) ∈ lw_all := lw_g (lw_at lw_m7 111 rfl) rfl
theorem q1686 : (Jvm.Cond.code ({ cls := "SownByArgumentModel", name := "wantClause", desc := "(IZ)I" } : Jvm.MethodName) prog_20_method_57_code (4 : Nat) (Option.some Jvm.ClassFile.FieldType.int)) ∈ lw_all := lw_g (lw_at lw_m7 112 rfl) rfl
theorem q1687 : (Jvm.Cond.methodLink "SownByArgumentModel" (243 : Nat) ({ cls := "SownByArgumentModel", name := "behind", desc := "(IJ)I" } : Jvm.MethodName)) ∈ lw_all := lw_g (lw_at lw_m7 113 rfl) rfl
theorem q1688 : (Jvm.Cond.privateMethod ({ cls := "SownByArgumentModel", name := "behind", desc := "(IJ)I" } : Jvm.MethodName)) ∈ lw_tbl := lw_at lw_m7 114 rfl
theorem q1689 : (Jvm.Cond.instanceMethod ({ cls := "SownByArgumentModel", name := "behind", desc := "(IJ)I" } : Jvm.MethodName)) ∈ lw_all := lw_g (lw_at lw_m7 115 rfl) rfl
theorem q1690 : (Jvm.Cond.code ({ cls := "SownByArgumentModel", name := "behind", desc := "(IJ)I" } : Jvm.MethodName) prog_20_method_56_code (4 : Nat) (Option.some Jvm.ClassFile.FieldType.int)) ∈ lw_all := lw_g (lw_at lw_m7 116 rfl) rfl
theorem q1691 : (Jvm.Cond.methodLink "SownByArgumentModel" (276 : Nat) ({ cls := "SownByArgumentModel", name := "layTables", desc := "(I)V" } : Jvm.MethodName)) ∈ lw_all := lw_g (lw_at lw_m7 117 rfl) rfl
theorem q1692 : (Jvm.Cond.privateMethod ({ cls := "SownByArgumentModel", name := "layTables", desc := "(I)V" } : Jvm.MethodName)) ∈ lw_tbl := lw_at lw_m7 118 rfl
theorem q1693 : (Jvm.Cond.instanceMethod ({ cls := "SownByArgumentModel", name := "layTables", desc := "(I)V" } : Jvm.MethodName)) ∈ lw_all := lw_g (lw_at lw_m7 119 rfl) rfl
theorem q1694 : (Jvm.Cond.code ({ cls := "SownByArgumentModel", name := "layTables", desc := "(I)V" } : Jvm.MethodName) prog_20_method_73_code (7 : Nat) (Option.none : Option Jvm.ClassFile.FieldType)) ∈ lw_all := lw_g (lw_at lw_m7 120 rfl) rfl
theorem q1695 : (Jvm.Cond.methodLink "SownByArgumentModel" (312 : Nat) ({ cls := "SownByArgumentModel", name := "isSo", desc := "(III)Z" } : Jvm.MethodName)) ∈ lw_all := lw_g (lw_at lw_m7 121 rfl) rfl
theorem q1696 : (Jvm.Cond.privateMethod ({ cls := "SownByArgumentModel", name := "isSo", desc := "(III)Z" } : Jvm.MethodName)) ∈ lw_tbl := lw_at lw_m7 122 rfl
theorem q1697 : (Jvm.Cond.instanceMethod ({ cls := "SownByArgumentModel", name := "isSo", desc := "(III)Z" } : Jvm.MethodName)) ∈ lw_all := lw_g (lw_at lw_m7 123 rfl) rfl
theorem q1698 : (Jvm.Cond.code ({ cls := "SownByArgumentModel", name := "isSo", desc := "(III)Z" } : Jvm.MethodName) prog_20_method_72_code (5 : Nat) (Option.some Jvm.ClassFile.FieldType.boolean)) ∈ lw_all := lw_g (lw_at lw_m7 124 rfl) rfl
theorem q1699 : (Jvm.Cond.methodLink "SownByArgumentModel" (309 : Nat) ({ cls := "SownByArgumentModel", name := "summedUp", desc := "(II)J" } : Jvm.MethodName)) ∈ lw_all := lw_g (lw_at lw_m7 125 rfl) rfl
theorem q1700 : (Jvm.Cond.privateMethod ({ cls := "SownByArgumentModel", name := "summedUp", desc := "(II)J" } : Jvm.MethodName)) ∈ lw_tbl := lw_at lw_m7 126 rfl
theorem q1701 : (Jvm.Cond.instanceMethod ({ cls := "SownByArgumentModel", name := "summedUp", desc := "(II)J" } : Jvm.MethodName)) ∈ lw_all := lw_g (lw_at lw_m7 127 rfl) rfl
theorem q1702 : (Jvm.Cond.code ({ cls := "SownByArgumentModel", name := "summedUp", desc := "(II)J" } : Jvm.MethodName) prog_20_method_71_code (10 : Nat) (Option.some Jvm.ClassFile.FieldType.long)) ∈ lw_all := lw_g (lw_at lw_m7 128 rfl) rfl
theorem q1703 : (Jvm.Cond.methodLink "SownByArgumentModel" (290 : Nat) ({ cls := "SownByArgumentModel", name := "heldOf", desc := "(J)J" } : Jvm.MethodName)) ∈ lw_all := lw_g (lw_at lw_m7 129 rfl) rfl
theorem q1704 : (Jvm.Cond.privateMethod ({ cls := "SownByArgumentModel", name := "heldOf", desc := "(J)J" } : Jvm.MethodName)) ∈ lw_tbl := lw_at lw_m7 130 rfl
theorem q1705 : (Jvm.Cond.instanceMethod ({ cls := "SownByArgumentModel", name := "heldOf", desc := "(J)J" } : Jvm.MethodName)) ∈ lw_all := lw_g (lw_at lw_m7 131 rfl) rfl
theorem q1706 : (Jvm.Cond.code ({ cls := "SownByArgumentModel", name := "heldOf", desc := "(J)J" } : Jvm.MethodName) prog_20_method_68_code (3 : Nat) (Option.some Jvm.ClassFile.FieldType.long)) ∈ lw_all := lw_g (lw_at lw_m7 132 rfl) rfl
theorem q1707 : (Jvm.Cond.methodLink "SownByArgumentModel" (79 : Nat) ({ cls := "SownByArgumentModel", name := "claims", desc := "()I" } : Jvm.MethodName)) ∈ lw_all := lw_g (lw_at lw_m7 133 rfl) rfl
theorem q1708 : (Jvm.Cond.privateMethod ({ cls := "SownByArgumentModel", name := "claims", desc := "()I" } : Jvm.MethodName)) ∈ lw_tbl := lw_at lw_m7 134 rfl
theorem q1709 : (Jvm.Cond.instanceMethod ({ cls := "SownByArgumentModel", name := "claims", desc := "()I" } : Jvm.MethodName)) ∈ lw_all := lw_g (lw_at lw_m7 135 rfl) rfl
theorem q1710 : (Jvm.Cond.code ({ cls := "SownByArgumentModel", name := "claims", desc := "()I" } : Jvm.MethodName) prog_20_method_9_code (1 : Nat) (Option.some Jvm.ClassFile.FieldType.int)) ∈ lw_all := lw_g (lw_at lw_m7 136 rfl) rfl
theorem q1711 : (Jvm.Cond.methodLink "SownByArgumentModel" (87 : Nat) ({ cls := "SownByArgumentModel", name := "has", desc := "(II)Z" } : Jvm.MethodName)) ∈ lw_all := lw_g (lw_at lw_m7 137 rfl) rfl
theorem q1712 : (Jvm.Cond.static ({ cls := "SownByArgumentModel", name := "has", desc := "(II)Z" } : Jvm.MethodName)) ∈ lw_all := lw_g (lw_at lw_m7 138 rfl) rfl
theorem q1713 : (Jvm.Cond.code ({ cls := "SownByArgumentModel", name := "has", desc := "(II)Z" } : Jvm.MethodName) prog_20_method_5_code (2 : Nat) (Option.some Jvm.ClassFile.FieldType.boolean)) ∈ lw_all := lw_g (lw_at lw_m7 139 rfl) rfl
theorem q1714 : (Jvm.Cond.methodLink "SownByArgumentModel" (293 : Nat) ({ cls := "SownByArgumentModel", name := "two", desc := "(IJJ)J" } : Jvm.MethodName)) ∈ lw_all := lw_g (lw_at lw_m7 140 rfl) rfl
theorem q1715 : (Jvm.Cond.static ({ cls := "SownByArgumentModel", name := "two", desc := "(IJJ)J" } : Jvm.MethodName)) ∈ lw_all := lw_g (lw_at lw_m7 141 rfl) rfl
theorem q1716 : (Jvm.Cond.code ({ cls := "SownByArgumentModel", name := "two", desc := "(IJJ)J" } : Jvm.MethodName) prog_20_method_66_code (5 : Nat) (Option.some Jvm.ClassFile.FieldType.long)) ∈ lw_all := lw_g (lw_at lw_m7 142 rfl) rfl
theorem q1717 : (Jvm.Cond.methodLink "SownByArgumentModel" (283 : Nat) ({ cls := "SownByArgumentModel", name := "clip", desc := "(J)J" } : Jvm.MethodName)) ∈ lw_all := lw_g (lw_at lw_m7 143 rfl) rfl
theorem q1718 : (Jvm.Cond.static ({ cls := "SownByArgumentModel", name := "clip", desc := "(J)J" } : Jvm.MethodName)) ∈ lw_all := lw_g (lw_at lw_m7 144 rfl) rfl
theorem q1719 : (Jvm.Cond.code ({ cls := "SownByArgumentModel", name := "clip", desc := "(J)J" } : Jvm.MethodName) prog_20_method_65_code (2 : Nat) (Option.some Jvm.ClassFile.FieldType.long)) ∈ lw_all := lw_g (lw_at lw_m7 145 rfl) rfl
theorem q1720 : (Jvm.Cond.constantLong "SownByArgumentModel" (279 : Nat) (1000000 : Int64)) ∈ lw_all := lw_g (lw_at lw_m7 146 rfl) rfl
theorem q1721 : (Jvm.Cond.constantLong "SownByArgumentModel" (281 : Nat) (-1000000 : Int64)) ∈ lw_all := lw_g (lw_at lw_m7 147 rfl) rfl
theorem q1722 : (Jvm.Cond.methodLink "SownByArgumentModel" (297 : Nat) ({ cls := "SownByArgumentModel", name := "gapOf", desc := "(JJ)J" } : Jvm.MethodName)) ∈ lw_all := lw_g (lw_at lw_m7 148 rfl) rfl
theorem q1723 : (Jvm.Cond.static ({ cls := "SownByArgumentModel", name := "gapOf", desc := "(JJ)J" } : Jvm.MethodName)) ∈ lw_all := lw_g (lw_at lw_m7 149 rfl) rfl
theorem q1724 : (Jvm.Cond.code ({ cls := "SownByArgumentModel", name := "gapOf", desc := "(JJ)J" } : Jvm.MethodName) prog_20_method_69_code (4 : Nat) (Option.some Jvm.ClassFile.FieldType.long)) ∈ lw_all := lw_g (lw_at lw_m7 150 rfl) rfl
theorem q1725 : (Jvm.Cond.methodLink "SownByArgumentModel" (301 : Nat) ({ cls := "SownByArgumentModel", name := "isAsked", desc := "(IJJ)Z" } : Jvm.MethodName)) ∈ lw_all := lw_g (lw_at lw_m7 151 rfl) rfl
theorem q1726 : (Jvm.Cond.static ({ cls := "SownByArgumentModel", name := "isAsked", desc := "(IJJ)Z" } : Jvm.MethodName)) ∈ lw_all := lw_g (lw_at lw_m7 152 rfl) rfl
theorem q1727 : (Jvm.Cond.code ({ cls := "SownByArgumentModel", name := "isAsked", desc := "(IJJ)Z" } : Jvm.MethodName) prog_20_method_67_code (5 : Nat) (Option.some Jvm.ClassFile.FieldType.boolean)) ∈ lw_all := lw_g (lw_at lw_m7 153 rfl) rfl
theorem q1728 : (Jvm.Cond.methodLink "SownByArgumentModel" (305 : Nat) ({ cls := "SownByArgumentModel", name := "joined", desc := "(IZZ)Z" } : Jvm.MethodName)) ∈ lw_all := lw_g (lw_at lw_m7 154 rfl) rfl
theorem q1729 : (Jvm.Cond.static ({ cls := "SownByArgumentModel", name := "joined", desc := "(IZZ)Z" } : Jvm.MethodName)) ∈ lw_all := lw_g (lw_at lw_m7 155 rfl) rfl
theorem q1730 : (Jvm.Cond.code ({ cls := "SownByArgumentModel", name := "joined", desc := "(IZZ)Z" } : Jvm.MethodName) prog_20_method_70_code (3 : Nat) (Option.some Jvm.ClassFile.FieldType.boolean)) ∈ lw_all := lw_g (lw_at lw_m7 156 rfl) rfl
theorem q1732 : (Jvm.Cond.instanceMethod ({ cls := "SownByArgumentModel", name := "fault", desc := "(I)I" } : Jvm.MethodName)) ∈ lw_all := lw_g (lw_at lw_m7 158 rfl) rfl
theorem q1733 : (Jvm.Cond.selects "SownByArgumentModel" ({ cls := "SownByArgumentModel", name := "fault", desc := "(I)I" } : Jvm.MethodName) ({ cls := "SownByArgumentModel", name := "fault", desc := "(I)I" } : Jvm.MethodName)) ∈ lw_all := lw_g (lw_at lw_m7 159 rfl) rfl
theorem q1734 : (Jvm.Cond.code ({ cls := "SownByArgumentModel", name := "fault", desc := "(I)I" } : Jvm.MethodName) prog_20_method_63_code (2 : Nat) (Option.some Jvm.ClassFile.FieldType.int)) ∈ lw_all := lw_g (lw_at lw_m7 160 rfl) rfl
theorem q1736 : (Jvm.Cond.instanceMethod ({ cls := "SownByArgumentModel", name := "by", desc := "(I)Z" } : Jvm.MethodName)) ∈ lw_all := lw_g (lw_at lw_m7 162 rfl) rfl
theorem q1737 : (Jvm.Cond.selects "SownByArgumentModel" ({ cls := "SownByArgumentModel", name := "by", desc := "(I)Z" } : Jvm.MethodName) ({ cls := "SownByArgumentModel", name := "by", desc := "(I)Z" } : Jvm.MethodName)) ∈ lw_all := lw_g (lw_at lw_m7 163 rfl) rfl
theorem q1738 : (Jvm.Cond.code ({ cls := "SownByArgumentModel", name := "by", desc := "(I)Z" } : Jvm.MethodName) prog_20_method_64_code (2 : Nat) (Option.some Jvm.ClassFile.FieldType.boolean)) ∈ lw_all := lw_g (lw_at lw_m7 164 rfl) rfl
theorem q1740 : (Jvm.Cond.instanceMethod ({ cls := "SownByArgumentModel", name := "undo", desc := "()I" } : Jvm.MethodName)) ∈ lw_all := lw_g (lw_at lw_m7 166 rfl) rfl
theorem q1741 : (Jvm.Cond.selects "SownByArgumentModel" ({ cls := "SownByArgumentModel", name := "undo", desc := "()I" } : Jvm.MethodName) ({ cls := "SownByArgumentModel", name := "undo", desc := "()I" } : Jvm.MethodName)) ∈ lw_all := lw_g (lw_at lw_m7 167 rfl) rfl
theorem q1742 : (Jvm.Cond.code ({ cls := "SownByArgumentModel", name := "undo", desc := "()I" } : Jvm.MethodName) prog_20_method_85_code (3 : Nat) (Option.some Jvm.ClassFile.FieldType.int)) ∈ lw_all := lw_g (lw_at lw_m7 168 rfl) rfl
theorem q1744 : (Jvm.Cond.instanceMethod ({ cls := "SownByArgumentModel", name := "say", desc := "(I)Z" } : Jvm.MethodName)) ∈ lw_all := lw_g (lw_at lw_m7 170 rfl) rfl
theorem q1745 : (Jvm.Cond.selects "SownByArgumentModel" ({ cls := "SownByArgumentModel", name := "say", desc := "(I)Z" } : Jvm.MethodName) ({ cls := "SownByArgumentModel", name := "say", desc := "(I)Z" } : Jvm.MethodName)) ∈ lw_all := lw_g (lw_at lw_m7 171 rfl) rfl
theorem q1746 : (Jvm.Cond.code ({ cls := "SownByArgumentModel", name := "say", desc := "(I)Z" } : Jvm.MethodName) prog_20_method_86_code (2 : Nat) (Option.some Jvm.ClassFile.FieldType.boolean)) ∈ lw_all := lw_g (lw_at lw_m7 172 rfl) rfl
theorem q1747 : (Jvm.Cond.methodLink "SownByArgumentModel" (346 : Nat) ({ cls := "SownByArgumentModel", name := "canSay", desc := "(I)Z" } : Jvm.MethodName)) ∈ lw_all := lw_g (lw_at lw_m7 173 rfl) rfl
theorem q1748 : (Jvm.Cond.privateMethod ({ cls := "SownByArgumentModel", name := "canSay", desc := "(I)Z" } : Jvm.MethodName)) ∈ lw_tbl := lw_at lw_m7 174 rfl
theorem q1749 : (Jvm.Cond.instanceMethod ({ cls := "SownByArgumentModel", name := "canSay", desc := "(I)Z" } : Jvm.MethodName)) ∈ lw_all := lw_g (lw_at lw_m7 175 rfl) rfl
theorem q1750 : (Jvm.Cond.code ({ cls := "SownByArgumentModel", name := "canSay", desc := "(I)Z" } : Jvm.MethodName) prog_20_method_78_code (2 : Nat) (Option.some Jvm.ClassFile.FieldType.boolean)) ∈ lw_all := lw_g (lw_at lw_m7 176 rfl) rfl
theorem q1751 : (Jvm.Cond.methodLink "SownByArgumentModel" (334 : Nat) ({ cls := "SownByArgumentModel", name := "isClaim", desc := "(I)Z" } : Jvm.MethodName)) ∈ lw_all := lw_g (lw_at lw_m7 177 rfl) rfl
theorem q1752 : (Jvm.Cond.privateMethod ({ cls := "SownByArgumentModel", name := "isClaim", desc := "(I)Z" } : Jvm.MethodName)) ∈ lw_tbl := lw_at lw_m7 178 rfl
theorem q1753 : (Jvm.Cond.instanceMethod ({ cls := "SownByArgumentModel", name := "isClaim", desc := "(I)Z" } : Jvm.MethodName)) ∈ lw_all := lw_g (lw_at lw_m7 179 rfl) rfl
theorem q1754 : (Jvm.Cond.code ({ cls := "SownByArgumentModel", name := "isClaim", desc := "(I)Z" } : Jvm.MethodName) prog_20_method_11_code (2 : Nat) (Option.some Jvm.ClassFile.FieldType.boolean)) ∈ lw_all := lw_g (lw_at lw_m7 180 rfl) rfl
theorem q1755 : (Jvm.Cond.methodLink "SownByArgumentModel" (337 : Nat) ({ cls := "SownByArgumentModel", name := "heldNow", desc := "()I" } : Jvm.MethodName)) ∈ lw_all := lw_g (lw_at lw_m7 181 rfl) rfl
theorem q1756 : (Jvm.Cond.privateMethod ({ cls := "SownByArgumentModel", name := "heldNow", desc := "()I" } : Jvm.MethodName)) ∈ lw_tbl := lw_at lw_m7 182 rfl
theorem q1757 : (Jvm.Cond.instanceMethod ({ cls := "SownByArgumentModel", name := "heldNow", desc := "()I" } : Jvm.MethodName)) ∈ lw_all := lw_g (lw_at lw_m7 183 rfl) rfl
theorem q1758 : (Jvm.Cond.code ({ cls := "SownByArgumentModel", name := "heldNow", desc := "()I" } : Jvm.MethodName) prog_20_method_15_code (1 : Nat) (Option.some Jvm.ClassFile.FieldType.int)) ∈ lw_all := lw_g (lw_at lw_m7 184 rfl) rfl
theorem q1759 : (Jvm.Cond.methodLink "SownByArgumentModel" (83 : Nat) ({ cls := "SownByArgumentModel", name := "every", desc := "()I" } : Jvm.MethodName)) ∈ lw_all := lw_g (lw_at lw_m7 185 rfl) rfl
theorem q1760 : (Jvm.Cond.privateMethod ({ cls := "SownByArgumentModel", name := "every", desc := "()I" } : Jvm.MethodName)) ∈ lw_tbl := lw_at lw_m7 186 rfl
theorem q1761 : (Jvm.Cond.instanceMethod ({ cls := "SownByArgumentModel", name := "every", desc := "()I" } : Jvm.MethodName)) ∈ lw_all := lw_g (lw_at lw_m7 187 rfl) rfl
theorem q1762 : (Jvm.Cond.code ({ cls := "SownByArgumentModel", name := "every", desc := "()I" } : Jvm.MethodName) prog_20_method_10_code (1 : Nat) (Option.some Jvm.ClassFile.FieldType.int)) ∈ lw_all := lw_g (lw_at lw_m7 188 rfl) rfl
theorem q1763 : (Jvm.Cond.methodLink "SownByArgumentModel" (340 : Nat) ({ cls := "SownByArgumentModel", name := "worldsOf", desc := "(I)I" } : Jvm.MethodName)) ∈ lw_all := lw_g (lw_at lw_m7 189 rfl) rfl
theorem q1764 : (Jvm.Cond.privateMethod ({ cls := "SownByArgumentModel", name := "worldsOf", desc := "(I)I" } : Jvm.MethodName)) ∈ lw_tbl := lw_at lw_m7 190 rfl
theorem q1765 : (Jvm.Cond.instanceMethod ({ cls := "SownByArgumentModel", name := "worldsOf", desc := "(I)I" } : Jvm.MethodName)) ∈ lw_all := lw_g (lw_at lw_m7 191 rfl) rfl
theorem q1766 : (Jvm.Cond.code ({ cls := "SownByArgumentModel", name := "worldsOf", desc := "(I)I" } : Jvm.MethodName) prog_20_method_14_code (4 : Nat) (Option.some Jvm.ClassFile.FieldType.int)) ∈ lw_all := lw_g (lw_at lw_m7 192 rfl) rfl
theorem q1767 : (Jvm.Cond.constant "SownByArgumentModel" (86 : Nat) (65535 : Int32)) ∈ lw_all := lw_g (lw_at lw_m7 193 rfl) rfl
theorem q1768 : (Jvm.Cond.methodLink "SownByArgumentModel" (91 : Nat) ({ cls := "SownByArgumentModel", name := "tableOf", desc := "(I)I" } : Jvm.MethodName)) ∈ lw_all := lw_g (lw_at lw_m7 194 rfl) rfl
theorem q1769 : (Jvm.Cond.privateMethod ({ cls := "SownByArgumentModel", name := "tableOf", desc := "(I)I" } : Jvm.MethodName)) ∈ lw_tbl := lw_at lw_m7 195 rfl
theorem q1770 : (Jvm.Cond.instanceMethod ({ cls := "SownByArgumentModel", name := "tableOf", desc := "(I)I" } : Jvm.MethodName)) ∈ lw_all := lw_g (lw_at lw_m7 196 rfl) rfl
theorem q1771 : (Jvm.Cond.code ({ cls := "SownByArgumentModel", name := "tableOf", desc := "(I)I" } : Jvm.MethodName) prog_20_method_13_code (2 : Nat) (Option.some Jvm.ClassFile.FieldType.int)) ∈ lw_all := lw_g (lw_at lw_m7 197 rfl) rfl
theorem q1772 : (Jvm.Cond.methodLink "SownByArgumentModel" (368 : Nat) ({ cls := "SownByArgumentModel", name := "keep", desc := "()V" } : Jvm.MethodName)) ∈ lw_all := lw_g (lw_at lw_m7 198 rfl) rfl
theorem q1773 : (Jvm.Cond.privateMethod ({ cls := "SownByArgumentModel", name := "keep", desc := "()V" } : Jvm.MethodName)) ∈ lw_tbl := lw_at lw_m7 199 rfl
theorem q1774 : (Jvm.Cond.instanceMethod ({ cls := "SownByArgumentModel", name := "keep", desc := "()V" } : Jvm.MethodName)) ∈ lw_all := lw_g (lw_at lw_m7 200 rfl) rfl
theorem q1775 : (Jvm.Cond.code ({ cls := "SownByArgumentModel", name := "keep", desc := "()V" } : Jvm.MethodName) prog_20_method_84_code (3 : Nat) (Option.none : Option Jvm.ClassFile.FieldType)) ∈ lw_all := lw_g (lw_at lw_m7 201 rfl) rfl
theorem q1777 : (Jvm.Cond.instanceMethod ({ cls := "SownByArgumentModel", name := "retract", desc := "(I)Z" } : Jvm.MethodName)) ∈ lw_all := lw_g (lw_at lw_m7 203 rfl) rfl
theorem q1778 : (Jvm.Cond.selects "SownByArgumentModel" ({ cls := "SownByArgumentModel", name := "retract", desc := "(I)Z" } : Jvm.MethodName) ({ cls := "SownByArgumentModel", name := "retract", desc := "(I)Z" } : Jvm.MethodName)) ∈ lw_all := lw_g (lw_at lw_m7 204 rfl) rfl
theorem q1779 : (Jvm.Cond.code ({ cls := "SownByArgumentModel", name := "retract", desc := "(I)Z" } : Jvm.MethodName) prog_20_method_87_code (2 : Nat) (Option.some Jvm.ClassFile.FieldType.boolean)) ∈ lw_all := lw_g (lw_at lw_m7 205 rfl) rfl
theorem q1780 : (Jvm.Cond.methodLink "SownByArgumentModel" (371 : Nat) ({ cls := "SownByArgumentModel", name := "canRetract", desc := "(I)Z" } : Jvm.MethodName)) ∈ lw_all := lw_g (lw_at lw_m7 206 rfl) rfl
theorem q1781 : (Jvm.Cond.privateMethod ({ cls := "SownByArgumentModel", name := "canRetract", desc := "(I)Z" } : Jvm.MethodName)) ∈ lw_tbl := lw_at lw_m7 207 rfl
theorem q1782 : (Jvm.Cond.instanceMethod ({ cls := "SownByArgumentModel", name := "canRetract", desc := "(I)Z" } : Jvm.MethodName)) ∈ lw_all := lw_g (lw_at lw_m7 208 rfl) rfl
theorem q1783 : (Jvm.Cond.code ({ cls := "SownByArgumentModel", name := "canRetract", desc := "(I)Z" } : Jvm.MethodName) prog_20_method_79_code (2 : Nat) (Option.some Jvm.ClassFile.FieldType.boolean)) ∈ lw_all := lw_g (lw_at lw_m7 209 rfl) rfl
theorem q1785 : (Jvm.Cond.instanceMethod ({ cls := "SownByArgumentModel", name := "pardon", desc := "(I)Z" } : Jvm.MethodName)) ∈ lw_all := lw_g (lw_at lw_m7 211 rfl) rfl
theorem q1786 : (Jvm.Cond.selects "SownByArgumentModel" ({ cls := "SownByArgumentModel", name := "pardon", desc := "(I)Z" } : Jvm.MethodName) ({ cls := "SownByArgumentModel", name := "pardon", desc := "(I)Z" } : Jvm.MethodName)) ∈ lw_all := lw_g (lw_at lw_m7 212 rfl) rfl
theorem q1787 : (Jvm.Cond.code ({ cls := "SownByArgumentModel", name := "pardon", desc := "(I)Z" } : Jvm.MethodName) prog_20_method_88_code (2 : Nat) (Option.some Jvm.ClassFile.FieldType.boolean)) ∈ lw_all := lw_g (lw_at lw_m7 213 rfl) rfl
theorem q1788 : (Jvm.Cond.methodLink "SownByArgumentModel" (374 : Nat) ({ cls := "SownByArgumentModel", name := "canPardon", desc := "(I)Z" } : Jvm.MethodName)) ∈ lw_all := lw_g (lw_at lw_m7 214 rfl) rfl
theorem q1789 : (Jvm.Cond.privateMethod ({ cls := "SownByArgumentModel", name := "canPardon", desc := "(I)Z" } : Jvm.MethodName)) ∈ lw_tbl := lw_at lw_m7 215 rfl
theorem q1790 : (Jvm.Cond.instanceMethod ({ cls := "SownByArgumentModel", name := "canPardon", desc := "(I)Z" } : Jvm.MethodName)) ∈ lw_all := lw_g (lw_at lw_m7 216 rfl) rfl
theorem q1791 : (Jvm.Cond.code ({ cls := "SownByArgumentModel", name := "canPardon", desc := "(I)Z" } : Jvm.MethodName) prog_20_method_80_code (2 : Nat) (Option.some Jvm.ClassFile.FieldType.boolean)) ∈ lw_all := lw_g (lw_at lw_m7 217 rfl) rfl
theorem q1793 : (Jvm.Cond.instanceMethod ({ cls := "SownByArgumentModel", name := "spring", desc := "(I)I" } : Jvm.MethodName)) ∈ lw_all := lw_g (lw_at lw_m7 219 rfl) rfl
theorem q1794 : (Jvm.Cond.selects "SownByArgumentModel" ({ cls := "SownByArgumentModel", name := "spring", desc := "(I)I" } : Jvm.MethodName) ({ cls := "SownByArgumentModel", name := "spring", desc := "(I)I" } : Jvm.MethodName)) ∈ lw_all := lw_g (lw_at lw_m7 220 rfl) rfl
theorem q1795 : (Jvm.Cond.code ({ cls := "SownByArgumentModel", name := "spring", desc := "(I)I" } : Jvm.MethodName) prog_20_method_90_code (2 : Nat) (Option.some Jvm.ClassFile.FieldType.int)) ∈ lw_all := lw_g (lw_at lw_m7 221 rfl) rfl
theorem q1796 : (Jvm.Cond.methodLink "SownByArgumentModel" (380 : Nat) ({ cls := "SownByArgumentModel", name := "arePassed", desc := "(I)Z" } : Jvm.MethodName)) ∈ lw_all := lw_g (lw_at lw_m7 222 rfl) rfl
theorem q1797 : (Jvm.Cond.privateMethod ({ cls := "SownByArgumentModel", name := "arePassed", desc := "(I)Z" } : Jvm.MethodName)) ∈ lw_tbl := lw_at lw_m7 223 rfl
theorem q1798 : (Jvm.Cond.instanceMethod ({ cls := "SownByArgumentModel", name := "arePassed", desc := "(I)Z" } : Jvm.MethodName)) ∈ lw_all := lw_g (lw_at lw_m7 224 rfl) rfl
theorem q1799 : (Jvm.Cond.code ({ cls := "SownByArgumentModel", name := "arePassed", desc := "(I)Z" } : Jvm.MethodName) prog_20_method_89_code (3 : Nat) (Option.some Jvm.ClassFile.FieldType.boolean)) ∈ lw_all := lw_g (lw_at lw_m7 225 rfl) rfl
theorem q1800 : (Jvm.Cond.methodLink "SownByArgumentModel" (377 : Nat) ({ cls := "SownByArgumentModel", name := "pass", desc := "()V" } : Jvm.MethodName)) ∈ lw_all := lw_g (lw_at lw_m7 226 rfl) rfl
theorem q1801 : (Jvm.Cond.privateMethod ({ cls := "SownByArgumentModel", name := "pass", desc := "()V" } : Jvm.MethodName)) ∈ lw_tbl := lw_at lw_m7 227 rfl
theorem q1802 : (Jvm.Cond.instanceMethod ({ cls := "SownByArgumentModel", name := "pass", desc := "()V" } : Jvm.MethodName)) ∈ lw_all := lw_g (lw_at lw_m7 228 rfl) rfl
theorem q1803 : (Jvm.Cond.code ({ cls := "SownByArgumentModel", name := "pass", desc := "()V" } : Jvm.MethodName) prog_20_method_83_code (4 : Nat) (Option.none : Option Jvm.ClassFile.FieldType)) ∈ lw_all := lw_g (lw_at lw_m7 229 rfl) rfl
theorem q1804 : (Jvm.Cond.methodLink "SownByArgumentModel" (352 : Nat) ({ cls := "SownByArgumentModel", name := "isRefutedNow", desc := "(I)Z" } : Jvm.MethodName)) ∈ lw_all := lw_g (lw_at lw_m7 230 rfl) rfl
theorem q1805 : (Jvm.Cond.privateMethod ({ cls := "SownByArgumentModel", name := "isRefutedNow", desc := "(I)Z" } : Jvm.MethodName)) ∈ lw_tbl := lw_at lw_m7 231 rfl
theorem q1806 : (Jvm.Cond.instanceMethod ({ cls := "SownByArgumentModel", name := "isRefutedNow", desc := "(I)Z" } : Jvm.MethodName)) ∈ lw_all := lw_g (lw_at lw_m7 232 rfl) rfl
theorem q1807 : (Jvm.Cond.code ({ cls := "SownByArgumentModel", name := "isRefutedNow", desc := "(I)Z" } : Jvm.MethodName) prog_20_method_81_code (3 : Nat) (Option.some Jvm.ClassFile.FieldType.boolean)) ∈ lw_all := lw_g (lw_at lw_m7 233 rfl) rfl
theorem q1808 : (Jvm.Cond.methodLink "SownByArgumentModel" (343 : Nat) ({ cls := "SownByArgumentModel", name := "drawnBy", desc := "(I)I" } : Jvm.MethodName)) ∈ lw_all := lw_g (lw_at lw_m7 234 rfl) rfl
theorem q1809 : (Jvm.Cond.privateMethod ({ cls := "SownByArgumentModel", name := "drawnBy", desc := "(I)I" } : Jvm.MethodName)) ∈ lw_tbl := lw_at lw_m7 235 rfl
theorem q1810 : (Jvm.Cond.instanceMethod ({ cls := "SownByArgumentModel", name := "drawnBy", desc := "(I)I" } : Jvm.MethodName)) ∈ lw_all := lw_g (lw_at lw_m7 236 rfl) rfl
theorem q1811 : (Jvm.Cond.code ({ cls := "SownByArgumentModel", name := "drawnBy", desc := "(I)I" } : Jvm.MethodName) prog_20_method_76_code (3 : Nat) (Option.some Jvm.ClassFile.FieldType.int)) ∈ lw_all := lw_g (lw_at lw_m7 237 rfl) rfl
theorem q1812 : (Jvm.Cond.methodLink "SownByArgumentModel" (325 : Nat) ({ cls := "SownByArgumentModel", name := "anew", desc := "()V" } : Jvm.MethodName)) ∈ lw_all := lw_g (lw_at lw_m7 238 rfl) rfl
theorem q1813 : (Jvm.Cond.privateMethod ({ cls := "SownByArgumentModel", name := "anew", desc := "()V" } : Jvm.MethodName)) ∈ lw_tbl := lw_at lw_m7 239 rfl
theorem q1814 : (Jvm.Cond.instanceMethod ({ cls := "SownByArgumentModel", name := "anew", desc := "()V" } : Jvm.MethodName)) ∈ lw_all := lw_g (lw_at lw_m8 0 rfl) rfl
theorem q1815 : (Jvm.Cond.code ({ cls := "SownByArgumentModel", name := "anew", desc := "()V" } : Jvm.MethodName) prog_20_method_77_code (1 : Nat) (Option.none : Option Jvm.ClassFile.FieldType)) ∈ lw_all := lw_g (lw_at lw_m8 1 rfl) rfl
theorem q1816 : (Jvm.Cond.constantLong "SownByArgumentModel" (328 : Nat) (613 : Int64)) ∈ lw_all := lw_g (lw_at lw_m8 2 rfl) rfl
theorem q1817 : (Jvm.Cond.constantLong "SownByArgumentModel" (330 : Nat) (487 : Int64)) ∈ lw_all := lw_g (lw_at lw_m8 3 rfl) rfl
theorem q1818 : (Jvm.Cond.constantLong "SownByArgumentModel" (332 : Nat) (30859 : Int64)) ∈ lw_all := lw_g (lw_at lw_m8 4 rfl) rfl
theorem q1819 : (Jvm.Cond.methodLink "SownByArgumentModel" (318 : Nat) ({ cls := "SownByArgumentModel", name := "cut", desc := "(JII)I" } : Jvm.MethodName)) ∈ lw_all := lw_g (lw_at lw_m8 5 rfl) rfl
theorem q1820 : (Jvm.Cond.static ({ cls := "SownByArgumentModel", name := "cut", desc := "(JII)I" } : Jvm.MethodName)) ∈ lw_all := lw_g (lw_at lw_m8 6 rfl) rfl
theorem q1821 : (Jvm.Cond.code ({ cls := "SownByArgumentModel", name := "cut", desc := "(JII)I" } : Jvm.MethodName) prog_20_method_4_code (4 : Nat) (Option.some Jvm.ClassFile.FieldType.int)) ∈ lw_all := lw_g (lw_at lw_m8 7 rfl) rfl
theorem q1822 : (Jvm.Cond.methodLink "SownByArgumentModel" (358 : Nat) ({ cls := "SownByArgumentModel", name := "bits", desc := "(I)I" } : Jvm.MethodName)) ∈ lw_all := lw_g (lw_at lw_m8 8 rfl) rfl
theorem q1823 : (Jvm.Cond.static ({ cls := "SownByArgumentModel", name := "bits", desc := "(I)I" } : Jvm.MethodName)) ∈ lw_all := lw_g (lw_at lw_m8 9 rfl) rfl
theorem q1824 : (Jvm.Cond.code ({ cls := "SownByArgumentModel", name := "bits", desc := "(I)I" } : Jvm.MethodName) prog_20_method_6_code (3 : Nat) (Option.some Jvm.ClassFile.FieldType.int)) ∈ lw_all := lw_g (lw_at lw_m8 10 rfl) rfl
theorem q1825 : (Jvm.Cond.methodLink "SownByArgumentModel" (361 : Nat) ({ cls := "SownByArgumentModel", name := "taken", desc := "(II)I" } : Jvm.MethodName)) ∈ lw_all := lw_g (lw_at lw_m8 11 rfl) rfl
theorem q1826 : (Jvm.Cond.privateMethod ({ cls := "SownByArgumentModel", name := "taken", desc := "(II)I" } : Jvm.MethodName)) ∈ lw_tbl := lw_at lw_m8 12 rfl
theorem q1827 : (Jvm.Cond.instanceMethod ({ cls := "SownByArgumentModel", name := "taken", desc := "(II)I" } : Jvm.MethodName)) ∈ lw_all := lw_g (lw_at lw_m8 13 rfl) rfl
theorem q1828 : (Jvm.Cond.code ({ cls := "SownByArgumentModel", name := "taken", desc := "(II)I" } : Jvm.MethodName) prog_20_method_82_code (5 : Nat) (Option.some Jvm.ClassFile.FieldType.int)) ∈ lw_all := lw_g (lw_at lw_m8 14 rfl) rfl
theorem q1829 : (Jvm.Cond.methodLink "SownByArgumentModel" (349 : Nat) ({ cls := "SownByArgumentModel", name := "worthBy", desc := "(III)I" } : Jvm.MethodName)) ∈ lw_all := lw_g (lw_at lw_m8 15 rfl) rfl
theorem q1830 : (Jvm.Cond.privateMethod ({ cls := "SownByArgumentModel", name := "worthBy", desc := "(III)I" } : Jvm.MethodName)) ∈ lw_tbl := lw_at lw_m8 16 rfl
theorem q1831 : (Jvm.Cond.instanceMethod ({ cls := "SownByArgumentModel", name := "worthBy", desc := "(III)I" } : Jvm.MethodName)) ∈ lw_all := lw_g (lw_at lw_m8 17 rfl) rfl
theorem q1832 : (Jvm.Cond.code ({ cls := "SownByArgumentModel", name := "worthBy", desc := "(III)I" } : Jvm.MethodName) prog_20_method_74_code (5 : Nat) (Option.some Jvm.ClassFile.FieldType.int)) ∈ lw_all := lw_g (lw_at lw_m8 18 rfl) rfl
theorem q1833 : (Jvm.Cond.methodLink "SownByArgumentModel" (315 : Nat) ({ cls := "SownByArgumentModel", name := "wantOf", desc := "(II)I" } : Jvm.MethodName)) ∈ lw_all := lw_g (lw_at lw_m8 19 rfl) rfl
theorem q1834 : (Jvm.Cond.privateMethod ({ cls := "SownByArgumentModel", name := "wantOf", desc := "(II)I" } : Jvm.MethodName)) ∈ lw_tbl := lw_at lw_m8 20 rfl
theorem q1835 : (Jvm.Cond.instanceMethod ({ cls := "SownByArgumentModel", name := "wantOf", desc := "(II)I" } : Jvm.MethodName)) ∈ lw_all := lw_g (lw_at lw_m8 21 rfl) rfl
theorem q1836 : (Jvm.Cond.code ({ cls := "SownByArgumentModel", name := "wantOf", desc := "(II)I" } : Jvm.MethodName) prog_20_method_16_code (3 : Nat) (Option.some Jvm.ClassFile.FieldType.int)) ∈ lw_all := lw_g (lw_at lw_m8 22 rfl) rfl
theorem q1837 : (Jvm.Cond.methodLink "SownByArgumentModel" (364 : Nat) ({ cls := "SownByArgumentModel", name := "write", desc := "(IZ)V" } : Jvm.MethodName)) ∈ lw_all := lw_g (lw_at lw_m8 23 rfl) rfl
theorem q1838 : (Jvm.Cond.privateMethod ({ cls := "SownByArgumentModel", name := "write", desc := "(IZ)V" } : Jvm.MethodName)) ∈ lw_tbl := lw_at lw_m8 24 rfl
theorem q1839 : (Jvm.Cond.instanceMethod ({ cls := "SownByArgumentModel", name := "write", desc := "(IZ)V" } : Jvm.MethodName)) ∈ lw_all := lw_g (lw_at lw_m8 25 rfl) rfl
theorem q1840 : (Jvm.Cond.code ({ cls := "SownByArgumentModel", name := "write", desc := "(IZ)V" } : Jvm.MethodName) prog_20_method_75_code (4 : Nat) (Option.none : Option Jvm.ClassFile.FieldType)) ∈ lw_all := lw_g (lw_at lw_m8 26 rfl) rfl
theorem q1841 : (Jvm.Cond.methodLink "SownByArgumentModel" (322 : Nat) ({ cls := "SownByArgumentModel", name := "fieldOf", desc := "(I)I" } : Jvm.MethodName)) ∈ lw_all := lw_g (lw_at lw_m8 27 rfl) rfl
theorem q1842 : (Jvm.Cond.privateMethod ({ cls := "SownByArgumentModel", name := "fieldOf", desc := "(I)I" } : Jvm.MethodName)) ∈ lw_tbl := lw_at lw_m8 28 rfl
theorem q1843 : (Jvm.Cond.instanceMethod ({ cls := "SownByArgumentModel", name := "fieldOf", desc := "(I)I" } : Jvm.MethodName)) ∈ lw_all := lw_g (lw_at lw_m8 29 rfl) rfl
theorem q1844 : (Jvm.Cond.code ({ cls := "SownByArgumentModel", name := "fieldOf", desc := "(I)I" } : Jvm.MethodName) prog_20_method_17_code (2 : Nat) (Option.some Jvm.ClassFile.FieldType.int)) ∈ lw_all := lw_g (lw_at lw_m8 30 rfl) rfl
theorem q1846 : (Jvm.Cond.instanceMethod ({ cls := "SownByArgumentModel", name := "played", desc := "(I)I" } : Jvm.MethodName)) ∈ lw_all := lw_g (lw_at lw_m8 32 rfl) rfl
theorem q1847 : (Jvm.Cond.selects "SownByArgumentModel" ({ cls := "SownByArgumentModel", name := "played", desc := "(I)I" } : Jvm.MethodName) ({ cls := "SownByArgumentModel", name := "played", desc := "(I)I" } : Jvm.MethodName)) ∈ lw_all := lw_g (lw_at lw_m8 33 rfl) rfl
theorem q1848 : (Jvm.Cond.code ({ cls := "SownByArgumentModel", name := "played", desc := "(I)I" } : Jvm.MethodName) prog_20_method_92_code (3 : Nat) (Option.some Jvm.ClassFile.FieldType.int)) ∈ lw_all := lw_g (lw_at lw_m8 34 rfl) rfl
theorem q1849 : (Jvm.Cond.methodLink "SownByArgumentModel" (401 : Nat) ({ cls := "SownByArgumentModel", name := "isPlayed", desc := "(I)Z" } : Jvm.MethodName)) ∈ lw_all := lw_g (lw_at lw_m8 35 rfl) rfl
theorem q1850 : (Jvm.Cond.privateMethod ({ cls := "SownByArgumentModel", name := "isPlayed", desc := "(I)Z" } : Jvm.MethodName)) ∈ lw_tbl := lw_at lw_m8 36 rfl
theorem q1851 : (Jvm.Cond.instanceMethod ({ cls := "SownByArgumentModel", name := "isPlayed", desc := "(I)Z" } : Jvm.MethodName)) ∈ lw_all := lw_g (lw_at lw_m8 37 rfl) rfl
theorem q1852 : (Jvm.Cond.code ({ cls := "SownByArgumentModel", name := "isPlayed", desc := "(I)Z" } : Jvm.MethodName) prog_20_method_91_code (3 : Nat) (Option.some Jvm.ClassFile.FieldType.boolean)) ∈ lw_all := lw_g (lw_at lw_m8 38 rfl) rfl
theorem q1853 : (Jvm.Cond.methodLink "SownByArgumentModel" (383 : Nat) ({ cls := "SownByArgumentModel", name := "farmer", desc := "(I)I" } : Jvm.MethodName)) ∈ lw_all := lw_g (lw_at lw_m8 39 rfl) rfl
theorem q1854 : (Jvm.Cond.methodLink "SownByArgumentModel" (386 : Nat) ({ cls := "SownByArgumentModel", name := "soil", desc := "(II)Z" } : Jvm.MethodName)) ∈ lw_all := lw_g (lw_at lw_m8 40 rfl) rfl
theorem q1855 : (Jvm.Cond.methodLink "SownByArgumentModel" (389 : Nat) ({ cls := "SownByArgumentModel", name := "wants", desc := "(III)Z" } : Jvm.MethodName)) ∈ lw_all := lw_g (lw_at lw_m8 41 rfl) rfl
theorem q1856 : (Jvm.Cond.methodLink "SownByArgumentModel" (392 : Nat) ({ cls := "SownByArgumentModel", name := "say", desc := "(I)Z" } : Jvm.MethodName)) ∈ lw_all := lw_g (lw_at lw_m8 42 rfl) rfl
theorem q1857 : (Jvm.Cond.methodLink "SownByArgumentModel" (395 : Nat) ({ cls := "SownByArgumentModel", name := "retract", desc := "(I)Z" } : Jvm.MethodName)) ∈ lw_all := lw_g (lw_at lw_m8 43 rfl) rfl
theorem q1858 : (Jvm.Cond.methodLink "SownByArgumentModel" (398 : Nat) ({ cls := "SownByArgumentModel", name := "pardon", desc := "(I)Z" } : Jvm.MethodName)) ∈ lw_all := lw_g (lw_at lw_m8 44 rfl) rfl
theorem q1860 : (Jvm.Cond.instanceMethod ({ cls := "SownByArgumentModel", name := "years", desc := "(II)I" } : Jvm.MethodName)) ∈ lw_all := lw_g (lw_at lw_m8 46 rfl) rfl
theorem q1861 : (Jvm.Cond.selects "SownByArgumentModel" ({ cls := "SownByArgumentModel", name := "years", desc := "(II)I" } : Jvm.MethodName) ({ cls := "SownByArgumentModel", name := "years", desc := "(II)I" } : Jvm.MethodName)) ∈ lw_all := lw_g (lw_at lw_m8 47 rfl) rfl
theorem q1862 : (Jvm.Cond.code ({ cls := "SownByArgumentModel", name := "years", desc := "(II)I" } : Jvm.MethodName) prog_20_method_94_code (5 : Nat) (Option.some Jvm.ClassFile.FieldType.int)) ∈ lw_all := lw_g (lw_at lw_m8 48 rfl) rfl
theorem q1863 : (Jvm.Cond.methodLink "SownByArgumentModel" (404 : Nat) ({ cls := "SownByArgumentModel", name := "happens", desc := "(I)V" } : Jvm.MethodName)) ∈ lw_all := lw_g (lw_at lw_m8 49 rfl) rfl
theorem q1864 : (Jvm.Cond.privateMethod ({ cls := "SownByArgumentModel", name := "happens", desc := "(I)V" } : Jvm.MethodName)) ∈ lw_tbl := lw_at lw_m8 50 rfl
theorem q1865 : (Jvm.Cond.instanceMethod ({ cls := "SownByArgumentModel", name := "happens", desc := "(I)V" } : Jvm.MethodName)) ∈ lw_all := lw_g (lw_at lw_m8 51 rfl) rfl
theorem q1866 : (Jvm.Cond.code ({ cls := "SownByArgumentModel", name := "happens", desc := "(I)V" } : Jvm.MethodName) prog_20_method_93_code (3 : Nat) (Option.none : Option Jvm.ClassFile.FieldType)) ∈ lw_all := lw_g (lw_at lw_m8 52 rfl) rfl
theorem q1868 : (Jvm.Cond.instanceMethod ({ cls := "SownByArgumentModel", name := "of", desc := "(II)I" } : Jvm.MethodName)) ∈ lw_all := lw_g (lw_at lw_m8 54 rfl) rfl
theorem q1869 : (Jvm.Cond.selects "SownByArgumentModel" ({ cls := "SownByArgumentModel", name := "of", desc := "(II)I" } : Jvm.MethodName) ({ cls := "SownByArgumentModel", name := "of", desc := "(II)I" } : Jvm.MethodName)) ∈ lw_all := lw_g (lw_at lw_m8 55 rfl) rfl
theorem q1870 : (Jvm.Cond.code ({ cls := "SownByArgumentModel", name := "of", desc := "(II)I" } : Jvm.MethodName) prog_20_method_95_code (3 : Nat) (Option.some Jvm.ClassFile.FieldType.int)) ∈ lw_all := lw_g (lw_at lw_m8 56 rfl) rfl
theorem q1871 : (Jvm.Cond.methodLink "SownByArgumentModel" (407 : Nat) ({ cls := "SownByArgumentModel", name := "isFarmer", desc := "(I)Z" } : Jvm.MethodName)) ∈ lw_all := lw_g (lw_at lw_m8 57 rfl) rfl
theorem q1872 : (Jvm.Cond.privateMethod ({ cls := "SownByArgumentModel", name := "isFarmer", desc := "(I)Z" } : Jvm.MethodName)) ∈ lw_tbl := lw_at lw_m8 58 rfl
theorem q1873 : (Jvm.Cond.instanceMethod ({ cls := "SownByArgumentModel", name := "isFarmer", desc := "(I)Z" } : Jvm.MethodName)) ∈ lw_all := lw_g (lw_at lw_m8 59 rfl) rfl
theorem q1874 : (Jvm.Cond.code ({ cls := "SownByArgumentModel", name := "isFarmer", desc := "(I)Z" } : Jvm.MethodName) prog_20_method_7_code (2 : Nat) (Option.some Jvm.ClassFile.FieldType.boolean)) ∈ lw_all := lw_g (lw_at lw_m8 60 rfl) rfl
theorem q1876 : (Jvm.Cond.instanceMethod ({ cls := "SownByArgumentModel", name := "claim", desc := "(II)I" } : Jvm.MethodName)) ∈ lw_all := lw_g (lw_at lw_m8 62 rfl) rfl
theorem q1877 : (Jvm.Cond.selects "SownByArgumentModel" ({ cls := "SownByArgumentModel", name := "claim", desc := "(II)I" } : Jvm.MethodName) ({ cls := "SownByArgumentModel", name := "claim", desc := "(II)I" } : Jvm.MethodName)) ∈ lw_all := lw_g (lw_at lw_m8 63 rfl) rfl
theorem q1878 : (Jvm.Cond.code ({ cls := "SownByArgumentModel", name := "claim", desc := "(II)I" } : Jvm.MethodName) prog_20_method_96_code (3 : Nat) (Option.some Jvm.ClassFile.FieldType.int)) ∈ lw_all := lw_g (lw_at lw_m8 64 rfl) rfl
theorem q1880 : (Jvm.Cond.instanceMethod ({ cls := "SownByArgumentModel", name := "is", desc := "(I)I" } : Jvm.MethodName)) ∈ lw_all := lw_g (lw_at lw_m8 66 rfl) rfl
theorem q1881 : (Jvm.Cond.selects "SownByArgumentModel" ({ cls := "SownByArgumentModel", name := "is", desc := "(I)I" } : Jvm.MethodName) ({ cls := "SownByArgumentModel", name := "is", desc := "(I)I" } : Jvm.MethodName)) ∈ lw_all := lw_g (lw_at lw_m8 67 rfl) rfl
theorem q1882 : (Jvm.Cond.code ({ cls := "SownByArgumentModel", name := "is", desc := "(I)I" } : Jvm.MethodName) prog_20_method_98_code (2 : Nat) (Option.some Jvm.ClassFile.FieldType.int)) ∈ lw_all := lw_g (lw_at lw_m8 68 rfl) rfl
theorem q1883 : (Jvm.Cond.methodLink "SownByArgumentModel" (410 : Nat) ({ cls := "SownByArgumentModel", name := "barredNow", desc := "()I" } : Jvm.MethodName)) ∈ lw_all := lw_g (lw_at lw_m8 69 rfl) rfl
theorem q1884 : (Jvm.Cond.privateMethod ({ cls := "SownByArgumentModel", name := "barredNow", desc := "()I" } : Jvm.MethodName)) ∈ lw_tbl := lw_at lw_m8 70 rfl
theorem q1885 : (Jvm.Cond.instanceMethod ({ cls := "SownByArgumentModel", name := "barredNow", desc := "()I" } : Jvm.MethodName)) ∈ lw_all := lw_g (lw_at lw_m8 71 rfl) rfl
theorem q1886 : (Jvm.Cond.code ({ cls := "SownByArgumentModel", name := "barredNow", desc := "()I" } : Jvm.MethodName) prog_20_method_97_code (3 : Nat) (Option.some Jvm.ClassFile.FieldType.int)) ∈ lw_all := lw_g (lw_at lw_m8 72 rfl) rfl
theorem q1888 : (Jvm.Cond.instanceMethod ({ cls := "SownByArgumentModel", name := "worth", desc := "(II)I" } : Jvm.MethodName)) ∈ lw_all := lw_g (lw_at lw_m8 74 rfl) rfl
theorem q1889 : (Jvm.Cond.selects "SownByArgumentModel" ({ cls := "SownByArgumentModel", name := "worth", desc := "(II)I" } : Jvm.MethodName) ({ cls := "SownByArgumentModel", name := "worth", desc := "(II)I" } : Jvm.MethodName)) ∈ lw_all := lw_g (lw_at lw_m8 75 rfl) rfl
theorem q1890 : (Jvm.Cond.code ({ cls := "SownByArgumentModel", name := "worth", desc := "(II)I" } : Jvm.MethodName) prog_20_method_99_code (3 : Nat) (Option.some Jvm.ClassFile.FieldType.int)) ∈ lw_all := lw_g (lw_at lw_m8 76 rfl) rfl
theorem q1892 : (Jvm.Cond.instanceMethod ({ cls := "SownByArgumentModel", name := "book", desc := "(II)I" } : Jvm.MethodName)) ∈ lw_all := lw_g (lw_at lw_m8 78 rfl) rfl
theorem q1893 : (Jvm.Cond.selects "SownByArgumentModel" ({ cls := "SownByArgumentModel", name := "book", desc := "(II)I" } : Jvm.MethodName) ({ cls := "SownByArgumentModel", name := "book", desc := "(II)I" } : Jvm.MethodName)) ∈ lw_all := lw_g (lw_at lw_m8 79 rfl) rfl
theorem q1894 : (Jvm.Cond.code ({ cls := "SownByArgumentModel", name := "book", desc := "(II)I" } : Jvm.MethodName) prog_20_method_101_code (3 : Nat) (Option.some Jvm.ClassFile.FieldType.int)) ∈ lw_all := lw_g (lw_at lw_m8 80 rfl) rfl
theorem q1895 : (Jvm.Cond.methodLink "SownByArgumentModel" (413 : Nat) ({ cls := "SownByArgumentModel", name := "entry", desc := "(II)I" } : Jvm.MethodName)) ∈ lw_all := lw_g (lw_at lw_m8 81 rfl) rfl
theorem q1896 : (Jvm.Cond.privateMethod ({ cls := "SownByArgumentModel", name := "entry", desc := "(II)I" } : Jvm.MethodName)) ∈ lw_tbl := lw_at lw_m8 82 rfl
theorem q1897 : (Jvm.Cond.instanceMethod ({ cls := "SownByArgumentModel", name := "entry", desc := "(II)I" } : Jvm.MethodName)) ∈ lw_all := lw_g (lw_at lw_m8 83 rfl) rfl
theorem q1898 : (Jvm.Cond.code ({ cls := "SownByArgumentModel", name := "entry", desc := "(II)I" } : Jvm.MethodName) prog_20_method_100_code (4 : Nat) (Option.some Jvm.ClassFile.FieldType.int)) ∈ lw_all := lw_g (lw_at lw_m8 84 rfl) rfl
theorem q1900 : (Jvm.Cond.instanceMethod ({ cls := "SownByArgumentModel", name := "ledger", desc := "(I)I" } : Jvm.MethodName)) ∈ lw_all := lw_g (lw_at lw_m8 86 rfl) rfl
theorem q1901 : (Jvm.Cond.selects "SownByArgumentModel" ({ cls := "SownByArgumentModel", name := "ledger", desc := "(I)I" } : Jvm.MethodName) ({ cls := "SownByArgumentModel", name := "ledger", desc := "(I)I" } : Jvm.MethodName)) ∈ lw_all := lw_g (lw_at lw_m8 87 rfl) rfl
theorem q1902 : (Jvm.Cond.code ({ cls := "SownByArgumentModel", name := "ledger", desc := "(I)I" } : Jvm.MethodName) prog_20_method_102_code (4 : Nat) (Option.some Jvm.ClassFile.FieldType.int)) ∈ lw_all := lw_g (lw_at lw_m8 88 rfl) rfl
theorem q1904 : (Jvm.Cond.instanceMethod ({ cls := "SownByArgumentModel", name := "ground", desc := "()I" } : Jvm.MethodName)) ∈ lw_all := lw_g (lw_at lw_m8 90 rfl) rfl
theorem q1905 : (Jvm.Cond.selects "SownByArgumentModel" ({ cls := "SownByArgumentModel", name := "ground", desc := "()I" } : Jvm.MethodName) ({ cls := "SownByArgumentModel", name := "ground", desc := "()I" } : Jvm.MethodName)) ∈ lw_all := lw_g (lw_at lw_m8 91 rfl) rfl
theorem q1906 : (Jvm.Cond.code ({ cls := "SownByArgumentModel", name := "ground", desc := "()I" } : Jvm.MethodName) prog_20_method_103_code (4 : Nat) (Option.some Jvm.ClassFile.FieldType.int)) ∈ lw_all := lw_g (lw_at lw_m8 92 rfl) rfl
theorem q1908 : (Jvm.Cond.instanceMethod ({ cls := "SownByArgumentModel", name := "landless", desc := "()I" } : Jvm.MethodName)) ∈ lw_all := lw_g (lw_at lw_m8 94 rfl) rfl
theorem q1909 : (Jvm.Cond.selects "SownByArgumentModel" ({ cls := "SownByArgumentModel", name := "landless", desc := "()I" } : Jvm.MethodName) ({ cls := "SownByArgumentModel", name := "landless", desc := "()I" } : Jvm.MethodName)) ∈ lw_all := lw_g (lw_at lw_m8 95 rfl) rfl
theorem q1910 : (Jvm.Cond.code ({ cls := "SownByArgumentModel", name := "landless", desc := "()I" } : Jvm.MethodName) prog_20_method_104_code (3 : Nat) (Option.some Jvm.ClassFile.FieldType.int)) ∈ lw_all := lw_g (lw_at lw_m8 96 rfl) rfl
theorem q1912 : (Jvm.Cond.instanceMethod ({ cls := "SownByArgumentModel", name := "wisest", desc := "()I" } : Jvm.MethodName)) ∈ lw_all := lw_g (lw_at lw_m8 98 rfl) rfl
theorem q1913 : (Jvm.Cond.selects "SownByArgumentModel" ({ cls := "SownByArgumentModel", name := "wisest", desc := "()I" } : Jvm.MethodName) ({ cls := "SownByArgumentModel", name := "wisest", desc := "()I" } : Jvm.MethodName)) ∈ lw_all := lw_g (lw_at lw_m8 99 rfl) rfl
theorem q1914 : (Jvm.Cond.code ({ cls := "SownByArgumentModel", name := "wisest", desc := "()I" } : Jvm.MethodName) prog_20_method_105_code (3 : Nat) (Option.some Jvm.ClassFile.FieldType.int)) ∈ lw_all := lw_g (lw_at lw_m8 100 rfl) rfl
theorem q1916 : (Jvm.Cond.instanceMethod ({ cls := "SownByArgumentModel", name := "free", desc := "()I" } : Jvm.MethodName)) ∈ lw_all := lw_g (lw_at lw_m8 102 rfl) rfl
theorem q1917 : (Jvm.Cond.selects "SownByArgumentModel" ({ cls := "SownByArgumentModel", name := "free", desc := "()I" } : Jvm.MethodName) ({ cls := "SownByArgumentModel", name := "free", desc := "()I" } : Jvm.MethodName)) ∈ lw_all := lw_g (lw_at lw_m8 103 rfl) rfl
theorem q1918 : (Jvm.Cond.code ({ cls := "SownByArgumentModel", name := "free", desc := "()I" } : Jvm.MethodName) prog_20_method_106_code (3 : Nat) (Option.some Jvm.ClassFile.FieldType.int)) ∈ lw_all := lw_g (lw_at lw_m8 104 rfl) rfl
theorem q1920 : (Jvm.Cond.instanceMethod ({ cls := "SownByArgumentModel", name := "foretold", desc := "(III)I" } : Jvm.MethodName)) ∈ lw_all := lw_g (lw_at lw_m8 106 rfl) rfl
theorem q1921 : (Jvm.Cond.selects "SownByArgumentModel" ({ cls := "SownByArgumentModel", name := "foretold", desc := "(III)I" } : Jvm.MethodName) ({ cls := "SownByArgumentModel", name := "foretold", desc := "(III)I" } : Jvm.MethodName)) ∈ lw_all := lw_g (lw_at lw_m8 107 rfl) rfl
theorem q1922 : (Jvm.Cond.code ({ cls := "SownByArgumentModel", name := "foretold", desc := "(III)I" } : Jvm.MethodName) prog_20_method_109_code (5 : Nat) (Option.some Jvm.ClassFile.FieldType.int)) ∈ lw_all := lw_g (lw_at lw_m8 108 rfl) rfl
theorem q1923 : (Jvm.Cond.methodLink "SownByArgumentModel" (416 : Nat) ({ cls := "SownByArgumentModel", name := "setAside", desc := "()V" } : Jvm.MethodName)) ∈ lw_all := lw_g (lw_at lw_m8 109 rfl) rfl
theorem q1924 : (Jvm.Cond.privateMethod ({ cls := "SownByArgumentModel", name := "setAside", desc := "()V" } : Jvm.MethodName)) ∈ lw_tbl := lw_at lw_m8 110 rfl
theorem q1925 : (Jvm.Cond.instanceMethod ({ cls := "SownByArgumentModel", name := "setAside", desc := "()V" } : Jvm.MethodName)) ∈ lw_all := lw_g (lw_at lw_m8 111 rfl) rfl
theorem q1926 : (Jvm.Cond.code ({ cls := "SownByArgumentModel", name := "setAside", desc := "()V" } : Jvm.MethodName) prog_20_method_107_code (2 : Nat) (Option.none : Option Jvm.ClassFile.FieldType)) ∈ lw_all := lw_g (lw_at lw_m8 112 rfl) rfl
theorem q1927 : (Jvm.Cond.methodLink "SownByArgumentModel" (419 : Nat) ({ cls := "SownByArgumentModel", name := "putBack", desc := "()V" } : Jvm.MethodName)) ∈ lw_all := lw_g (lw_at lw_m8 113 rfl) rfl
theorem q1928 : (Jvm.Cond.privateMethod ({ cls := "SownByArgumentModel", name := "putBack", desc := "()V" } : Jvm.MethodName)) ∈ lw_tbl := lw_at lw_m8 114 rfl
theorem q1929 : (Jvm.Cond.instanceMethod ({ cls := "SownByArgumentModel", name := "putBack", desc := "()V" } : Jvm.MethodName)) ∈ lw_all := lw_g (lw_at lw_m8 115 rfl) rfl
theorem q1930 : (Jvm.Cond.code ({ cls := "SownByArgumentModel", name := "putBack", desc := "()V" } : Jvm.MethodName) prog_20_method_108_code (2 : Nat) (Option.none : Option Jvm.ClassFile.FieldType)) ∈ lw_all := lw_g (lw_at lw_m8 116 rfl) rfl
theorem q1932 : (Jvm.Cond.instanceMethod ({ cls := "SownByArgumentModel", name := "lasts", desc := "()I" } : Jvm.MethodName)) ∈ lw_all := lw_g (lw_at lw_m8 118 rfl) rfl
theorem q1933 : (Jvm.Cond.selects "SownByArgumentModel" ({ cls := "SownByArgumentModel", name := "lasts", desc := "()I" } : Jvm.MethodName) ({ cls := "SownByArgumentModel", name := "lasts", desc := "()I" } : Jvm.MethodName)) ∈ lw_all := lw_g (lw_at lw_m8 119 rfl) rfl
theorem q1934 : (Jvm.Cond.code ({ cls := "SownByArgumentModel", name := "lasts", desc := "()I" } : Jvm.MethodName) prog_20_method_110_code (3 : Nat) (Option.some Jvm.ClassFile.FieldType.int)) ∈ lw_all := lw_g (lw_at lw_m8 120 rfl) rfl
theorem q1936 : (Jvm.Cond.instanceMethod ({ cls := "SownByArgumentModel", name := "worlds", desc := "(II)I" } : Jvm.MethodName)) ∈ lw_all := lw_g (lw_at lw_m8 122 rfl) rfl
theorem q1937 : (Jvm.Cond.selects "SownByArgumentModel" ({ cls := "SownByArgumentModel", name := "worlds", desc := "(II)I" } : Jvm.MethodName) ({ cls := "SownByArgumentModel", name := "worlds", desc := "(II)I" } : Jvm.MethodName)) ∈ lw_all := lw_g (lw_at lw_m8 123 rfl) rfl
theorem q1938 : (Jvm.Cond.code ({ cls := "SownByArgumentModel", name := "worlds", desc := "(II)I" } : Jvm.MethodName) prog_20_method_111_code (5 : Nat) (Option.some Jvm.ClassFile.FieldType.int)) ∈ lw_all := lw_g (lw_at lw_m8 124 rfl) rfl
theorem q1939 : (Jvm.Cond.methodLink "SownByArgumentModel" (422 : Nat) ({ cls := "SownByArgumentModel", name := "areClaims", desc := "(I)Z" } : Jvm.MethodName)) ∈ lw_all := lw_g (lw_at lw_m8 125 rfl) rfl
theorem q1940 : (Jvm.Cond.privateMethod ({ cls := "SownByArgumentModel", name := "areClaims", desc := "(I)Z" } : Jvm.MethodName)) ∈ lw_tbl := lw_at lw_m8 126 rfl
theorem q1941 : (Jvm.Cond.instanceMethod ({ cls := "SownByArgumentModel", name := "areClaims", desc := "(I)Z" } : Jvm.MethodName)) ∈ lw_all := lw_g (lw_at lw_m8 127 rfl) rfl
theorem q1942 : (Jvm.Cond.code ({ cls := "SownByArgumentModel", name := "areClaims", desc := "(I)Z" } : Jvm.MethodName) prog_20_method_12_code (2 : Nat) (Option.some Jvm.ClassFile.FieldType.boolean)) ∈ lw_all := lw_g (lw_at lw_m8 128 rfl) rfl
theorem q1944 : (Jvm.Cond.instanceMethod ({ cls := "SownByArgumentModel", name := "follows", desc := "(II)Z" } : Jvm.MethodName)) ∈ lw_all := lw_g (lw_at lw_m8 130 rfl) rfl
theorem q1945 : (Jvm.Cond.selects "SownByArgumentModel" ({ cls := "SownByArgumentModel", name := "follows", desc := "(II)Z" } : Jvm.MethodName) ({ cls := "SownByArgumentModel", name := "follows", desc := "(II)Z" } : Jvm.MethodName)) ∈ lw_all := lw_g (lw_at lw_m8 131 rfl) rfl
theorem q1946 : (Jvm.Cond.code ({ cls := "SownByArgumentModel", name := "follows", desc := "(II)Z" } : Jvm.MethodName) prog_20_method_112_code (3 : Nat) (Option.some Jvm.ClassFile.FieldType.boolean)) ∈ lw_all := lw_g (lw_at lw_m8 132 rfl) rfl
theorem q1948 : (Jvm.Cond.instanceMethod ({ cls := "SownByArgumentModel", name := "alike", desc := "(II)Z" } : Jvm.MethodName)) ∈ lw_all := lw_g (lw_at lw_m8 134 rfl) rfl
theorem q1949 : (Jvm.Cond.selects "SownByArgumentModel" ({ cls := "SownByArgumentModel", name := "alike", desc := "(II)Z" } : Jvm.MethodName) ({ cls := "SownByArgumentModel", name := "alike", desc := "(II)Z" } : Jvm.MethodName)) ∈ lw_all := lw_g (lw_at lw_m8 135 rfl) rfl
theorem q1950 : (Jvm.Cond.code ({ cls := "SownByArgumentModel", name := "alike", desc := "(II)Z" } : Jvm.MethodName) prog_20_method_113_code (3 : Nat) (Option.some Jvm.ClassFile.FieldType.boolean)) ∈ lw_all := lw_g (lw_at lw_m8 136 rfl) rfl
theorem q1952 : (Jvm.Cond.instanceMethod ({ cls := "SownByArgumentModel", name := "letters", desc := "(I)I" } : Jvm.MethodName)) ∈ lw_all := lw_g (lw_at lw_m8 138 rfl) rfl
theorem q1953 : (Jvm.Cond.selects "SownByArgumentModel" ({ cls := "SownByArgumentModel", name := "letters", desc := "(I)I" } : Jvm.MethodName) ({ cls := "SownByArgumentModel", name := "letters", desc := "(I)I" } : Jvm.MethodName)) ∈ lw_all := lw_g (lw_at lw_m8 139 rfl) rfl
theorem q1954 : (Jvm.Cond.code ({ cls := "SownByArgumentModel", name := "letters", desc := "(I)I" } : Jvm.MethodName) prog_20_method_114_code (5 : Nat) (Option.some Jvm.ClassFile.FieldType.int)) ∈ lw_all := lw_g (lw_at lw_m8 140 rfl) rfl
theorem q1956 : (Jvm.Cond.instanceMethod ({ cls := "SownByArgumentModel", name := "most", desc := "(Z)I" } : Jvm.MethodName)) ∈ lw_all := lw_g (lw_at lw_m8 142 rfl) rfl
theorem q1957 : (Jvm.Cond.selects "SownByArgumentModel" ({ cls := "SownByArgumentModel", name := "most", desc := "(Z)I" } : Jvm.MethodName) ({ cls := "SownByArgumentModel", name := "most", desc := "(Z)I" } : Jvm.MethodName)) ∈ lw_all := lw_g (lw_at lw_m8 143 rfl) rfl
theorem q1958 : (Jvm.Cond.code ({ cls := "SownByArgumentModel", name := "most", desc := "(Z)I" } : Jvm.MethodName) prog_20_method_115_code (4 : Nat) (Option.some Jvm.ClassFile.FieldType.int)) ∈ lw_all := lw_g (lw_at lw_m8 144 rfl) rfl
theorem q1960 : (Jvm.Cond.instanceMethod ({ cls := "SownByArgumentModel", name := "greatest", desc := "(I)I" } : Jvm.MethodName)) ∈ lw_all := lw_g (lw_at lw_m8 146 rfl) rfl
theorem q1961 : (Jvm.Cond.selects "SownByArgumentModel" ({ cls := "SownByArgumentModel", name := "greatest", desc := "(I)I" } : Jvm.MethodName) ({ cls := "SownByArgumentModel", name := "greatest", desc := "(I)I" } : Jvm.MethodName)) ∈ lw_all := lw_g (lw_at lw_m8 147 rfl) rfl
theorem q1962 : (Jvm.Cond.code ({ cls := "SownByArgumentModel", name := "greatest", desc := "(I)I" } : Jvm.MethodName) prog_20_method_117_code (5 : Nat) (Option.some Jvm.ClassFile.FieldType.int)) ∈ lw_all := lw_g (lw_at lw_m8 148 rfl) rfl
theorem q1963 : (Jvm.Cond.methodLink "SownByArgumentModel" (425 : Nat) ({ cls := "SownByArgumentModel", name := "isGreatest", desc := "(I)Z" } : Jvm.MethodName)) ∈ lw_all := lw_g (lw_at lw_m8 149 rfl) rfl
theorem q1964 : (Jvm.Cond.privateMethod ({ cls := "SownByArgumentModel", name := "isGreatest", desc := "(I)Z" } : Jvm.MethodName)) ∈ lw_tbl := lw_at lw_m8 150 rfl
theorem q1965 : (Jvm.Cond.instanceMethod ({ cls := "SownByArgumentModel", name := "isGreatest", desc := "(I)Z" } : Jvm.MethodName)) ∈ lw_all := lw_g (lw_at lw_m8 151 rfl) rfl
theorem q1966 : (Jvm.Cond.code ({ cls := "SownByArgumentModel", name := "isGreatest", desc := "(I)Z" } : Jvm.MethodName) prog_20_method_116_code (3 : Nat) (Option.some Jvm.ClassFile.FieldType.boolean)) ∈ lw_all := lw_g (lw_at lw_m8 152 rfl) rfl
theorem q1968 : (Jvm.Cond.instanceMethod ({ cls := "SownByArgumentModel", name := "quarrel", desc := "(Z)I" } : Jvm.MethodName)) ∈ lw_all := lw_g (lw_at lw_m8 154 rfl) rfl
theorem q1969 : (Jvm.Cond.selects "SownByArgumentModel" ({ cls := "SownByArgumentModel", name := "quarrel", desc := "(Z)I" } : Jvm.MethodName) ({ cls := "SownByArgumentModel", name := "quarrel", desc := "(Z)I" } : Jvm.MethodName)) ∈ lw_all := lw_g (lw_at lw_m8 155 rfl) rfl
theorem q1970 : (Jvm.Cond.code ({ cls := "SownByArgumentModel", name := "quarrel", desc := "(Z)I" } : Jvm.MethodName) prog_20_method_118_code (4 : Nat) (Option.some Jvm.ClassFile.FieldType.int)) ∈ lw_all := lw_g (lw_at lw_m8 156 rfl) rfl
theorem q1972 : (Jvm.Cond.instanceMethod ({ cls := "SownByArgumentModel", name := "idle", desc := "(I)I" } : Jvm.MethodName)) ∈ lw_all := lw_g (lw_at lw_m8 158 rfl) rfl
theorem q1973 : (Jvm.Cond.selects "SownByArgumentModel" ({ cls := "SownByArgumentModel", name := "idle", desc := "(I)I" } : Jvm.MethodName) ({ cls := "SownByArgumentModel", name := "idle", desc := "(I)I" } : Jvm.MethodName)) ∈ lw_all := lw_g (lw_at lw_m8 159 rfl) rfl
theorem q1974 : (Jvm.Cond.code ({ cls := "SownByArgumentModel", name := "idle", desc := "(I)I" } : Jvm.MethodName) prog_20_method_119_code (4 : Nat) (Option.some Jvm.ClassFile.FieldType.int)) ∈ lw_all := lw_g (lw_at lw_m8 160 rfl) rfl
theorem q1976 : (Jvm.Cond.instanceMethod ({ cls := "SownByArgumentModel", name := "against", desc := "(I)I" } : Jvm.MethodName)) ∈ lw_all := lw_g (lw_at lw_m8 162 rfl) rfl
theorem q1977 : (Jvm.Cond.selects "SownByArgumentModel" ({ cls := "SownByArgumentModel", name := "against", desc := "(I)I" } : Jvm.MethodName) ({ cls := "SownByArgumentModel", name := "against", desc := "(I)I" } : Jvm.MethodName)) ∈ lw_all := lw_g (lw_at lw_m8 163 rfl) rfl
theorem q1978 : (Jvm.Cond.code ({ cls := "SownByArgumentModel", name := "against", desc := "(I)I" } : Jvm.MethodName) prog_20_method_120_code (4 : Nat) (Option.some Jvm.ClassFile.FieldType.int)) ∈ lw_all := lw_g (lw_at lw_m8 164 rfl) rfl
theorem q1980 : (Jvm.Cond.instanceMethod ({ cls := "SownByArgumentModel", name := "certain", desc := "(IZ)I" } : Jvm.MethodName)) ∈ lw_all := lw_g (lw_at lw_m8 166 rfl) rfl
theorem q1981 : (Jvm.Cond.selects "SownByArgumentModel" ({ cls := "SownByArgumentModel", name := "certain", desc := "(IZ)I" } : Jvm.MethodName) ({ cls := "SownByArgumentModel", name := "certain", desc := "(IZ)I" } : Jvm.MethodName)) ∈ lw_all := lw_g (lw_at lw_m8 167 rfl) rfl
theorem q1982 : (Jvm.Cond.code ({ cls := "SownByArgumentModel", name := "certain", desc := "(IZ)I" } : Jvm.MethodName) prog_20_method_121_code (5 : Nat) (Option.some Jvm.ClassFile.FieldType.int)) ∈ lw_all := lw_g (lw_at lw_m8 168 rfl) rfl
theorem q1984 : (Jvm.Cond.instanceMethod ({ cls := "SownByArgumentModel", name := "ask", desc := "(I)I" } : Jvm.MethodName)) ∈ lw_all := lw_g (lw_at lw_m8 170 rfl) rfl
theorem q1985 : (Jvm.Cond.selects "SownByArgumentModel" ({ cls := "SownByArgumentModel", name := "ask", desc := "(I)I" } : Jvm.MethodName) ({ cls := "SownByArgumentModel", name := "ask", desc := "(I)I" } : Jvm.MethodName)) ∈ lw_all := lw_g (lw_at lw_m8 171 rfl) rfl
theorem q1986 : (Jvm.Cond.code ({ cls := "SownByArgumentModel", name := "ask", desc := "(I)I" } : Jvm.MethodName) prog_20_method_122_code (8 : Nat) (Option.some Jvm.ClassFile.FieldType.int)) ∈ lw_all := lw_g (lw_at lw_m8 172 rfl) rfl
theorem q1987 : (Jvm.Cond.constant "SownByArgumentModel" (428 : Nat) (1000000 : Int32)) ∈ lw_all := lw_g (lw_at lw_m8 173 rfl) rfl
theorem q1989 : (Jvm.Cond.instanceMethod ({ cls := "SownByArgumentModel", name := "likely", desc := "(IIZ)I" } : Jvm.MethodName)) ∈ lw_all := lw_g (lw_at lw_m8 175 rfl) rfl
theorem q1990 : (Jvm.Cond.selects "SownByArgumentModel" ({ cls := "SownByArgumentModel", name := "likely", desc := "(IIZ)I" } : Jvm.MethodName) ({ cls := "SownByArgumentModel", name := "likely", desc := "(IIZ)I" } : Jvm.MethodName)) ∈ lw_all := lw_g (lw_at lw_m8 176 rfl) rfl
theorem q1991 : (Jvm.Cond.code ({ cls := "SownByArgumentModel", name := "likely", desc := "(IIZ)I" } : Jvm.MethodName) prog_20_method_124_code (6 : Nat) (Option.some Jvm.ClassFile.FieldType.int)) ∈ lw_all := lw_g (lw_at lw_m8 177 rfl) rfl
theorem q1992 : (Jvm.Cond.methodLink "SownByArgumentModel" (429 : Nat) ({ cls := "SownByArgumentModel", name := "divisor", desc := "(II)I" } : Jvm.MethodName)) ∈ lw_all := lw_g (lw_at lw_m8 178 rfl) rfl
theorem q1993 : (Jvm.Cond.static ({ cls := "SownByArgumentModel", name := "divisor", desc := "(II)I" } : Jvm.MethodName)) ∈ lw_all := lw_g (lw_at lw_m8 179 rfl) rfl
theorem q1994 : (Jvm.Cond.code ({ cls := "SownByArgumentModel", name := "divisor", desc := "(II)I" } : Jvm.MethodName) prog_20_method_123_code (5 : Nat) (Option.some Jvm.ClassFile.FieldType.int)) ∈ lw_all := lw_g (lw_at lw_m8 180 rfl) rfl
theorem q1996 : (Jvm.Cond.instanceMethod ({ cls := "SownByArgumentModel", name := "debate", desc := "(Z)I" } : Jvm.MethodName)) ∈ lw_all := lw_g (lw_at lw_m8 182 rfl) rfl
theorem q1997 : (Jvm.Cond.selects "SownByArgumentModel" ({ cls := "SownByArgumentModel", name := "debate", desc := "(Z)I" } : Jvm.MethodName) ({ cls := "SownByArgumentModel", name := "debate", desc := "(Z)I" } : Jvm.MethodName)) ∈ lw_all := lw_g (lw_at lw_m8 183 rfl) rfl
theorem q1998 : (Jvm.Cond.code ({ cls := "SownByArgumentModel", name := "debate", desc := "(Z)I" } : Jvm.MethodName) prog_20_method_126_code (4 : Nat) (Option.some Jvm.ClassFile.FieldType.int)) ∈ lw_all := lw_g (lw_at lw_m8 184 rfl) rfl
theorem q1999 : (Jvm.Cond.methodLink "SownByArgumentModel" (432 : Nat) ({ cls := "SownByArgumentModel", name := "isWinning", desc := "(II)Z" } : Jvm.MethodName)) ∈ lw_all := lw_g (lw_at lw_m8 185 rfl) rfl
theorem q2000 : (Jvm.Cond.privateMethod ({ cls := "SownByArgumentModel", name := "isWinning", desc := "(II)Z" } : Jvm.MethodName)) ∈ lw_tbl := lw_at lw_m8 186 rfl
theorem q2001 : (Jvm.Cond.instanceMethod ({ cls := "SownByArgumentModel", name := "isWinning", desc := "(II)Z" } : Jvm.MethodName)) ∈ lw_all := lw_g (lw_at lw_m8 187 rfl) rfl
theorem q2002 : (Jvm.Cond.code ({ cls := "SownByArgumentModel", name := "isWinning", desc := "(II)Z" } : Jvm.MethodName) prog_20_method_125_code (3 : Nat) (Option.some Jvm.ClassFile.FieldType.boolean)) ∈ lw_all := lw_g (lw_at lw_m8 188 rfl) rfl
theorem q2004 : (Jvm.Cond.instanceMethod ({ cls := "SownByArgumentModel", name := "choose", desc := "(II)I" } : Jvm.MethodName)) ∈ lw_all := lw_g (lw_at lw_m8 190 rfl) rfl
theorem q2005 : (Jvm.Cond.selects "SownByArgumentModel" ({ cls := "SownByArgumentModel", name := "choose", desc := "(II)I" } : Jvm.MethodName) ({ cls := "SownByArgumentModel", name := "choose", desc := "(II)I" } : Jvm.MethodName)) ∈ lw_all := lw_g (lw_at lw_m8 191 rfl) rfl
theorem q2006 : (Jvm.Cond.code ({ cls := "SownByArgumentModel", name := "choose", desc := "(II)I" } : Jvm.MethodName) prog_20_method_130_code (3 : Nat) (Option.some Jvm.ClassFile.FieldType.int)) ∈ lw_all := lw_g (lw_at lw_m8 192 rfl) rfl
theorem q2007 : (Jvm.Cond.methodLink "SownByArgumentModel" (439 : Nat) ({ cls := "SownByArgumentModel", name := "isOrder", desc := "(I)Z" } : Jvm.MethodName)) ∈ lw_all := lw_g (lw_at lw_m8 193 rfl) rfl
theorem q2008 : (Jvm.Cond.static ({ cls := "SownByArgumentModel", name := "isOrder", desc := "(I)Z" } : Jvm.MethodName)) ∈ lw_all := lw_g (lw_at lw_m8 194 rfl) rfl
theorem q2009 : (Jvm.Cond.code ({ cls := "SownByArgumentModel", name := "isOrder", desc := "(I)Z" } : Jvm.MethodName) prog_20_method_128_code (3 : Nat) (Option.some Jvm.ClassFile.FieldType.boolean)) ∈ lw_all := lw_g (lw_at lw_m8 195 rfl) rfl
theorem q2010 : (Jvm.Cond.constant "SownByArgumentModel" (435 : Nat) (43210 : Int32)) ∈ lw_all := lw_g (lw_at lw_m8 196 rfl) rfl
theorem q2011 : (Jvm.Cond.methodLink "SownByArgumentModel" (436 : Nat) ({ cls := "SownByArgumentModel", name := "digitOf", desc := "(II)I" } : Jvm.MethodName)) ∈ lw_all := lw_g (lw_at lw_m8 197 rfl) rfl
theorem q2012 : (Jvm.Cond.static ({ cls := "SownByArgumentModel", name := "digitOf", desc := "(II)I" } : Jvm.MethodName)) ∈ lw_all := lw_g (lw_at lw_m8 198 rfl) rfl
theorem q2013 : (Jvm.Cond.code ({ cls := "SownByArgumentModel", name := "digitOf", desc := "(II)I" } : Jvm.MethodName) prog_20_method_127_code (4 : Nat) (Option.some Jvm.ClassFile.FieldType.int)) ∈ lw_all := lw_g (lw_at lw_m8 199 rfl) rfl
theorem q2014 : (Jvm.Cond.methodLink "SownByArgumentModel" (442 : Nat) ({ cls := "SownByArgumentModel", name := "layChosen", desc := "(I)I" } : Jvm.MethodName)) ∈ lw_all := lw_g (lw_at lw_m8 200 rfl) rfl
theorem q2015 : (Jvm.Cond.privateMethod ({ cls := "SownByArgumentModel", name := "layChosen", desc := "(I)I" } : Jvm.MethodName)) ∈ lw_tbl := lw_at lw_m8 201 rfl
theorem q2016 : (Jvm.Cond.instanceMethod ({ cls := "SownByArgumentModel", name := "layChosen", desc := "(I)I" } : Jvm.MethodName)) ∈ lw_all := lw_g (lw_at lw_m8 202 rfl) rfl
theorem q2017 : (Jvm.Cond.code ({ cls := "SownByArgumentModel", name := "layChosen", desc := "(I)I" } : Jvm.MethodName) prog_20_method_129_code (8 : Nat) (Option.some Jvm.ClassFile.FieldType.int)) ∈ lw_all := lw_g (lw_at lw_m8 203 rfl) rfl
theorem q2019 : (Jvm.Cond.instanceMethod ({ cls := "SownByArgumentModel", name := "best", desc := "(Z)I" } : Jvm.MethodName)) ∈ lw_all := lw_g (lw_at lw_m8 205 rfl) rfl
theorem q2020 : (Jvm.Cond.selects "SownByArgumentModel" ({ cls := "SownByArgumentModel", name := "best", desc := "(Z)I" } : Jvm.MethodName) ({ cls := "SownByArgumentModel", name := "best", desc := "(Z)I" } : Jvm.MethodName)) ∈ lw_all := lw_g (lw_at lw_m8 206 rfl) rfl
theorem q2021 : (Jvm.Cond.code ({ cls := "SownByArgumentModel", name := "best", desc := "(Z)I" } : Jvm.MethodName) prog_20_method_131_code (6 : Nat) (Option.some Jvm.ClassFile.FieldType.int)) ∈ lw_all := lw_g (lw_at lw_m8 207 rfl) rfl
theorem q2023 : (Jvm.Cond.instanceMethod ({ cls := "SownByArgumentModel", name := "trade", desc := "(I)I" } : Jvm.MethodName)) ∈ lw_all := lw_g (lw_at lw_m8 209 rfl) rfl
theorem q2024 : (Jvm.Cond.selects "SownByArgumentModel" ({ cls := "SownByArgumentModel", name := "trade", desc := "(I)I" } : Jvm.MethodName) ({ cls := "SownByArgumentModel", name := "trade", desc := "(I)I" } : Jvm.MethodName)) ∈ lw_all := lw_g (lw_at lw_m8 210 rfl) rfl
theorem q2025 : (Jvm.Cond.code ({ cls := "SownByArgumentModel", name := "trade", desc := "(I)I" } : Jvm.MethodName) prog_20_method_135_code (2 : Nat) (Option.some Jvm.ClassFile.FieldType.int)) ∈ lw_all := lw_g (lw_at lw_m8 211 rfl) rfl
theorem q2026 : (Jvm.Cond.methodLink "SownByArgumentModel" (451 : Nat) ({ cls := "SownByArgumentModel", name := "layTraded", desc := "()I" } : Jvm.MethodName)) ∈ lw_all := lw_g (lw_at lw_m8 212 rfl) rfl
theorem q2027 : (Jvm.Cond.privateMethod ({ cls := "SownByArgumentModel", name := "layTraded", desc := "()I" } : Jvm.MethodName)) ∈ lw_tbl := lw_at lw_m8 213 rfl
theorem q2028 : (Jvm.Cond.instanceMethod ({ cls := "SownByArgumentModel", name := "layTraded", desc := "()I" } : Jvm.MethodName)) ∈ lw_all := lw_g (lw_at lw_m8 214 rfl) rfl
theorem q2029 : (Jvm.Cond.code ({ cls := "SownByArgumentModel", name := "layTraded", desc := "()I" } : Jvm.MethodName) prog_20_method_134_code (5 : Nat) (Option.some Jvm.ClassFile.FieldType.int)) ∈ lw_all := lw_g (lw_at lw_m8 215 rfl) rfl
theorem q2030 : (Jvm.Cond.methodLink "SownByArgumentModel" (445 : Nat) ({ cls := "SownByArgumentModel", name := "layPoints", desc := "(I)V" } : Jvm.MethodName)) ∈ lw_all := lw_g (lw_at lw_m8 216 rfl) rfl
theorem q2031 : (Jvm.Cond.privateMethod ({ cls := "SownByArgumentModel", name := "layPoints", desc := "(I)V" } : Jvm.MethodName)) ∈ lw_tbl := lw_at lw_m8 217 rfl
theorem q2032 : (Jvm.Cond.instanceMethod ({ cls := "SownByArgumentModel", name := "layPoints", desc := "(I)V" } : Jvm.MethodName)) ∈ lw_all := lw_g (lw_at lw_m8 218 rfl) rfl
theorem q2033 : (Jvm.Cond.code ({ cls := "SownByArgumentModel", name := "layPoints", desc := "(I)V" } : Jvm.MethodName) prog_20_method_132_code (4 : Nat) (Option.none : Option Jvm.ClassFile.FieldType)) ∈ lw_all := lw_g (lw_at lw_m8 219 rfl) rfl
theorem q2034 : (Jvm.Cond.methodLink "SownByArgumentModel" (448 : Nat) ({ cls := "SownByArgumentModel", name := "ringOf", desc := "(I)I" } : Jvm.MethodName)) ∈ lw_all := lw_g (lw_at lw_m8 220 rfl) rfl
theorem q2035 : (Jvm.Cond.privateMethod ({ cls := "SownByArgumentModel", name := "ringOf", desc := "(I)I" } : Jvm.MethodName)) ∈ lw_tbl := lw_at lw_m8 221 rfl
theorem q2036 : (Jvm.Cond.instanceMethod ({ cls := "SownByArgumentModel", name := "ringOf", desc := "(I)I" } : Jvm.MethodName)) ∈ lw_all := lw_g (lw_at lw_m8 222 rfl) rfl
theorem q2037 : (Jvm.Cond.code ({ cls := "SownByArgumentModel", name := "ringOf", desc := "(I)I" } : Jvm.MethodName) prog_20_method_133_code (5 : Nat) (Option.some Jvm.ClassFile.FieldType.int)) ∈ lw_all := lw_g (lw_at lw_m8 223 rfl) rfl
theorem q2039 : (Jvm.Cond.instanceMethod ({ cls := "SownByArgumentModel", name := "rings", desc := "()I" } : Jvm.MethodName)) ∈ lw_all := lw_g (lw_at lw_m8 225 rfl) rfl
theorem q2040 : (Jvm.Cond.selects "SownByArgumentModel" ({ cls := "SownByArgumentModel", name := "rings", desc := "()I" } : Jvm.MethodName) ({ cls := "SownByArgumentModel", name := "rings", desc := "()I" } : Jvm.MethodName)) ∈ lw_all := lw_g (lw_at lw_m8 226 rfl) rfl
theorem q2041 : (Jvm.Cond.code ({ cls := "SownByArgumentModel", name := "rings", desc := "()I" } : Jvm.MethodName) prog_20_method_136_code (1 : Nat) (Option.some Jvm.ClassFile.FieldType.int)) ∈ lw_all := lw_g (lw_at lw_m8 227 rfl) rfl
theorem q2043 : (Jvm.Cond.instanceMethod ({ cls := "SownByArgumentModel", name := "price", desc := "(I)I" } : Jvm.MethodName)) ∈ lw_all := lw_g (lw_at lw_m8 229 rfl) rfl
theorem q2044 : (Jvm.Cond.selects "SownByArgumentModel" ({ cls := "SownByArgumentModel", name := "price", desc := "(I)I" } : Jvm.MethodName) ({ cls := "SownByArgumentModel", name := "price", desc := "(I)I" } : Jvm.MethodName)) ∈ lw_all := lw_g (lw_at lw_m8 230 rfl) rfl
theorem q2045 : (Jvm.Cond.code ({ cls := "SownByArgumentModel", name := "price", desc := "(I)I" } : Jvm.MethodName) prog_20_method_141_code (2 : Nat) (Option.some Jvm.ClassFile.FieldType.int)) ∈ lw_all := lw_g (lw_at lw_m8 231 rfl) rfl
theorem q2046 : (Jvm.Cond.methodLink "SownByArgumentModel" (463 : Nat) ({ cls := "SownByArgumentModel", name := "layPrices", desc := "()V" } : Jvm.MethodName)) ∈ lw_all := lw_g (lw_at lw_m8 232 rfl) rfl
theorem q2047 : (Jvm.Cond.privateMethod ({ cls := "SownByArgumentModel", name := "layPrices", desc := "()V" } : Jvm.MethodName)) ∈ lw_tbl := lw_at lw_m8 233 rfl
theorem q2048 : (Jvm.Cond.instanceMethod ({ cls := "SownByArgumentModel", name := "layPrices", desc := "()V" } : Jvm.MethodName)) ∈ lw_all := lw_g (lw_at lw_m8 234 rfl) rfl
theorem q2049 : (Jvm.Cond.code ({ cls := "SownByArgumentModel", name := "layPrices", desc := "()V" } : Jvm.MethodName) prog_20_method_140_code (3 : Nat) (Option.none : Option Jvm.ClassFile.FieldType)) ∈ lw_all := lw_g (lw_at lw_m8 235 rfl) rfl
theorem q2050 : (Jvm.Cond.methodLink "SownByArgumentModel" (457 : Nat) ({ cls := "SownByArgumentModel", name := "layWould", desc := "()V" } : Jvm.MethodName)) ∈ lw_all := lw_g (lw_at lw_m8 236 rfl) rfl
theorem q2051 : (Jvm.Cond.privateMethod ({ cls := "SownByArgumentModel", name := "layWould", desc := "()V" } : Jvm.MethodName)) ∈ lw_tbl := lw_at lw_m8 237 rfl
theorem q2052 : (Jvm.Cond.instanceMethod ({ cls := "SownByArgumentModel", name := "layWould", desc := "()V" } : Jvm.MethodName)) ∈ lw_all := lw_g (lw_at lw_m8 238 rfl) rfl
theorem q2053 : (Jvm.Cond.code ({ cls := "SownByArgumentModel", name := "layWould", desc := "()V" } : Jvm.MethodName) prog_20_method_137_code (5 : Nat) (Option.none : Option Jvm.ClassFile.FieldType)) ∈ lw_all := lw_g (lw_at lw_m8 239 rfl) rfl
theorem q2054 : (Jvm.Cond.methodLink "SownByArgumentModel" (460 : Nat) ({ cls := "SownByArgumentModel", name := "tooMany", desc := "()I" } : Jvm.MethodName)) ∈ lw_all := lw_g (lw_at lw_m9 0 rfl) rfl
theorem q2055 : (Jvm.Cond.privateMethod ({ cls := "SownByArgumentModel", name := "tooMany", desc := "()I" } : Jvm.MethodName)) ∈ lw_tbl := lw_at lw_m9 1 rfl
theorem q2056 : (Jvm.Cond.instanceMethod ({ cls := "SownByArgumentModel", name := "tooMany", desc := "()I" } : Jvm.MethodName)) ∈ lw_all := lw_g (lw_at lw_m9 2 rfl) rfl
theorem q2057 : (Jvm.Cond.code ({ cls := "SownByArgumentModel", name := "tooMany", desc := "()I" } : Jvm.MethodName) prog_20_method_139_code (3 : Nat) (Option.some Jvm.ClassFile.FieldType.int)) ∈ lw_all := lw_g (lw_at lw_m9 3 rfl) rfl
theorem q2058 : (Jvm.Cond.methodLink "SownByArgumentModel" (454 : Nat) ({ cls := "SownByArgumentModel", name := "isTooMany", desc := "(I)Z" } : Jvm.MethodName)) ∈ lw_all := lw_g (lw_at lw_m9 4 rfl) rfl
theorem q2059 : (Jvm.Cond.privateMethod ({ cls := "SownByArgumentModel", name := "isTooMany", desc := "(I)Z" } : Jvm.MethodName)) ∈ lw_tbl := lw_at lw_m9 5 rfl
theorem q2060 : (Jvm.Cond.instanceMethod ({ cls := "SownByArgumentModel", name := "isTooMany", desc := "(I)Z" } : Jvm.MethodName)) ∈ lw_all := lw_g (lw_at lw_m9 6 rfl) rfl
theorem q2061 : (Jvm.Cond.code ({ cls := "SownByArgumentModel", name := "isTooMany", desc := "(I)Z" } : Jvm.MethodName) prog_20_method_138_code (4 : Nat) (Option.some Jvm.ClassFile.FieldType.boolean)) ∈ lw_all := lw_g (lw_at lw_m9 7 rfl) rfl
theorem q2063 : (Jvm.Cond.instanceMethod ({ cls := "SownByArgumentModel", name := "sold", desc := "(I)I" } : Jvm.MethodName)) ∈ lw_all := lw_g (lw_at lw_m9 9 rfl) rfl
theorem q2064 : (Jvm.Cond.selects "SownByArgumentModel" ({ cls := "SownByArgumentModel", name := "sold", desc := "(I)I" } : Jvm.MethodName) ({ cls := "SownByArgumentModel", name := "sold", desc := "(I)I" } : Jvm.MethodName)) ∈ lw_all := lw_g (lw_at lw_m9 10 rfl) rfl
theorem q2065 : (Jvm.Cond.code ({ cls := "SownByArgumentModel", name := "sold", desc := "(I)I" } : Jvm.MethodName) prog_20_method_145_code (3 : Nat) (Option.some Jvm.ClassFile.FieldType.int)) ∈ lw_all := lw_g (lw_at lw_m9 11 rfl) rfl
theorem q2066 : (Jvm.Cond.methodLink "SownByArgumentModel" (472 : Nat) ({ cls := "SownByArgumentModel", name := "areSold", desc := "(I)Z" } : Jvm.MethodName)) ∈ lw_all := lw_g (lw_at lw_m9 12 rfl) rfl
theorem q2067 : (Jvm.Cond.privateMethod ({ cls := "SownByArgumentModel", name := "areSold", desc := "(I)Z" } : Jvm.MethodName)) ∈ lw_tbl := lw_at lw_m9 13 rfl
theorem q2068 : (Jvm.Cond.instanceMethod ({ cls := "SownByArgumentModel", name := "areSold", desc := "(I)Z" } : Jvm.MethodName)) ∈ lw_all := lw_g (lw_at lw_m9 14 rfl) rfl
theorem q2069 : (Jvm.Cond.code ({ cls := "SownByArgumentModel", name := "areSold", desc := "(I)Z" } : Jvm.MethodName) prog_20_method_144_code (5 : Nat) (Option.some Jvm.ClassFile.FieldType.boolean)) ∈ lw_all := lw_g (lw_at lw_m9 15 rfl) rfl
theorem q2070 : (Jvm.Cond.methodLink "SownByArgumentModel" (469 : Nat) ({ cls := "SownByArgumentModel", name := "fieldBy", desc := "(II)I" } : Jvm.MethodName)) ∈ lw_all := lw_g (lw_at lw_m9 16 rfl) rfl
theorem q2071 : (Jvm.Cond.static ({ cls := "SownByArgumentModel", name := "fieldBy", desc := "(II)I" } : Jvm.MethodName)) ∈ lw_all := lw_g (lw_at lw_m9 17 rfl) rfl
theorem q2072 : (Jvm.Cond.code ({ cls := "SownByArgumentModel", name := "fieldBy", desc := "(II)I" } : Jvm.MethodName) prog_20_method_142_code (2 : Nat) (Option.some Jvm.ClassFile.FieldType.int)) ∈ lw_all := lw_g (lw_at lw_m9 18 rfl) rfl
theorem q2073 : (Jvm.Cond.methodLink "SownByArgumentModel" (466 : Nat) ({ cls := "SownByArgumentModel", name := "digitBy", desc := "(II)I" } : Jvm.MethodName)) ∈ lw_all := lw_g (lw_at lw_m9 19 rfl) rfl
theorem q2074 : (Jvm.Cond.static ({ cls := "SownByArgumentModel", name := "digitBy", desc := "(II)I" } : Jvm.MethodName)) ∈ lw_all := lw_g (lw_at lw_m9 20 rfl) rfl
theorem q2075 : (Jvm.Cond.code ({ cls := "SownByArgumentModel", name := "digitBy", desc := "(II)I" } : Jvm.MethodName) prog_20_method_143_code (4 : Nat) (Option.some Jvm.ClassFile.FieldType.int)) ∈ lw_all := lw_g (lw_at lw_m9 21 rfl) rfl
theorem q2077 : (Jvm.Cond.instanceMethod ({ cls := "SownByArgumentModel", name := "envy", desc := "()I" } : Jvm.MethodName)) ∈ lw_all := lw_g (lw_at lw_m9 23 rfl) rfl
theorem q2078 : (Jvm.Cond.selects "SownByArgumentModel" ({ cls := "SownByArgumentModel", name := "envy", desc := "()I" } : Jvm.MethodName) ({ cls := "SownByArgumentModel", name := "envy", desc := "()I" } : Jvm.MethodName)) ∈ lw_all := lw_g (lw_at lw_m9 24 rfl) rfl
theorem q2079 : (Jvm.Cond.code ({ cls := "SownByArgumentModel", name := "envy", desc := "()I" } : Jvm.MethodName) prog_20_method_147_code (4 : Nat) (Option.some Jvm.ClassFile.FieldType.int)) ∈ lw_all := lw_g (lw_at lw_m9 25 rfl) rfl
theorem q2080 : (Jvm.Cond.methodLink "SownByArgumentModel" (475 : Nat) ({ cls := "SownByArgumentModel", name := "wantsOwn", desc := "(II)I" } : Jvm.MethodName)) ∈ lw_all := lw_g (lw_at lw_m9 26 rfl) rfl
theorem q2081 : (Jvm.Cond.privateMethod ({ cls := "SownByArgumentModel", name := "wantsOwn", desc := "(II)I" } : Jvm.MethodName)) ∈ lw_tbl := lw_at lw_m9 27 rfl
theorem q2082 : (Jvm.Cond.instanceMethod ({ cls := "SownByArgumentModel", name := "wantsOwn", desc := "(II)I" } : Jvm.MethodName)) ∈ lw_all := lw_g (lw_at lw_m9 28 rfl) rfl
theorem q2083 : (Jvm.Cond.code ({ cls := "SownByArgumentModel", name := "wantsOwn", desc := "(II)I" } : Jvm.MethodName) prog_20_method_146_code (3 : Nat) (Option.some Jvm.ClassFile.FieldType.int)) ∈ lw_all := lw_g (lw_at lw_m9 29 rfl) rfl
theorem q2085 : (Jvm.Cond.instanceMethod ({ cls := "SownByArgumentModel", name := "said", desc := "(III)I" } : Jvm.MethodName)) ∈ lw_all := lw_g (lw_at lw_m9 31 rfl) rfl
theorem q2086 : (Jvm.Cond.selects "SownByArgumentModel" ({ cls := "SownByArgumentModel", name := "said", desc := "(III)I" } : Jvm.MethodName) ({ cls := "SownByArgumentModel", name := "said", desc := "(III)I" } : Jvm.MethodName)) ∈ lw_all := lw_g (lw_at lw_m9 32 rfl) rfl
theorem q2087 : (Jvm.Cond.code ({ cls := "SownByArgumentModel", name := "said", desc := "(III)I" } : Jvm.MethodName) prog_20_method_148_code (5 : Nat) (Option.some Jvm.ClassFile.FieldType.int)) ∈ lw_all := lw_g (lw_at lw_m9 33 rfl) rfl
theorem q2089 : (Jvm.Cond.instanceMethod ({ cls := "SownByArgumentModel", name := "whose", desc := "()I" } : Jvm.MethodName)) ∈ lw_all := lw_g (lw_at lw_m9 35 rfl) rfl
theorem q2090 : (Jvm.Cond.selects "SownByArgumentModel" ({ cls := "SownByArgumentModel", name := "whose", desc := "()I" } : Jvm.MethodName) ({ cls := "SownByArgumentModel", name := "whose", desc := "()I" } : Jvm.MethodName)) ∈ lw_all := lw_g (lw_at lw_m9 36 rfl) rfl
theorem q2091 : (Jvm.Cond.code ({ cls := "SownByArgumentModel", name := "whose", desc := "()I" } : Jvm.MethodName) prog_20_method_149_code (5 : Nat) (Option.some Jvm.ClassFile.FieldType.int)) ∈ lw_all := lw_g (lw_at lw_m9 37 rfl) rfl
theorem q2093 : (Jvm.Cond.instanceMethod ({ cls := "SownByArgumentModel", name := "image", desc := "()I" } : Jvm.MethodName)) ∈ lw_all := lw_g (lw_at lw_m9 39 rfl) rfl
theorem q2094 : (Jvm.Cond.selects "SownByArgumentModel" ({ cls := "SownByArgumentModel", name := "image", desc := "()I" } : Jvm.MethodName) ({ cls := "SownByArgumentModel", name := "image", desc := "()I" } : Jvm.MethodName)) ∈ lw_all := lw_g (lw_at lw_m9 40 rfl) rfl
theorem q2095 : (Jvm.Cond.code ({ cls := "SownByArgumentModel", name := "image", desc := "()I" } : Jvm.MethodName) prog_20_method_150_code (1 : Nat) (Option.some Jvm.ClassFile.FieldType.int)) ∈ lw_all := lw_g (lw_at lw_m9 41 rfl) rfl
theorem q2097 : (Jvm.Cond.instanceMethod ({ cls := "SownByArgumentModel", name := "back", desc := "()I" } : Jvm.MethodName)) ∈ lw_all := lw_g (lw_at lw_m9 43 rfl) rfl
theorem q2098 : (Jvm.Cond.selects "SownByArgumentModel" ({ cls := "SownByArgumentModel", name := "back", desc := "()I" } : Jvm.MethodName) ({ cls := "SownByArgumentModel", name := "back", desc := "()I" } : Jvm.MethodName)) ∈ lw_all := lw_g (lw_at lw_m9 44 rfl) rfl
theorem q2099 : (Jvm.Cond.code ({ cls := "SownByArgumentModel", name := "back", desc := "()I" } : Jvm.MethodName) prog_20_method_151_code (1 : Nat) (Option.some Jvm.ClassFile.FieldType.int)) ∈ lw_all := lw_g (lw_at lw_m9 45 rfl) rfl
theorem q2101 : (Jvm.Cond.instanceMethod ({ cls := "SownByArgumentModel", name := "about", desc := "(I)I" } : Jvm.MethodName)) ∈ lw_all := lw_g (lw_at lw_m9 47 rfl) rfl
theorem q2102 : (Jvm.Cond.selects "SownByArgumentModel" ({ cls := "SownByArgumentModel", name := "about", desc := "(I)I" } : Jvm.MethodName) ({ cls := "SownByArgumentModel", name := "about", desc := "(I)I" } : Jvm.MethodName)) ∈ lw_all := lw_g (lw_at lw_m9 48 rfl) rfl
theorem q2103 : (Jvm.Cond.code ({ cls := "SownByArgumentModel", name := "about", desc := "(I)I" } : Jvm.MethodName) prog_20_method_152_code (2 : Nat) (Option.some Jvm.ClassFile.FieldType.int)) ∈ lw_all := lw_g (lw_at lw_m9 49 rfl) rfl
theorem q2110 : (Jvm.Cond.castable "SownByArgumentModel" "java/lang/Object") ∈ lw_tbl := lw_at lw_m9 56 rfl
theorem in_X2 : ∀ w ∈ wsX20, w ∈ lw_all := lw_in wsX20 [1440, 1442, 1444, 1446, 1448, 1450, 1452, 1454, 1456, 1458, 1460, 1462, 1464, 1466, 1468, 1470, 1472, 1474, 1476, 1478, 1480, 1482, 1484, 1486, 1488, 1490, 1492, 1494, 1496, 1498, 1500, 1502, 1504, 1506, 1508] (by decide +kernel) (by decide +kernel)
