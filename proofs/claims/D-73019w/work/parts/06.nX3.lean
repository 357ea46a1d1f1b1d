/-! SownByArgument$Tokens -/
set_option maxRecDepth 100000
def RX3 : String := "SownByArgument$Tokens"
def TX3 : u_T := fun k => match k with
  | 0 => ("SownByArgument$Tokens", "text", "[B", true)
  | 1 => ("SownByArgument$Tokens", "size", "I", true)
  | 2 => ("SownByArgument$Tokens", "at", "I", false)
  | 3 => ("SownByArgument$Tokens", "token", "I", false)
  | 4 => ("SownByArgument$Tokens", "sort", "I", false)
  | 5 => ("SownByArgument$Tokens", "number", "I", false)
  | 6 => ("SownByArgument$Tokens", "open", "I", false)
  | _ => ("SownByArgument$Tokens", "kind", "I", false)
def tyX3 : Nat → FieldType := fun k => match k with
  | 0 => .array .byte
  | 1 => .int
  | 2 => .int
  | 3 => .int
  | 4 => .int
  | 5 => .int
  | 6 => .int
  | _ => .int
abbrev wsX30 : List Cond := u_ws RX3 TX3 8
theorem nmX3 : ∀ a, a < 8 → ∀ b, b < 8 → a ≠ b → (TX3 a).2.1 ≠ (TX3 b).2.1 := by decide +kernel
theorem tyX3_ok : ∀ k, k < 8 → parseFieldDescriptor (TX3 k).2.2.1 = some (tyX3 k) := by decide +kernel
abbrev cX3_init : ByteArray := prog_17_method_1_code
def yX3_init : MethodName := ⟨RX3, "<init>", "([BI)V"⟩
def dkwX3_init_0 : List UInt8 := [42, 183, 0, 3, 42, 43, 181, 0, 9, 42, 28, 181, 0, 15, 177]
abbrev dktX3_init_0 : List UInt8 := dkwX3_init_0 ++ []
theorem dksX3_init_0 : cX3_init.data.toList.drop 0 = dktX3_init_0 := by decide +kernel
theorem dX3_init_0 : decode cX3_init 0 = .ok (.aload_n 0, 1) := dk_42 (dk_at dksX3_init_0 0 rfl rfl)
theorem dX3_init_1 : decode cX3_init 1 = .ok (.invokespecial 3, 3) := dk_183 0 3 (dk_at dksX3_init_0 1 rfl rfl)
theorem dX3_init_4 : decode cX3_init 4 = .ok (.aload_n 0, 1) := dk_42 (dk_at dksX3_init_0 4 rfl rfl)
theorem dX3_init_5 : decode cX3_init 5 = .ok (.aload_n 1, 1) := dk_43 (dk_at dksX3_init_0 5 rfl rfl)
theorem dX3_init_6 : decode cX3_init 6 = .ok (.putfield 9, 3) := dk_181 0 9 (dk_at dksX3_init_0 6 rfl rfl)
theorem dX3_init_9 : decode cX3_init 9 = .ok (.aload_n 0, 1) := dk_42 (dk_at dksX3_init_0 9 rfl rfl)
theorem dX3_init_10 : decode cX3_init 10 = .ok (.iload_n 2, 1) := dk_28 (dk_at dksX3_init_0 10 rfl rfl)
theorem dX3_init_11 : decode cX3_init 11 = .ok (.putfield 15, 3) := dk_181 0 15 (dk_at dksX3_init_0 11 rfl rfl)
theorem dX3_init_14 : decode cX3_init 14 = .ok (.return_, 1) := dk_177 (dk_at dksX3_init_0 14 rfl rfl)
abbrev cX3_read : ByteArray := prog_17_method_10_code
def yX3_read : MethodName := ⟨RX3, "read", "()LSownByArgument$Text;"⟩
def dkwX3_read_8 : List UInt8 := [182, 0, 121, 43, 89, 180, 0, 90, 4, 96, 181, 0, 90, 167, 255, 69, 43, 176]
abbrev dktX3_read_8 : List UInt8 := dkwX3_read_8 ++ []
def dkwX3_read_7 : List UInt8 := [167, 0, 19, 43, 180, 0, 107, 42, 43, 180, 0, 90, 182, 0, 111, 182, 0, 115, 87, 42, 16, 59]
abbrev dktX3_read_7 : List UInt8 := dkwX3_read_7 ++ dktX3_read_8
def dkwX3_read_6 : List UInt8 := [184, 0, 100, 167, 0, 40, 42, 180, 0, 83, 17, 0, 201, 160, 0, 14, 43, 42, 182, 0, 103, 181, 0, 86]
abbrev dktX3_read_6 : List UInt8 := dkwX3_read_6 ++ dktX3_read_7
def dkwX3_read_5 : List UInt8 := [182, 0, 70, 191, 42, 182, 0, 74, 42, 180, 0, 83, 17, 0, 200, 160, 0, 14, 43, 42, 182, 0, 96]
abbrev dktX3_read_5 : List UInt8 := dkwX3_read_5 ++ dktX3_read_6
def dkwX3_read_4 : List UInt8 := [191, 42, 180, 0, 83, 17, 0, 200, 160, 0, 19, 43, 180, 0, 93, 16, 8, 160, 0, 10, 42, 16, 7]
abbrev dktX3_read_4 : List UInt8 := dkwX3_read_4 ++ dktX3_read_5
def dkwX3_read_3 : List UInt8 := [198, 0, 9, 42, 7, 182, 0, 70, 191, 43, 180, 0, 90, 16, 24, 160, 0, 10, 42, 16, 6, 182, 0, 70]
abbrev dktX3_read_3 : List UInt8 := dkwX3_read_3 ++ dktX3_read_4
def dkwX3_read_2 : List UInt8 := [191, 42, 42, 180, 0, 25, 181, 0, 83, 42, 180, 0, 83, 17, 0, 201, 160, 0, 16, 43, 180, 0, 86]
abbrev dktX3_read_2 : List UInt8 := dkwX3_read_2 ++ dktX3_read_3
def dkwX3_read_1 : List UInt8 := [180, 0, 25, 17, 0, 200, 161, 0, 13, 42, 180, 0, 25, 17, 0, 208, 164, 0, 9, 42, 4, 182, 0, 70]
abbrev dktX3_read_1 : List UInt8 := dkwX3_read_1 ++ dktX3_read_2
def dkwX3_read_0 : List UInt8 := [187, 0, 80, 89, 183, 0, 82, 76, 42, 182, 0, 74, 42, 180, 0, 25, 17, 1, 45, 159, 0, 183, 42]
abbrev dktX3_read_0 : List UInt8 := dkwX3_read_0 ++ dktX3_read_1
theorem dksX3_read_0 : cX3_read.data.toList.drop 0 = dktX3_read_0 := by decide +kernel
theorem dksX3_read_1 : cX3_read.data.toList.drop 23 = dktX3_read_1 := dk_seg dksX3_read_0 23 rfl rfl
theorem dksX3_read_2 : cX3_read.data.toList.drop 47 = dktX3_read_2 := dk_seg dksX3_read_1 24 rfl rfl
theorem dksX3_read_3 : cX3_read.data.toList.drop 70 = dktX3_read_3 := dk_seg dksX3_read_2 23 rfl rfl
theorem dksX3_read_4 : cX3_read.data.toList.drop 94 = dktX3_read_4 := dk_seg dksX3_read_3 24 rfl rfl
theorem dksX3_read_5 : cX3_read.data.toList.drop 117 = dktX3_read_5 := dk_seg dksX3_read_4 23 rfl rfl
theorem dksX3_read_6 : cX3_read.data.toList.drop 140 = dktX3_read_6 := dk_seg dksX3_read_5 23 rfl rfl
theorem dksX3_read_7 : cX3_read.data.toList.drop 164 = dktX3_read_7 := dk_seg dksX3_read_6 24 rfl rfl
theorem dksX3_read_8 : cX3_read.data.toList.drop 186 = dktX3_read_8 := dk_seg dksX3_read_7 22 rfl rfl
theorem dX3_read_0 : decode cX3_read 0 = .ok (.new 80, 3) := dk_187 0 80 (dk_at dksX3_read_0 0 rfl rfl)
theorem dX3_read_3 : decode cX3_read 3 = .ok (.dup, 1) := dk_89 (dk_at dksX3_read_0 3 rfl rfl)
theorem dX3_read_4 : decode cX3_read 4 = .ok (.invokespecial 82, 3) := dk_183 0 82 (dk_at dksX3_read_0 4 rfl rfl)
theorem dX3_read_7 : decode cX3_read 7 = .ok (.astore_n 1, 1) := dk_76 (dk_at dksX3_read_0 7 rfl rfl)
theorem dX3_read_8 : decode cX3_read 8 = .ok (.aload_n 0, 1) := dk_42 (dk_at dksX3_read_0 8 rfl rfl)
theorem dX3_read_9 : decode cX3_read 9 = .ok (.invokevirtual 74, 3) := dk_182 0 74 (dk_at dksX3_read_0 9 rfl rfl)
theorem dX3_read_12 : decode cX3_read 12 = .ok (.aload_n 0, 1) := dk_42 (dk_at dksX3_read_0 12 rfl rfl)
theorem dX3_read_13 : decode cX3_read 13 = .ok (.getfield 25, 3) := dk_180 0 25 (dk_at dksX3_read_0 13 rfl rfl)
theorem dX3_read_16 : decode cX3_read 16 = .ok (.sipush 301, 3) := dk_17 1 45 (dk_at dksX3_read_0 16 rfl rfl)
theorem dX3_read_19 : decode cX3_read 19 = .ok (.if_icmp .eq 183, 3) := dk_159 0 183 (dk_at dksX3_read_0 19 rfl rfl)
theorem dX3_read_22 : decode cX3_read 22 = .ok (.aload_n 0, 1) := dk_42 (dk_at dksX3_read_0 22 rfl rfl)
theorem dX3_read_23 : decode cX3_read 23 = .ok (.getfield 25, 3) := dk_180 0 25 (dk_at dksX3_read_1 0 rfl rfl)
theorem dX3_read_26 : decode cX3_read 26 = .ok (.sipush 200, 3) := dk_17 0 200 (dk_at dksX3_read_1 3 rfl rfl)
theorem dX3_read_29 : decode cX3_read 29 = .ok (.if_icmp .lt 13, 3) := dk_161 0 13 (dk_at dksX3_read_1 6 rfl rfl)
theorem dX3_read_32 : decode cX3_read 32 = .ok (.aload_n 0, 1) := dk_42 (dk_at dksX3_read_1 9 rfl rfl)
theorem dX3_read_33 : decode cX3_read 33 = .ok (.getfield 25, 3) := dk_180 0 25 (dk_at dksX3_read_1 10 rfl rfl)
theorem dX3_read_36 : decode cX3_read 36 = .ok (.sipush 208, 3) := dk_17 0 208 (dk_at dksX3_read_1 13 rfl rfl)
theorem dX3_read_39 : decode cX3_read 39 = .ok (.if_icmp .le 9, 3) := dk_164 0 9 (dk_at dksX3_read_1 16 rfl rfl)
theorem dX3_read_42 : decode cX3_read 42 = .ok (.aload_n 0, 1) := dk_42 (dk_at dksX3_read_1 19 rfl rfl)
theorem dX3_read_43 : decode cX3_read 43 = .ok (.iconst 1, 1) := dk_4 (dk_at dksX3_read_1 20 rfl rfl)
theorem dX3_read_44 : decode cX3_read 44 = .ok (.invokevirtual 70, 3) := dk_182 0 70 (dk_at dksX3_read_1 21 rfl rfl)
theorem dX3_read_47 : decode cX3_read 47 = .ok (.athrow, 1) := dk_191 (dk_at dksX3_read_2 0 rfl rfl)
theorem dX3_read_48 : decode cX3_read 48 = .ok (.aload_n 0, 1) := dk_42 (dk_at dksX3_read_2 1 rfl rfl)
theorem dX3_read_49 : decode cX3_read 49 = .ok (.aload_n 0, 1) := dk_42 (dk_at dksX3_read_2 2 rfl rfl)
theorem dX3_read_50 : decode cX3_read 50 = .ok (.getfield 25, 3) := dk_180 0 25 (dk_at dksX3_read_2 3 rfl rfl)
theorem dX3_read_53 : decode cX3_read 53 = .ok (.putfield 83, 3) := dk_181 0 83 (dk_at dksX3_read_2 6 rfl rfl)
theorem dX3_read_56 : decode cX3_read 56 = .ok (.aload_n 0, 1) := dk_42 (dk_at dksX3_read_2 9 rfl rfl)
theorem dX3_read_57 : decode cX3_read 57 = .ok (.getfield 83, 3) := dk_180 0 83 (dk_at dksX3_read_2 10 rfl rfl)
theorem dX3_read_60 : decode cX3_read 60 = .ok (.sipush 201, 3) := dk_17 0 201 (dk_at dksX3_read_2 13 rfl rfl)
theorem dX3_read_63 : decode cX3_read 63 = .ok (.if_icmp .ne 16, 3) := dk_160 0 16 (dk_at dksX3_read_2 16 rfl rfl)
theorem dX3_read_66 : decode cX3_read 66 = .ok (.aload_n 1, 1) := dk_43 (dk_at dksX3_read_2 19 rfl rfl)
theorem dX3_read_67 : decode cX3_read 67 = .ok (.getfield 86, 3) := dk_180 0 86 (dk_at dksX3_read_2 20 rfl rfl)
theorem dX3_read_70 : decode cX3_read 70 = .ok (.ifnull 9, 3) := dk_198 0 9 (dk_at dksX3_read_3 0 rfl rfl)
theorem dX3_read_73 : decode cX3_read 73 = .ok (.aload_n 0, 1) := dk_42 (dk_at dksX3_read_3 3 rfl rfl)
theorem dX3_read_74 : decode cX3_read 74 = .ok (.iconst 4, 1) := dk_7 (dk_at dksX3_read_3 4 rfl rfl)
theorem dX3_read_75 : decode cX3_read 75 = .ok (.invokevirtual 70, 3) := dk_182 0 70 (dk_at dksX3_read_3 5 rfl rfl)
theorem dX3_read_78 : decode cX3_read 78 = .ok (.athrow, 1) := dk_191 (dk_at dksX3_read_3 8 rfl rfl)
theorem dX3_read_79 : decode cX3_read 79 = .ok (.aload_n 1, 1) := dk_43 (dk_at dksX3_read_3 9 rfl rfl)
theorem dX3_read_80 : decode cX3_read 80 = .ok (.getfield 90, 3) := dk_180 0 90 (dk_at dksX3_read_3 10 rfl rfl)
theorem dX3_read_83 : decode cX3_read 83 = .ok (.bipush 24, 2) := dk_16 24 (dk_at dksX3_read_3 13 rfl rfl)
theorem dX3_read_85 : decode cX3_read 85 = .ok (.if_icmp .ne 10, 3) := dk_160 0 10 (dk_at dksX3_read_3 15 rfl rfl)
theorem dX3_read_88 : decode cX3_read 88 = .ok (.aload_n 0, 1) := dk_42 (dk_at dksX3_read_3 18 rfl rfl)
theorem dX3_read_89 : decode cX3_read 89 = .ok (.bipush 6, 2) := dk_16 6 (dk_at dksX3_read_3 19 rfl rfl)
theorem dX3_read_91 : decode cX3_read 91 = .ok (.invokevirtual 70, 3) := dk_182 0 70 (dk_at dksX3_read_3 21 rfl rfl)
theorem dX3_read_94 : decode cX3_read 94 = .ok (.athrow, 1) := dk_191 (dk_at dksX3_read_4 0 rfl rfl)
theorem dX3_read_95 : decode cX3_read 95 = .ok (.aload_n 0, 1) := dk_42 (dk_at dksX3_read_4 1 rfl rfl)
theorem dX3_read_96 : decode cX3_read 96 = .ok (.getfield 83, 3) := dk_180 0 83 (dk_at dksX3_read_4 2 rfl rfl)
theorem dX3_read_99 : decode cX3_read 99 = .ok (.sipush 200, 3) := dk_17 0 200 (dk_at dksX3_read_4 5 rfl rfl)
theorem dX3_read_102 : decode cX3_read 102 = .ok (.if_icmp .ne 19, 3) := dk_160 0 19 (dk_at dksX3_read_4 8 rfl rfl)
theorem dX3_read_105 : decode cX3_read 105 = .ok (.aload_n 1, 1) := dk_43 (dk_at dksX3_read_4 11 rfl rfl)
theorem dX3_read_106 : decode cX3_read 106 = .ok (.getfield 93, 3) := dk_180 0 93 (dk_at dksX3_read_4 12 rfl rfl)
theorem dX3_read_109 : decode cX3_read 109 = .ok (.bipush 8, 2) := dk_16 8 (dk_at dksX3_read_4 15 rfl rfl)
theorem dX3_read_111 : decode cX3_read 111 = .ok (.if_icmp .ne 10, 3) := dk_160 0 10 (dk_at dksX3_read_4 17 rfl rfl)
theorem dX3_read_114 : decode cX3_read 114 = .ok (.aload_n 0, 1) := dk_42 (dk_at dksX3_read_4 20 rfl rfl)
theorem dX3_read_115 : decode cX3_read 115 = .ok (.bipush 7, 2) := dk_16 7 (dk_at dksX3_read_4 21 rfl rfl)
theorem dX3_read_117 : decode cX3_read 117 = .ok (.invokevirtual 70, 3) := dk_182 0 70 (dk_at dksX3_read_5 0 rfl rfl)
theorem dX3_read_120 : decode cX3_read 120 = .ok (.athrow, 1) := dk_191 (dk_at dksX3_read_5 3 rfl rfl)
theorem dX3_read_121 : decode cX3_read 121 = .ok (.aload_n 0, 1) := dk_42 (dk_at dksX3_read_5 4 rfl rfl)
theorem dX3_read_122 : decode cX3_read 122 = .ok (.invokevirtual 74, 3) := dk_182 0 74 (dk_at dksX3_read_5 5 rfl rfl)
theorem dX3_read_125 : decode cX3_read 125 = .ok (.aload_n 0, 1) := dk_42 (dk_at dksX3_read_5 8 rfl rfl)
theorem dX3_read_126 : decode cX3_read 126 = .ok (.getfield 83, 3) := dk_180 0 83 (dk_at dksX3_read_5 9 rfl rfl)
theorem dX3_read_129 : decode cX3_read 129 = .ok (.sipush 200, 3) := dk_17 0 200 (dk_at dksX3_read_5 12 rfl rfl)
theorem dX3_read_132 : decode cX3_read 132 = .ok (.if_icmp .ne 14, 3) := dk_160 0 14 (dk_at dksX3_read_5 15 rfl rfl)
theorem dX3_read_135 : decode cX3_read 135 = .ok (.aload_n 1, 1) := dk_43 (dk_at dksX3_read_5 18 rfl rfl)
theorem dX3_read_136 : decode cX3_read 136 = .ok (.aload_n 0, 1) := dk_42 (dk_at dksX3_read_5 19 rfl rfl)
theorem dX3_read_137 : decode cX3_read 137 = .ok (.invokevirtual 96, 3) := dk_182 0 96 (dk_at dksX3_read_5 20 rfl rfl)
theorem dX3_read_140 : decode cX3_read 140 = .ok (.invokestatic 100, 3) := dk_184 0 100 (dk_at dksX3_read_6 0 rfl rfl)
theorem dX3_read_143 : decode cX3_read 143 = .ok (.goto 40, 3) := dk_167 0 40 (dk_at dksX3_read_6 3 rfl rfl)
theorem dX3_read_146 : decode cX3_read 146 = .ok (.aload_n 0, 1) := dk_42 (dk_at dksX3_read_6 6 rfl rfl)
theorem dX3_read_147 : decode cX3_read 147 = .ok (.getfield 83, 3) := dk_180 0 83 (dk_at dksX3_read_6 7 rfl rfl)
theorem dX3_read_150 : decode cX3_read 150 = .ok (.sipush 201, 3) := dk_17 0 201 (dk_at dksX3_read_6 10 rfl rfl)
theorem dX3_read_153 : decode cX3_read 153 = .ok (.if_icmp .ne 14, 3) := dk_160 0 14 (dk_at dksX3_read_6 13 rfl rfl)
theorem dX3_read_156 : decode cX3_read 156 = .ok (.aload_n 1, 1) := dk_43 (dk_at dksX3_read_6 16 rfl rfl)
theorem dX3_read_157 : decode cX3_read 157 = .ok (.aload_n 0, 1) := dk_42 (dk_at dksX3_read_6 17 rfl rfl)
theorem dX3_read_158 : decode cX3_read 158 = .ok (.invokevirtual 103, 3) := dk_182 0 103 (dk_at dksX3_read_6 18 rfl rfl)
theorem dX3_read_161 : decode cX3_read 161 = .ok (.putfield 86, 3) := dk_181 0 86 (dk_at dksX3_read_6 21 rfl rfl)
theorem dX3_read_164 : decode cX3_read 164 = .ok (.goto 19, 3) := dk_167 0 19 (dk_at dksX3_read_7 0 rfl rfl)
theorem dX3_read_167 : decode cX3_read 167 = .ok (.aload_n 1, 1) := dk_43 (dk_at dksX3_read_7 3 rfl rfl)
theorem dX3_read_168 : decode cX3_read 168 = .ok (.getfield 107, 3) := dk_180 0 107 (dk_at dksX3_read_7 4 rfl rfl)
theorem dX3_read_171 : decode cX3_read 171 = .ok (.aload_n 0, 1) := dk_42 (dk_at dksX3_read_7 7 rfl rfl)
theorem dX3_read_172 : decode cX3_read 172 = .ok (.aload_n 1, 1) := dk_43 (dk_at dksX3_read_7 8 rfl rfl)
theorem dX3_read_173 : decode cX3_read 173 = .ok (.getfield 90, 3) := dk_180 0 90 (dk_at dksX3_read_7 9 rfl rfl)
theorem dX3_read_176 : decode cX3_read 176 = .ok (.invokevirtual 111, 3) := dk_182 0 111 (dk_at dksX3_read_7 12 rfl rfl)
theorem dX3_read_179 : decode cX3_read 179 = .ok (.invokevirtual 115, 3) := dk_182 0 115 (dk_at dksX3_read_7 15 rfl rfl)
theorem dX3_read_182 : decode cX3_read 182 = .ok (.pop, 1) := dk_87 (dk_at dksX3_read_7 18 rfl rfl)
theorem dX3_read_183 : decode cX3_read 183 = .ok (.aload_n 0, 1) := dk_42 (dk_at dksX3_read_7 19 rfl rfl)
theorem dX3_read_184 : decode cX3_read 184 = .ok (.bipush 59, 2) := dk_16 59 (dk_at dksX3_read_7 20 rfl rfl)
theorem dX3_read_186 : decode cX3_read 186 = .ok (.invokevirtual 121, 3) := dk_182 0 121 (dk_at dksX3_read_8 0 rfl rfl)
theorem dX3_read_189 : decode cX3_read 189 = .ok (.aload_n 1, 1) := dk_43 (dk_at dksX3_read_8 3 rfl rfl)
theorem dX3_read_190 : decode cX3_read 190 = .ok (.dup, 1) := dk_89 (dk_at dksX3_read_8 4 rfl rfl)
theorem dX3_read_191 : decode cX3_read 191 = .ok (.getfield 90, 3) := dk_180 0 90 (dk_at dksX3_read_8 5 rfl rfl)
theorem dX3_read_194 : decode cX3_read 194 = .ok (.iconst 1, 1) := dk_4 (dk_at dksX3_read_8 8 rfl rfl)
theorem dX3_read_195 : decode cX3_read 195 = .ok (.iadd, 1) := dk_96 (dk_at dksX3_read_8 9 rfl rfl)
theorem dX3_read_196 : decode cX3_read 196 = .ok (.putfield 90, 3) := dk_181 0 90 (dk_at dksX3_read_8 10 rfl rfl)
theorem dX3_read_199 : decode cX3_read 199 = .ok (.goto (-187), 3) := dk_167 255 69 (dk_at dksX3_read_8 13 rfl rfl)
theorem dX3_read_202 : decode cX3_read 202 = .ok (.aload_n 1, 1) := dk_43 (dk_at dksX3_read_8 16 rfl rfl)
theorem dX3_read_203 : decode cX3_read 203 = .ok (.areturn, 1) := dk_176 (dk_at dksX3_read_8 17 rfl rfl)
abbrev cX3_next : ByteArray := prog_17_method_4_code
def yX3_next : MethodName := ⟨RX3, "next", "()V"⟩
def dkwX3_next_17 : List UInt8 := [4, 96, 181, 0, 19, 177]
abbrev dktX3_next_17 : List UInt8 := dkwX3_next_17 ++ []
def dkwX3_next_16 : List UInt8 := [42, 27, 16, 60, 160, 0, 9, 17, 1, 47, 167, 0, 6, 17, 1, 48, 181, 0, 25, 42, 89, 180, 0, 19]
abbrev dktX3_next_16 : List UInt8 := dkwX3_next_16 ++ dktX3_next_17
def dkwX3_next_15 : List UInt8 := [180, 0, 19, 42, 180, 0, 15, 162, 0, 46, 42, 180, 0, 9, 42, 180, 0, 19, 51, 16, 61, 160, 0, 32]
abbrev dktX3_next_15 : List UInt8 := dkwX3_next_15 ++ dktX3_next_16
def dkwX3_next_14 : List UInt8 := [42, 27, 181, 0, 25, 132, 2, 1, 167, 255, 229, 27, 16, 60, 159, 0, 9, 27, 16, 62, 160, 0, 57, 42]
abbrev dktX3_next_14 : List UInt8 := dkwX3_next_14 ++ dktX3_next_15
def dkwX3_next_13 : List UInt8 := [181, 0, 25, 3, 61, 28, 18, 53, 182, 0, 55, 162, 0, 24, 18, 53, 28, 182, 0, 61, 27, 160, 0, 8]
abbrev dktX3_next_13 : List UInt8 := dkwX3_next_13 ++ dktX3_next_14
def dkwX3_next_12 : List UInt8 := [42, 180, 0, 9, 42, 180, 0, 19, 51, 60, 42, 89, 180, 0, 19, 4, 96, 181, 0, 19, 42, 17, 1, 46]
abbrev dktX3_next_12 : List UInt8 := dkwX3_next_12 ++ dktX3_next_13
def dkwX3_next_11 : List UInt8 := [51, 96, 16, 48, 100, 184, 0, 47, 181, 0, 43, 42, 89, 180, 0, 19, 4, 96, 181, 0, 19, 167, 255, 191]
abbrev dktX3_next_11 : List UInt8 := dkwX3_next_11 ++ dktX3_next_12
def dkwX3_next_10 : List UInt8 := [184, 0, 40, 153, 0, 170, 42, 18, 46, 16, 10, 42, 180, 0, 43, 104, 42, 180, 0, 9, 42, 180, 0, 19]
abbrev dktX3_next_10 : List UInt8 := dkwX3_next_10 ++ dktX3_next_11
def dkwX3_next_9 : List UInt8 := [181, 0, 43, 42, 180, 0, 19, 42, 180, 0, 15, 162, 0, 185, 42, 180, 0, 9, 42, 180, 0, 19, 51]
abbrev dktX3_next_9 : List UInt8 := dkwX3_next_9 ++ dktX3_next_10
def dkwX3_next_8 : List UInt8 := [42, 180, 0, 9, 42, 180, 0, 19, 51, 184, 0, 40, 153, 0, 83, 42, 17, 1, 44, 181, 0, 25, 42, 3]
abbrev dktX3_next_8 : List UInt8 := dkwX3_next_8 ++ dktX3_next_9
def dkwX3_next_7 : List UInt8 := [182, 0, 36, 153, 0, 12, 42, 17, 0, 200, 27, 96, 181, 0, 25, 132, 1, 1, 167, 255, 224, 167, 0, 223]
abbrev dktX3_next_7 : List UInt8 := dkwX3_next_7 ++ dktX3_next_8
def dkwX3_next_6 : List UInt8 := [17, 1, 46, 181, 0, 25, 3, 60, 27, 178, 0, 32, 190, 162, 0, 30, 42, 178, 0, 32, 27, 50]
abbrev dktX3_next_6 : List UInt8 := dkwX3_next_6 ++ dktX3_next_7
def dkwX3_next_5 : List UInt8 := [180, 0, 19, 51, 184, 0, 28, 153, 0, 16, 42, 89, 180, 0, 19, 4, 96, 181, 0, 19, 167, 255, 220, 42]
abbrev dktX3_next_5 : List UInt8 := dkwX3_next_5 ++ dktX3_next_6
def dkwX3_next_4 : List UInt8 := [184, 0, 28, 153, 0, 89, 42, 180, 0, 19, 42, 180, 0, 15, 162, 0, 31, 42, 180, 0, 9, 42]
abbrev dktX3_next_4 : List UInt8 := dkwX3_next_4 ++ dktX3_next_5
def dkwX3_next_3 : List UInt8 := [160, 0, 13, 42, 17, 1, 45, 181, 0, 25, 167, 1, 68, 42, 180, 0, 9, 42, 180, 0, 19, 51]
abbrev dktX3_next_3 : List UInt8 := dkwX3_next_3 ++ dktX3_next_4
def dkwX3_next_2 : List UInt8 := [181, 0, 19, 167, 255, 207, 42, 42, 180, 0, 19, 181, 0, 22, 42, 180, 0, 19, 42, 180, 0, 15]
abbrev dktX3_next_2 : List UInt8 := dkwX3_next_2 ++ dktX3_next_3
def dkwX3_next_1 : List UInt8 := [159, 0, 17, 42, 180, 0, 9, 42, 180, 0, 19, 51, 16, 10, 160, 0, 16, 42, 89, 180, 0, 19, 4, 96]
abbrev dktX3_next_1 : List UInt8 := dkwX3_next_1 ++ dktX3_next_2
def dkwX3_next_0 : List UInt8 := [42, 180, 0, 19, 42, 180, 0, 15, 162, 0, 44, 42, 180, 0, 9, 42, 180, 0, 19, 51, 16, 32]
abbrev dktX3_next_0 : List UInt8 := dkwX3_next_0 ++ dktX3_next_1
theorem dksX3_next_0 : cX3_next.data.toList.drop 0 = dktX3_next_0 := by decide +kernel
theorem dksX3_next_1 : cX3_next.data.toList.drop 22 = dktX3_next_1 := dk_seg dksX3_next_0 22 rfl rfl
theorem dksX3_next_2 : cX3_next.data.toList.drop 46 = dktX3_next_2 := dk_seg dksX3_next_1 24 rfl rfl
theorem dksX3_next_3 : cX3_next.data.toList.drop 68 = dktX3_next_3 := dk_seg dksX3_next_2 22 rfl rfl
theorem dksX3_next_4 : cX3_next.data.toList.drop 90 = dktX3_next_4 := dk_seg dksX3_next_3 22 rfl rfl
theorem dksX3_next_5 : cX3_next.data.toList.drop 112 = dktX3_next_5 := dk_seg dksX3_next_4 22 rfl rfl
theorem dksX3_next_6 : cX3_next.data.toList.drop 136 = dktX3_next_6 := dk_seg dksX3_next_5 24 rfl rfl
theorem dksX3_next_7 : cX3_next.data.toList.drop 158 = dktX3_next_7 := dk_seg dksX3_next_6 22 rfl rfl
theorem dksX3_next_8 : cX3_next.data.toList.drop 182 = dktX3_next_8 := dk_seg dksX3_next_7 24 rfl rfl
theorem dksX3_next_9 : cX3_next.data.toList.drop 206 = dktX3_next_9 := dk_seg dksX3_next_8 24 rfl rfl
theorem dksX3_next_10 : cX3_next.data.toList.drop 229 = dktX3_next_10 := dk_seg dksX3_next_9 23 rfl rfl
theorem dksX3_next_11 : cX3_next.data.toList.drop 253 = dktX3_next_11 := dk_seg dksX3_next_10 24 rfl rfl
theorem dksX3_next_12 : cX3_next.data.toList.drop 277 = dktX3_next_12 := dk_seg dksX3_next_11 24 rfl rfl
theorem dksX3_next_13 : cX3_next.data.toList.drop 301 = dktX3_next_13 := dk_seg dksX3_next_12 24 rfl rfl
theorem dksX3_next_14 : cX3_next.data.toList.drop 325 = dktX3_next_14 := dk_seg dksX3_next_13 24 rfl rfl
theorem dksX3_next_15 : cX3_next.data.toList.drop 349 = dktX3_next_15 := dk_seg dksX3_next_14 24 rfl rfl
theorem dksX3_next_16 : cX3_next.data.toList.drop 373 = dktX3_next_16 := dk_seg dksX3_next_15 24 rfl rfl
theorem dksX3_next_17 : cX3_next.data.toList.drop 397 = dktX3_next_17 := dk_seg dksX3_next_16 24 rfl rfl
theorem dX3_next_0 : decode cX3_next 0 = .ok (.aload_n 0, 1) := dk_42 (dk_at dksX3_next_0 0 rfl rfl)
theorem dX3_next_1 : decode cX3_next 1 = .ok (.getfield 19, 3) := dk_180 0 19 (dk_at dksX3_next_0 1 rfl rfl)
theorem dX3_next_4 : decode cX3_next 4 = .ok (.aload_n 0, 1) := dk_42 (dk_at dksX3_next_0 4 rfl rfl)
theorem dX3_next_5 : decode cX3_next 5 = .ok (.getfield 15, 3) := dk_180 0 15 (dk_at dksX3_next_0 5 rfl rfl)
theorem dX3_next_8 : decode cX3_next 8 = .ok (.if_icmp .ge 44, 3) := dk_162 0 44 (dk_at dksX3_next_0 8 rfl rfl)
theorem dX3_next_11 : decode cX3_next 11 = .ok (.aload_n 0, 1) := dk_42 (dk_at dksX3_next_0 11 rfl rfl)
theorem dX3_next_12 : decode cX3_next 12 = .ok (.getfield 9, 3) := dk_180 0 9 (dk_at dksX3_next_0 12 rfl rfl)
theorem dX3_next_15 : decode cX3_next 15 = .ok (.aload_n 0, 1) := dk_42 (dk_at dksX3_next_0 15 rfl rfl)
theorem dX3_next_16 : decode cX3_next 16 = .ok (.getfield 19, 3) := dk_180 0 19 (dk_at dksX3_next_0 16 rfl rfl)
theorem dX3_next_19 : decode cX3_next 19 = .ok (.baload, 1) := dk_51 (dk_at dksX3_next_0 19 rfl rfl)
theorem dX3_next_20 : decode cX3_next 20 = .ok (.bipush 32, 2) := dk_16 32 (dk_at dksX3_next_0 20 rfl rfl)
theorem dX3_next_22 : decode cX3_next 22 = .ok (.if_icmp .eq 17, 3) := dk_159 0 17 (dk_at dksX3_next_1 0 rfl rfl)
theorem dX3_next_25 : decode cX3_next 25 = .ok (.aload_n 0, 1) := dk_42 (dk_at dksX3_next_1 3 rfl rfl)
theorem dX3_next_26 : decode cX3_next 26 = .ok (.getfield 9, 3) := dk_180 0 9 (dk_at dksX3_next_1 4 rfl rfl)
theorem dX3_next_29 : decode cX3_next 29 = .ok (.aload_n 0, 1) := dk_42 (dk_at dksX3_next_1 7 rfl rfl)
theorem dX3_next_30 : decode cX3_next 30 = .ok (.getfield 19, 3) := dk_180 0 19 (dk_at dksX3_next_1 8 rfl rfl)
theorem dX3_next_33 : decode cX3_next 33 = .ok (.baload, 1) := dk_51 (dk_at dksX3_next_1 11 rfl rfl)
theorem dX3_next_34 : decode cX3_next 34 = .ok (.bipush 10, 2) := dk_16 10 (dk_at dksX3_next_1 12 rfl rfl)
theorem dX3_next_36 : decode cX3_next 36 = .ok (.if_icmp .ne 16, 3) := dk_160 0 16 (dk_at dksX3_next_1 14 rfl rfl)
theorem dX3_next_39 : decode cX3_next 39 = .ok (.aload_n 0, 1) := dk_42 (dk_at dksX3_next_1 17 rfl rfl)
theorem dX3_next_40 : decode cX3_next 40 = .ok (.dup, 1) := dk_89 (dk_at dksX3_next_1 18 rfl rfl)
theorem dX3_next_41 : decode cX3_next 41 = .ok (.getfield 19, 3) := dk_180 0 19 (dk_at dksX3_next_1 19 rfl rfl)
theorem dX3_next_44 : decode cX3_next 44 = .ok (.iconst 1, 1) := dk_4 (dk_at dksX3_next_1 22 rfl rfl)
theorem dX3_next_45 : decode cX3_next 45 = .ok (.iadd, 1) := dk_96 (dk_at dksX3_next_1 23 rfl rfl)
theorem dX3_next_46 : decode cX3_next 46 = .ok (.putfield 19, 3) := dk_181 0 19 (dk_at dksX3_next_2 0 rfl rfl)
theorem dX3_next_49 : decode cX3_next 49 = .ok (.goto (-49), 3) := dk_167 255 207 (dk_at dksX3_next_2 3 rfl rfl)
theorem dX3_next_52 : decode cX3_next 52 = .ok (.aload_n 0, 1) := dk_42 (dk_at dksX3_next_2 6 rfl rfl)
theorem dX3_next_53 : decode cX3_next 53 = .ok (.aload_n 0, 1) := dk_42 (dk_at dksX3_next_2 7 rfl rfl)
theorem dX3_next_54 : decode cX3_next 54 = .ok (.getfield 19, 3) := dk_180 0 19 (dk_at dksX3_next_2 8 rfl rfl)
theorem dX3_next_57 : decode cX3_next 57 = .ok (.putfield 22, 3) := dk_181 0 22 (dk_at dksX3_next_2 11 rfl rfl)
theorem dX3_next_60 : decode cX3_next 60 = .ok (.aload_n 0, 1) := dk_42 (dk_at dksX3_next_2 14 rfl rfl)
theorem dX3_next_61 : decode cX3_next 61 = .ok (.getfield 19, 3) := dk_180 0 19 (dk_at dksX3_next_2 15 rfl rfl)
theorem dX3_next_64 : decode cX3_next 64 = .ok (.aload_n 0, 1) := dk_42 (dk_at dksX3_next_2 18 rfl rfl)
theorem dX3_next_65 : decode cX3_next 65 = .ok (.getfield 15, 3) := dk_180 0 15 (dk_at dksX3_next_2 19 rfl rfl)
theorem dX3_next_68 : decode cX3_next 68 = .ok (.if_icmp .ne 13, 3) := dk_160 0 13 (dk_at dksX3_next_3 0 rfl rfl)
theorem dX3_next_71 : decode cX3_next 71 = .ok (.aload_n 0, 1) := dk_42 (dk_at dksX3_next_3 3 rfl rfl)
theorem dX3_next_72 : decode cX3_next 72 = .ok (.sipush 301, 3) := dk_17 1 45 (dk_at dksX3_next_3 4 rfl rfl)
theorem dX3_next_75 : decode cX3_next 75 = .ok (.putfield 25, 3) := dk_181 0 25 (dk_at dksX3_next_3 7 rfl rfl)
theorem dX3_next_78 : decode cX3_next 78 = .ok (.goto 324, 3) := dk_167 1 68 (dk_at dksX3_next_3 10 rfl rfl)
theorem dX3_next_81 : decode cX3_next 81 = .ok (.aload_n 0, 1) := dk_42 (dk_at dksX3_next_3 13 rfl rfl)
theorem dX3_next_82 : decode cX3_next 82 = .ok (.getfield 9, 3) := dk_180 0 9 (dk_at dksX3_next_3 14 rfl rfl)
theorem dX3_next_85 : decode cX3_next 85 = .ok (.aload_n 0, 1) := dk_42 (dk_at dksX3_next_3 17 rfl rfl)
theorem dX3_next_86 : decode cX3_next 86 = .ok (.getfield 19, 3) := dk_180 0 19 (dk_at dksX3_next_3 18 rfl rfl)
theorem dX3_next_89 : decode cX3_next 89 = .ok (.baload, 1) := dk_51 (dk_at dksX3_next_3 21 rfl rfl)
theorem dX3_next_90 : decode cX3_next 90 = .ok (.invokestatic 28, 3) := dk_184 0 28 (dk_at dksX3_next_4 0 rfl rfl)
theorem dX3_next_93 : decode cX3_next 93 = .ok (.ifCond .eq 89, 3) := dk_153 0 89 (dk_at dksX3_next_4 3 rfl rfl)
theorem dX3_next_96 : decode cX3_next 96 = .ok (.aload_n 0, 1) := dk_42 (dk_at dksX3_next_4 6 rfl rfl)
theorem dX3_next_97 : decode cX3_next 97 = .ok (.getfield 19, 3) := dk_180 0 19 (dk_at dksX3_next_4 7 rfl rfl)
theorem dX3_next_100 : decode cX3_next 100 = .ok (.aload_n 0, 1) := dk_42 (dk_at dksX3_next_4 10 rfl rfl)
theorem dX3_next_101 : decode cX3_next 101 = .ok (.getfield 15, 3) := dk_180 0 15 (dk_at dksX3_next_4 11 rfl rfl)
theorem dX3_next_104 : decode cX3_next 104 = .ok (.if_icmp .ge 31, 3) := dk_162 0 31 (dk_at dksX3_next_4 14 rfl rfl)
theorem dX3_next_107 : decode cX3_next 107 = .ok (.aload_n 0, 1) := dk_42 (dk_at dksX3_next_4 17 rfl rfl)
theorem dX3_next_108 : decode cX3_next 108 = .ok (.getfield 9, 3) := dk_180 0 9 (dk_at dksX3_next_4 18 rfl rfl)
theorem dX3_next_111 : decode cX3_next 111 = .ok (.aload_n 0, 1) := dk_42 (dk_at dksX3_next_4 21 rfl rfl)
theorem dX3_next_112 : decode cX3_next 112 = .ok (.getfield 19, 3) := dk_180 0 19 (dk_at dksX3_next_5 0 rfl rfl)
theorem dX3_next_115 : decode cX3_next 115 = .ok (.baload, 1) := dk_51 (dk_at dksX3_next_5 3 rfl rfl)
theorem dX3_next_116 : decode cX3_next 116 = .ok (.invokestatic 28, 3) := dk_184 0 28 (dk_at dksX3_next_5 4 rfl rfl)
theorem dX3_next_119 : decode cX3_next 119 = .ok (.ifCond .eq 16, 3) := dk_153 0 16 (dk_at dksX3_next_5 7 rfl rfl)
theorem dX3_next_122 : decode cX3_next 122 = .ok (.aload_n 0, 1) := dk_42 (dk_at dksX3_next_5 10 rfl rfl)
theorem dX3_next_123 : decode cX3_next 123 = .ok (.dup, 1) := dk_89 (dk_at dksX3_next_5 11 rfl rfl)
theorem dX3_next_124 : decode cX3_next 124 = .ok (.getfield 19, 3) := dk_180 0 19 (dk_at dksX3_next_5 12 rfl rfl)
theorem dX3_next_127 : decode cX3_next 127 = .ok (.iconst 1, 1) := dk_4 (dk_at dksX3_next_5 15 rfl rfl)
theorem dX3_next_128 : decode cX3_next 128 = .ok (.iadd, 1) := dk_96 (dk_at dksX3_next_5 16 rfl rfl)
theorem dX3_next_129 : decode cX3_next 129 = .ok (.putfield 19, 3) := dk_181 0 19 (dk_at dksX3_next_5 17 rfl rfl)
theorem dX3_next_132 : decode cX3_next 132 = .ok (.goto (-36), 3) := dk_167 255 220 (dk_at dksX3_next_5 20 rfl rfl)
theorem dX3_next_135 : decode cX3_next 135 = .ok (.aload_n 0, 1) := dk_42 (dk_at dksX3_next_5 23 rfl rfl)
theorem dX3_next_136 : decode cX3_next 136 = .ok (.sipush 302, 3) := dk_17 1 46 (dk_at dksX3_next_6 0 rfl rfl)
theorem dX3_next_139 : decode cX3_next 139 = .ok (.putfield 25, 3) := dk_181 0 25 (dk_at dksX3_next_6 3 rfl rfl)
theorem dX3_next_142 : decode cX3_next 142 = .ok (.iconst 0, 1) := dk_3 (dk_at dksX3_next_6 6 rfl rfl)
theorem dX3_next_143 : decode cX3_next 143 = .ok (.istore_n 1, 1) := dk_60 (dk_at dksX3_next_6 7 rfl rfl)
theorem dX3_next_144 : decode cX3_next 144 = .ok (.iload_n 1, 1) := dk_27 (dk_at dksX3_next_6 8 rfl rfl)
theorem dX3_next_145 : decode cX3_next 145 = .ok (.getstatic 32, 3) := dk_178 0 32 (dk_at dksX3_next_6 9 rfl rfl)
theorem dX3_next_148 : decode cX3_next 148 = .ok (.arraylength, 1) := dk_190 (dk_at dksX3_next_6 12 rfl rfl)
theorem dX3_next_149 : decode cX3_next 149 = .ok (.if_icmp .ge 30, 3) := dk_162 0 30 (dk_at dksX3_next_6 13 rfl rfl)
theorem dX3_next_152 : decode cX3_next 152 = .ok (.aload_n 0, 1) := dk_42 (dk_at dksX3_next_6 16 rfl rfl)
theorem dX3_next_153 : decode cX3_next 153 = .ok (.getstatic 32, 3) := dk_178 0 32 (dk_at dksX3_next_6 17 rfl rfl)
theorem dX3_next_156 : decode cX3_next 156 = .ok (.iload_n 1, 1) := dk_27 (dk_at dksX3_next_6 20 rfl rfl)
theorem dX3_next_157 : decode cX3_next 157 = .ok (.aaload, 1) := dk_50 (dk_at dksX3_next_6 21 rfl rfl)
theorem dX3_next_158 : decode cX3_next 158 = .ok (.invokevirtual 36, 3) := dk_182 0 36 (dk_at dksX3_next_7 0 rfl rfl)
theorem dX3_next_161 : decode cX3_next 161 = .ok (.ifCond .eq 12, 3) := dk_153 0 12 (dk_at dksX3_next_7 3 rfl rfl)
theorem dX3_next_164 : decode cX3_next 164 = .ok (.aload_n 0, 1) := dk_42 (dk_at dksX3_next_7 6 rfl rfl)
theorem dX3_next_165 : decode cX3_next 165 = .ok (.sipush 200, 3) := dk_17 0 200 (dk_at dksX3_next_7 7 rfl rfl)
theorem dX3_next_168 : decode cX3_next 168 = .ok (.iload_n 1, 1) := dk_27 (dk_at dksX3_next_7 10 rfl rfl)
theorem dX3_next_169 : decode cX3_next 169 = .ok (.iadd, 1) := dk_96 (dk_at dksX3_next_7 11 rfl rfl)
theorem dX3_next_170 : decode cX3_next 170 = .ok (.putfield 25, 3) := dk_181 0 25 (dk_at dksX3_next_7 12 rfl rfl)
theorem dX3_next_173 : decode cX3_next 173 = .ok (.iinc 1 1, 3) := dk_132 1 1 (dk_at dksX3_next_7 15 rfl rfl)
theorem dX3_next_176 : decode cX3_next 176 = .ok (.goto (-32), 3) := dk_167 255 224 (dk_at dksX3_next_7 18 rfl rfl)
theorem dX3_next_179 : decode cX3_next 179 = .ok (.goto 223, 3) := dk_167 0 223 (dk_at dksX3_next_7 21 rfl rfl)
theorem dX3_next_182 : decode cX3_next 182 = .ok (.aload_n 0, 1) := dk_42 (dk_at dksX3_next_8 0 rfl rfl)
theorem dX3_next_183 : decode cX3_next 183 = .ok (.getfield 9, 3) := dk_180 0 9 (dk_at dksX3_next_8 1 rfl rfl)
theorem dX3_next_186 : decode cX3_next 186 = .ok (.aload_n 0, 1) := dk_42 (dk_at dksX3_next_8 4 rfl rfl)
theorem dX3_next_187 : decode cX3_next 187 = .ok (.getfield 19, 3) := dk_180 0 19 (dk_at dksX3_next_8 5 rfl rfl)
theorem dX3_next_190 : decode cX3_next 190 = .ok (.baload, 1) := dk_51 (dk_at dksX3_next_8 8 rfl rfl)
theorem dX3_next_191 : decode cX3_next 191 = .ok (.invokestatic 40, 3) := dk_184 0 40 (dk_at dksX3_next_8 9 rfl rfl)
theorem dX3_next_194 : decode cX3_next 194 = .ok (.ifCond .eq 83, 3) := dk_153 0 83 (dk_at dksX3_next_8 12 rfl rfl)
theorem dX3_next_197 : decode cX3_next 197 = .ok (.aload_n 0, 1) := dk_42 (dk_at dksX3_next_8 15 rfl rfl)
theorem dX3_next_198 : decode cX3_next 198 = .ok (.sipush 300, 3) := dk_17 1 44 (dk_at dksX3_next_8 16 rfl rfl)
theorem dX3_next_201 : decode cX3_next 201 = .ok (.putfield 25, 3) := dk_181 0 25 (dk_at dksX3_next_8 19 rfl rfl)
theorem dX3_next_204 : decode cX3_next 204 = .ok (.aload_n 0, 1) := dk_42 (dk_at dksX3_next_8 22 rfl rfl)
theorem dX3_next_205 : decode cX3_next 205 = .ok (.iconst 0, 1) := dk_3 (dk_at dksX3_next_8 23 rfl rfl)
theorem dX3_next_206 : decode cX3_next 206 = .ok (.putfield 43, 3) := dk_181 0 43 (dk_at dksX3_next_9 0 rfl rfl)
theorem dX3_next_209 : decode cX3_next 209 = .ok (.aload_n 0, 1) := dk_42 (dk_at dksX3_next_9 3 rfl rfl)
theorem dX3_next_210 : decode cX3_next 210 = .ok (.getfield 19, 3) := dk_180 0 19 (dk_at dksX3_next_9 4 rfl rfl)
theorem dX3_next_213 : decode cX3_next 213 = .ok (.aload_n 0, 1) := dk_42 (dk_at dksX3_next_9 7 rfl rfl)
theorem dX3_next_214 : decode cX3_next 214 = .ok (.getfield 15, 3) := dk_180 0 15 (dk_at dksX3_next_9 8 rfl rfl)
theorem dX3_next_217 : decode cX3_next 217 = .ok (.if_icmp .ge 185, 3) := dk_162 0 185 (dk_at dksX3_next_9 11 rfl rfl)
theorem dX3_next_220 : decode cX3_next 220 = .ok (.aload_n 0, 1) := dk_42 (dk_at dksX3_next_9 14 rfl rfl)
theorem dX3_next_221 : decode cX3_next 221 = .ok (.getfield 9, 3) := dk_180 0 9 (dk_at dksX3_next_9 15 rfl rfl)
theorem dX3_next_224 : decode cX3_next 224 = .ok (.aload_n 0, 1) := dk_42 (dk_at dksX3_next_9 18 rfl rfl)
theorem dX3_next_225 : decode cX3_next 225 = .ok (.getfield 19, 3) := dk_180 0 19 (dk_at dksX3_next_9 19 rfl rfl)
theorem dX3_next_228 : decode cX3_next 228 = .ok (.baload, 1) := dk_51 (dk_at dksX3_next_9 22 rfl rfl)
theorem dX3_next_229 : decode cX3_next 229 = .ok (.invokestatic 40, 3) := dk_184 0 40 (dk_at dksX3_next_10 0 rfl rfl)
theorem dX3_next_232 : decode cX3_next 232 = .ok (.ifCond .eq 170, 3) := dk_153 0 170 (dk_at dksX3_next_10 3 rfl rfl)
theorem dX3_next_235 : decode cX3_next 235 = .ok (.aload_n 0, 1) := dk_42 (dk_at dksX3_next_10 6 rfl rfl)
theorem dX3_next_236 : decode cX3_next 236 = .ok (.ldc 46, 2) := dk_18 46 (dk_at dksX3_next_10 7 rfl rfl)
theorem dX3_next_238 : decode cX3_next 238 = .ok (.bipush 10, 2) := dk_16 10 (dk_at dksX3_next_10 9 rfl rfl)
theorem dX3_next_240 : decode cX3_next 240 = .ok (.aload_n 0, 1) := dk_42 (dk_at dksX3_next_10 11 rfl rfl)
theorem dX3_next_241 : decode cX3_next 241 = .ok (.getfield 43, 3) := dk_180 0 43 (dk_at dksX3_next_10 12 rfl rfl)
theorem dX3_next_244 : decode cX3_next 244 = .ok (.imul, 1) := dk_104 (dk_at dksX3_next_10 15 rfl rfl)
theorem dX3_next_245 : decode cX3_next 245 = .ok (.aload_n 0, 1) := dk_42 (dk_at dksX3_next_10 16 rfl rfl)
theorem dX3_next_246 : decode cX3_next 246 = .ok (.getfield 9, 3) := dk_180 0 9 (dk_at dksX3_next_10 17 rfl rfl)
theorem dX3_next_249 : decode cX3_next 249 = .ok (.aload_n 0, 1) := dk_42 (dk_at dksX3_next_10 20 rfl rfl)
theorem dX3_next_250 : decode cX3_next 250 = .ok (.getfield 19, 3) := dk_180 0 19 (dk_at dksX3_next_10 21 rfl rfl)
theorem dX3_next_253 : decode cX3_next 253 = .ok (.baload, 1) := dk_51 (dk_at dksX3_next_11 0 rfl rfl)
theorem dX3_next_254 : decode cX3_next 254 = .ok (.iadd, 1) := dk_96 (dk_at dksX3_next_11 1 rfl rfl)
theorem dX3_next_255 : decode cX3_next 255 = .ok (.bipush 48, 2) := dk_16 48 (dk_at dksX3_next_11 2 rfl rfl)
theorem dX3_next_257 : decode cX3_next 257 = .ok (.isub, 1) := dk_100 (dk_at dksX3_next_11 4 rfl rfl)
theorem dX3_next_258 : decode cX3_next 258 = .ok (.invokestatic 47, 3) := dk_184 0 47 (dk_at dksX3_next_11 5 rfl rfl)
theorem dX3_next_261 : decode cX3_next 261 = .ok (.putfield 43, 3) := dk_181 0 43 (dk_at dksX3_next_11 8 rfl rfl)
theorem dX3_next_264 : decode cX3_next 264 = .ok (.aload_n 0, 1) := dk_42 (dk_at dksX3_next_11 11 rfl rfl)
theorem dX3_next_265 : decode cX3_next 265 = .ok (.dup, 1) := dk_89 (dk_at dksX3_next_11 12 rfl rfl)
theorem dX3_next_266 : decode cX3_next 266 = .ok (.getfield 19, 3) := dk_180 0 19 (dk_at dksX3_next_11 13 rfl rfl)
theorem dX3_next_269 : decode cX3_next 269 = .ok (.iconst 1, 1) := dk_4 (dk_at dksX3_next_11 16 rfl rfl)
theorem dX3_next_270 : decode cX3_next 270 = .ok (.iadd, 1) := dk_96 (dk_at dksX3_next_11 17 rfl rfl)
theorem dX3_next_271 : decode cX3_next 271 = .ok (.putfield 19, 3) := dk_181 0 19 (dk_at dksX3_next_11 18 rfl rfl)
theorem dX3_next_274 : decode cX3_next 274 = .ok (.goto (-65), 3) := dk_167 255 191 (dk_at dksX3_next_11 21 rfl rfl)
theorem dX3_next_277 : decode cX3_next 277 = .ok (.aload_n 0, 1) := dk_42 (dk_at dksX3_next_12 0 rfl rfl)
theorem dX3_next_278 : decode cX3_next 278 = .ok (.getfield 9, 3) := dk_180 0 9 (dk_at dksX3_next_12 1 rfl rfl)
theorem dX3_next_281 : decode cX3_next 281 = .ok (.aload_n 0, 1) := dk_42 (dk_at dksX3_next_12 4 rfl rfl)
theorem dX3_next_282 : decode cX3_next 282 = .ok (.getfield 19, 3) := dk_180 0 19 (dk_at dksX3_next_12 5 rfl rfl)
theorem dX3_next_285 : decode cX3_next 285 = .ok (.baload, 1) := dk_51 (dk_at dksX3_next_12 8 rfl rfl)
theorem dX3_next_286 : decode cX3_next 286 = .ok (.istore_n 1, 1) := dk_60 (dk_at dksX3_next_12 9 rfl rfl)
theorem dX3_next_287 : decode cX3_next 287 = .ok (.aload_n 0, 1) := dk_42 (dk_at dksX3_next_12 10 rfl rfl)
theorem dX3_next_288 : decode cX3_next 288 = .ok (.dup, 1) := dk_89 (dk_at dksX3_next_12 11 rfl rfl)
theorem dX3_next_289 : decode cX3_next 289 = .ok (.getfield 19, 3) := dk_180 0 19 (dk_at dksX3_next_12 12 rfl rfl)
theorem dX3_next_292 : decode cX3_next 292 = .ok (.iconst 1, 1) := dk_4 (dk_at dksX3_next_12 15 rfl rfl)
theorem dX3_next_293 : decode cX3_next 293 = .ok (.iadd, 1) := dk_96 (dk_at dksX3_next_12 16 rfl rfl)
theorem dX3_next_294 : decode cX3_next 294 = .ok (.putfield 19, 3) := dk_181 0 19 (dk_at dksX3_next_12 17 rfl rfl)
theorem dX3_next_297 : decode cX3_next 297 = .ok (.aload_n 0, 1) := dk_42 (dk_at dksX3_next_12 20 rfl rfl)
theorem dX3_next_298 : decode cX3_next 298 = .ok (.sipush 302, 3) := dk_17 1 46 (dk_at dksX3_next_12 21 rfl rfl)
theorem dX3_next_301 : decode cX3_next 301 = .ok (.putfield 25, 3) := dk_181 0 25 (dk_at dksX3_next_13 0 rfl rfl)
theorem dX3_next_304 : decode cX3_next 304 = .ok (.iconst 0, 1) := dk_3 (dk_at dksX3_next_13 3 rfl rfl)
theorem dX3_next_305 : decode cX3_next 305 = .ok (.istore_n 2, 1) := dk_61 (dk_at dksX3_next_13 4 rfl rfl)
theorem dX3_next_306 : decode cX3_next 306 = .ok (.iload_n 2, 1) := dk_28 (dk_at dksX3_next_13 5 rfl rfl)
theorem dX3_next_307 : decode cX3_next 307 = .ok (.ldc 53, 2) := dk_18 53 (dk_at dksX3_next_13 6 rfl rfl)
theorem dX3_next_309 : decode cX3_next 309 = .ok (.invokevirtual 55, 3) := dk_182 0 55 (dk_at dksX3_next_13 8 rfl rfl)
theorem dX3_next_312 : decode cX3_next 312 = .ok (.if_icmp .ge 24, 3) := dk_162 0 24 (dk_at dksX3_next_13 11 rfl rfl)
theorem dX3_next_315 : decode cX3_next 315 = .ok (.ldc 53, 2) := dk_18 53 (dk_at dksX3_next_13 14 rfl rfl)
theorem dX3_next_317 : decode cX3_next 317 = .ok (.iload_n 2, 1) := dk_28 (dk_at dksX3_next_13 16 rfl rfl)
theorem dX3_next_318 : decode cX3_next 318 = .ok (.invokevirtual 61, 3) := dk_182 0 61 (dk_at dksX3_next_13 17 rfl rfl)
theorem dX3_next_321 : decode cX3_next 321 = .ok (.iload_n 1, 1) := dk_27 (dk_at dksX3_next_13 20 rfl rfl)
theorem dX3_next_322 : decode cX3_next 322 = .ok (.if_icmp .ne 8, 3) := dk_160 0 8 (dk_at dksX3_next_13 21 rfl rfl)
theorem dX3_next_325 : decode cX3_next 325 = .ok (.aload_n 0, 1) := dk_42 (dk_at dksX3_next_14 0 rfl rfl)
theorem dX3_next_326 : decode cX3_next 326 = .ok (.iload_n 1, 1) := dk_27 (dk_at dksX3_next_14 1 rfl rfl)
theorem dX3_next_327 : decode cX3_next 327 = .ok (.putfield 25, 3) := dk_181 0 25 (dk_at dksX3_next_14 2 rfl rfl)
theorem dX3_next_330 : decode cX3_next 330 = .ok (.iinc 2 1, 3) := dk_132 2 1 (dk_at dksX3_next_14 5 rfl rfl)
theorem dX3_next_333 : decode cX3_next 333 = .ok (.goto (-27), 3) := dk_167 255 229 (dk_at dksX3_next_14 8 rfl rfl)
theorem dX3_next_336 : decode cX3_next 336 = .ok (.iload_n 1, 1) := dk_27 (dk_at dksX3_next_14 11 rfl rfl)
theorem dX3_next_337 : decode cX3_next 337 = .ok (.bipush 60, 2) := dk_16 60 (dk_at dksX3_next_14 12 rfl rfl)
theorem dX3_next_339 : decode cX3_next 339 = .ok (.if_icmp .eq 9, 3) := dk_159 0 9 (dk_at dksX3_next_14 14 rfl rfl)
theorem dX3_next_342 : decode cX3_next 342 = .ok (.iload_n 1, 1) := dk_27 (dk_at dksX3_next_14 17 rfl rfl)
theorem dX3_next_343 : decode cX3_next 343 = .ok (.bipush 62, 2) := dk_16 62 (dk_at dksX3_next_14 18 rfl rfl)
theorem dX3_next_345 : decode cX3_next 345 = .ok (.if_icmp .ne 57, 3) := dk_160 0 57 (dk_at dksX3_next_14 20 rfl rfl)
theorem dX3_next_348 : decode cX3_next 348 = .ok (.aload_n 0, 1) := dk_42 (dk_at dksX3_next_14 23 rfl rfl)
theorem dX3_next_349 : decode cX3_next 349 = .ok (.getfield 19, 3) := dk_180 0 19 (dk_at dksX3_next_15 0 rfl rfl)
theorem dX3_next_352 : decode cX3_next 352 = .ok (.aload_n 0, 1) := dk_42 (dk_at dksX3_next_15 3 rfl rfl)
theorem dX3_next_353 : decode cX3_next 353 = .ok (.getfield 15, 3) := dk_180 0 15 (dk_at dksX3_next_15 4 rfl rfl)
theorem dX3_next_356 : decode cX3_next 356 = .ok (.if_icmp .ge 46, 3) := dk_162 0 46 (dk_at dksX3_next_15 7 rfl rfl)
theorem dX3_next_359 : decode cX3_next 359 = .ok (.aload_n 0, 1) := dk_42 (dk_at dksX3_next_15 10 rfl rfl)
theorem dX3_next_360 : decode cX3_next 360 = .ok (.getfield 9, 3) := dk_180 0 9 (dk_at dksX3_next_15 11 rfl rfl)
theorem dX3_next_363 : decode cX3_next 363 = .ok (.aload_n 0, 1) := dk_42 (dk_at dksX3_next_15 14 rfl rfl)
theorem dX3_next_364 : decode cX3_next 364 = .ok (.getfield 19, 3) := dk_180 0 19 (dk_at dksX3_next_15 15 rfl rfl)
theorem dX3_next_367 : decode cX3_next 367 = .ok (.baload, 1) := dk_51 (dk_at dksX3_next_15 18 rfl rfl)
theorem dX3_next_368 : decode cX3_next 368 = .ok (.bipush 61, 2) := dk_16 61 (dk_at dksX3_next_15 19 rfl rfl)
theorem dX3_next_370 : decode cX3_next 370 = .ok (.if_icmp .ne 32, 3) := dk_160 0 32 (dk_at dksX3_next_15 21 rfl rfl)
theorem dX3_next_373 : decode cX3_next 373 = .ok (.aload_n 0, 1) := dk_42 (dk_at dksX3_next_16 0 rfl rfl)
theorem dX3_next_374 : decode cX3_next 374 = .ok (.iload_n 1, 1) := dk_27 (dk_at dksX3_next_16 1 rfl rfl)
theorem dX3_next_375 : decode cX3_next 375 = .ok (.bipush 60, 2) := dk_16 60 (dk_at dksX3_next_16 2 rfl rfl)
theorem dX3_next_377 : decode cX3_next 377 = .ok (.if_icmp .ne 9, 3) := dk_160 0 9 (dk_at dksX3_next_16 4 rfl rfl)
theorem dX3_next_380 : decode cX3_next 380 = .ok (.sipush 303, 3) := dk_17 1 47 (dk_at dksX3_next_16 7 rfl rfl)
theorem dX3_next_383 : decode cX3_next 383 = .ok (.goto 6, 3) := dk_167 0 6 (dk_at dksX3_next_16 10 rfl rfl)
theorem dX3_next_386 : decode cX3_next 386 = .ok (.sipush 304, 3) := dk_17 1 48 (dk_at dksX3_next_16 13 rfl rfl)
theorem dX3_next_389 : decode cX3_next 389 = .ok (.putfield 25, 3) := dk_181 0 25 (dk_at dksX3_next_16 16 rfl rfl)
theorem dX3_next_392 : decode cX3_next 392 = .ok (.aload_n 0, 1) := dk_42 (dk_at dksX3_next_16 19 rfl rfl)
theorem dX3_next_393 : decode cX3_next 393 = .ok (.dup, 1) := dk_89 (dk_at dksX3_next_16 20 rfl rfl)
theorem dX3_next_394 : decode cX3_next 394 = .ok (.getfield 19, 3) := dk_180 0 19 (dk_at dksX3_next_16 21 rfl rfl)
theorem dX3_next_397 : decode cX3_next 397 = .ok (.iconst 1, 1) := dk_4 (dk_at dksX3_next_17 0 rfl rfl)
theorem dX3_next_398 : decode cX3_next 398 = .ok (.iadd, 1) := dk_96 (dk_at dksX3_next_17 1 rfl rfl)
theorem dX3_next_399 : decode cX3_next 399 = .ok (.putfield 19, 3) := dk_181 0 19 (dk_at dksX3_next_17 2 rfl rfl)
theorem dX3_next_402 : decode cX3_next 402 = .ok (.return_, 1) := dk_177 (dk_at dksX3_next_17 5 rfl rfl)
abbrev cX3_isLetter : ByteArray := prog_17_method_2_code
def yX3_isLetter : MethodName := ⟨RX3, "isLetter", "(I)Z"⟩
def dkwX3_isLetter_1 : List UInt8 := [4, 167, 0, 4, 3, 172]
abbrev dktX3_isLetter_1 : List UInt8 := dkwX3_isLetter_1 ++ []
def dkwX3_isLetter_0 : List UInt8 := [26, 16, 97, 161, 0, 9, 26, 16, 122, 164, 0, 15, 26, 16, 65, 161, 0, 13, 26, 16, 90, 163, 0, 7]
abbrev dktX3_isLetter_0 : List UInt8 := dkwX3_isLetter_0 ++ dktX3_isLetter_1
theorem dksX3_isLetter_0 : cX3_isLetter.data.toList.drop 0 = dktX3_isLetter_0 := by decide +kernel
theorem dksX3_isLetter_1 : cX3_isLetter.data.toList.drop 24 = dktX3_isLetter_1 := dk_seg dksX3_isLetter_0 24 rfl rfl
theorem dX3_isLetter_0 : decode cX3_isLetter 0 = .ok (.iload_n 0, 1) := dk_26 (dk_at dksX3_isLetter_0 0 rfl rfl)
theorem dX3_isLetter_1 : decode cX3_isLetter 1 = .ok (.bipush 97, 2) := dk_16 97 (dk_at dksX3_isLetter_0 1 rfl rfl)
theorem dX3_isLetter_3 : decode cX3_isLetter 3 = .ok (.if_icmp .lt 9, 3) := dk_161 0 9 (dk_at dksX3_isLetter_0 3 rfl rfl)
theorem dX3_isLetter_6 : decode cX3_isLetter 6 = .ok (.iload_n 0, 1) := dk_26 (dk_at dksX3_isLetter_0 6 rfl rfl)
theorem dX3_isLetter_7 : decode cX3_isLetter 7 = .ok (.bipush 122, 2) := dk_16 122 (dk_at dksX3_isLetter_0 7 rfl rfl)
theorem dX3_isLetter_9 : decode cX3_isLetter 9 = .ok (.if_icmp .le 15, 3) := dk_164 0 15 (dk_at dksX3_isLetter_0 9 rfl rfl)
theorem dX3_isLetter_12 : decode cX3_isLetter 12 = .ok (.iload_n 0, 1) := dk_26 (dk_at dksX3_isLetter_0 12 rfl rfl)
theorem dX3_isLetter_13 : decode cX3_isLetter 13 = .ok (.bipush 65, 2) := dk_16 65 (dk_at dksX3_isLetter_0 13 rfl rfl)
theorem dX3_isLetter_15 : decode cX3_isLetter 15 = .ok (.if_icmp .lt 13, 3) := dk_161 0 13 (dk_at dksX3_isLetter_0 15 rfl rfl)
theorem dX3_isLetter_18 : decode cX3_isLetter 18 = .ok (.iload_n 0, 1) := dk_26 (dk_at dksX3_isLetter_0 18 rfl rfl)
theorem dX3_isLetter_19 : decode cX3_isLetter 19 = .ok (.bipush 90, 2) := dk_16 90 (dk_at dksX3_isLetter_0 19 rfl rfl)
theorem dX3_isLetter_21 : decode cX3_isLetter 21 = .ok (.if_icmp .gt 7, 3) := dk_163 0 7 (dk_at dksX3_isLetter_0 21 rfl rfl)
theorem dX3_isLetter_24 : decode cX3_isLetter 24 = .ok (.iconst 1, 1) := dk_4 (dk_at dksX3_isLetter_1 0 rfl rfl)
theorem dX3_isLetter_25 : decode cX3_isLetter 25 = .ok (.goto 4, 3) := dk_167 0 4 (dk_at dksX3_isLetter_1 1 rfl rfl)
theorem dX3_isLetter_28 : decode cX3_isLetter 28 = .ok (.iconst 0, 1) := dk_3 (dk_at dksX3_isLetter_1 4 rfl rfl)
theorem dX3_isLetter_29 : decode cX3_isLetter 29 = .ok (.ireturn, 1) := dk_172 (dk_at dksX3_isLetter_1 5 rfl rfl)
abbrev cX3_isWord : ByteArray := prog_17_method_5_code
def yX3_isWord : MethodName := ⟨RX3, "isWord", "(Ljava/lang/String;)Z"⟩
def dkwX3_isWord_2 : List UInt8 := [159, 0, 5, 3, 172, 132, 2, 1, 167, 255, 224, 4, 172]
abbrev dktX3_isWord_2 : List UInt8 := dkwX3_isWord_2 ++ []
def dkwX3_isWord_1 : List UInt8 := [182, 0, 55, 162, 0, 30, 42, 180, 0, 9, 42, 180, 0, 22, 28, 96, 51, 43, 28, 182, 0, 61]
abbrev dktX3_isWord_1 : List UInt8 := dkwX3_isWord_1 ++ dktX3_isWord_2
def dkwX3_isWord_0 : List UInt8 := [42, 180, 0, 19, 42, 180, 0, 22, 100, 43, 182, 0, 55, 159, 0, 5, 3, 172, 3, 61, 28, 43]
abbrev dktX3_isWord_0 : List UInt8 := dkwX3_isWord_0 ++ dktX3_isWord_1
theorem dksX3_isWord_0 : cX3_isWord.data.toList.drop 0 = dktX3_isWord_0 := by decide +kernel
theorem dksX3_isWord_1 : cX3_isWord.data.toList.drop 22 = dktX3_isWord_1 := dk_seg dksX3_isWord_0 22 rfl rfl
theorem dksX3_isWord_2 : cX3_isWord.data.toList.drop 44 = dktX3_isWord_2 := dk_seg dksX3_isWord_1 22 rfl rfl
theorem dX3_isWord_0 : decode cX3_isWord 0 = .ok (.aload_n 0, 1) := dk_42 (dk_at dksX3_isWord_0 0 rfl rfl)
theorem dX3_isWord_1 : decode cX3_isWord 1 = .ok (.getfield 19, 3) := dk_180 0 19 (dk_at dksX3_isWord_0 1 rfl rfl)
theorem dX3_isWord_4 : decode cX3_isWord 4 = .ok (.aload_n 0, 1) := dk_42 (dk_at dksX3_isWord_0 4 rfl rfl)
theorem dX3_isWord_5 : decode cX3_isWord 5 = .ok (.getfield 22, 3) := dk_180 0 22 (dk_at dksX3_isWord_0 5 rfl rfl)
theorem dX3_isWord_8 : decode cX3_isWord 8 = .ok (.isub, 1) := dk_100 (dk_at dksX3_isWord_0 8 rfl rfl)
theorem dX3_isWord_9 : decode cX3_isWord 9 = .ok (.aload_n 1, 1) := dk_43 (dk_at dksX3_isWord_0 9 rfl rfl)
theorem dX3_isWord_10 : decode cX3_isWord 10 = .ok (.invokevirtual 55, 3) := dk_182 0 55 (dk_at dksX3_isWord_0 10 rfl rfl)
theorem dX3_isWord_13 : decode cX3_isWord 13 = .ok (.if_icmp .eq 5, 3) := dk_159 0 5 (dk_at dksX3_isWord_0 13 rfl rfl)
theorem dX3_isWord_16 : decode cX3_isWord 16 = .ok (.iconst 0, 1) := dk_3 (dk_at dksX3_isWord_0 16 rfl rfl)
theorem dX3_isWord_17 : decode cX3_isWord 17 = .ok (.ireturn, 1) := dk_172 (dk_at dksX3_isWord_0 17 rfl rfl)
theorem dX3_isWord_18 : decode cX3_isWord 18 = .ok (.iconst 0, 1) := dk_3 (dk_at dksX3_isWord_0 18 rfl rfl)
theorem dX3_isWord_19 : decode cX3_isWord 19 = .ok (.istore_n 2, 1) := dk_61 (dk_at dksX3_isWord_0 19 rfl rfl)
theorem dX3_isWord_20 : decode cX3_isWord 20 = .ok (.iload_n 2, 1) := dk_28 (dk_at dksX3_isWord_0 20 rfl rfl)
theorem dX3_isWord_21 : decode cX3_isWord 21 = .ok (.aload_n 1, 1) := dk_43 (dk_at dksX3_isWord_0 21 rfl rfl)
theorem dX3_isWord_22 : decode cX3_isWord 22 = .ok (.invokevirtual 55, 3) := dk_182 0 55 (dk_at dksX3_isWord_1 0 rfl rfl)
theorem dX3_isWord_25 : decode cX3_isWord 25 = .ok (.if_icmp .ge 30, 3) := dk_162 0 30 (dk_at dksX3_isWord_1 3 rfl rfl)
theorem dX3_isWord_28 : decode cX3_isWord 28 = .ok (.aload_n 0, 1) := dk_42 (dk_at dksX3_isWord_1 6 rfl rfl)
theorem dX3_isWord_29 : decode cX3_isWord 29 = .ok (.getfield 9, 3) := dk_180 0 9 (dk_at dksX3_isWord_1 7 rfl rfl)
theorem dX3_isWord_32 : decode cX3_isWord 32 = .ok (.aload_n 0, 1) := dk_42 (dk_at dksX3_isWord_1 10 rfl rfl)
theorem dX3_isWord_33 : decode cX3_isWord 33 = .ok (.getfield 22, 3) := dk_180 0 22 (dk_at dksX3_isWord_1 11 rfl rfl)
theorem dX3_isWord_36 : decode cX3_isWord 36 = .ok (.iload_n 2, 1) := dk_28 (dk_at dksX3_isWord_1 14 rfl rfl)
theorem dX3_isWord_37 : decode cX3_isWord 37 = .ok (.iadd, 1) := dk_96 (dk_at dksX3_isWord_1 15 rfl rfl)
theorem dX3_isWord_38 : decode cX3_isWord 38 = .ok (.baload, 1) := dk_51 (dk_at dksX3_isWord_1 16 rfl rfl)
theorem dX3_isWord_39 : decode cX3_isWord 39 = .ok (.aload_n 1, 1) := dk_43 (dk_at dksX3_isWord_1 17 rfl rfl)
theorem dX3_isWord_40 : decode cX3_isWord 40 = .ok (.iload_n 2, 1) := dk_28 (dk_at dksX3_isWord_1 18 rfl rfl)
theorem dX3_isWord_41 : decode cX3_isWord 41 = .ok (.invokevirtual 61, 3) := dk_182 0 61 (dk_at dksX3_isWord_1 19 rfl rfl)
theorem dX3_isWord_44 : decode cX3_isWord 44 = .ok (.if_icmp .eq 5, 3) := dk_159 0 5 (dk_at dksX3_isWord_2 0 rfl rfl)
theorem dX3_isWord_47 : decode cX3_isWord 47 = .ok (.iconst 0, 1) := dk_3 (dk_at dksX3_isWord_2 3 rfl rfl)
theorem dX3_isWord_48 : decode cX3_isWord 48 = .ok (.ireturn, 1) := dk_172 (dk_at dksX3_isWord_2 4 rfl rfl)
theorem dX3_isWord_49 : decode cX3_isWord 49 = .ok (.iinc 2 1, 3) := dk_132 2 1 (dk_at dksX3_isWord_2 5 rfl rfl)
theorem dX3_isWord_52 : decode cX3_isWord 52 = .ok (.goto (-32), 3) := dk_167 255 224 (dk_at dksX3_isWord_2 8 rfl rfl)
theorem dX3_isWord_55 : decode cX3_isWord 55 = .ok (.iconst 1, 1) := dk_4 (dk_at dksX3_isWord_2 11 rfl rfl)
theorem dX3_isWord_56 : decode cX3_isWord 56 = .ok (.ireturn, 1) := dk_172 (dk_at dksX3_isWord_2 12 rfl rfl)
abbrev cX3_isDigit : ByteArray := prog_17_method_3_code
def yX3_isDigit : MethodName := ⟨RX3, "isDigit", "(I)Z"⟩
def dkwX3_isDigit_0 : List UInt8 := [26, 16, 48, 161, 0, 13, 26, 16, 57, 163, 0, 7, 4, 167, 0, 4, 3, 172]
abbrev dktX3_isDigit_0 : List UInt8 := dkwX3_isDigit_0 ++ []
theorem dksX3_isDigit_0 : cX3_isDigit.data.toList.drop 0 = dktX3_isDigit_0 := by decide +kernel
theorem dX3_isDigit_0 : decode cX3_isDigit 0 = .ok (.iload_n 0, 1) := dk_26 (dk_at dksX3_isDigit_0 0 rfl rfl)
theorem dX3_isDigit_1 : decode cX3_isDigit 1 = .ok (.bipush 48, 2) := dk_16 48 (dk_at dksX3_isDigit_0 1 rfl rfl)
theorem dX3_isDigit_3 : decode cX3_isDigit 3 = .ok (.if_icmp .lt 13, 3) := dk_161 0 13 (dk_at dksX3_isDigit_0 3 rfl rfl)
theorem dX3_isDigit_6 : decode cX3_isDigit 6 = .ok (.iload_n 0, 1) := dk_26 (dk_at dksX3_isDigit_0 6 rfl rfl)
theorem dX3_isDigit_7 : decode cX3_isDigit 7 = .ok (.bipush 57, 2) := dk_16 57 (dk_at dksX3_isDigit_0 7 rfl rfl)
theorem dX3_isDigit_9 : decode cX3_isDigit 9 = .ok (.if_icmp .gt 7, 3) := dk_163 0 7 (dk_at dksX3_isDigit_0 9 rfl rfl)
theorem dX3_isDigit_12 : decode cX3_isDigit 12 = .ok (.iconst 1, 1) := dk_4 (dk_at dksX3_isDigit_0 12 rfl rfl)
theorem dX3_isDigit_13 : decode cX3_isDigit 13 = .ok (.goto 4, 3) := dk_167 0 4 (dk_at dksX3_isDigit_0 13 rfl rfl)
theorem dX3_isDigit_16 : decode cX3_isDigit 16 = .ok (.iconst 0, 1) := dk_3 (dk_at dksX3_isDigit_0 16 rfl rfl)
theorem dX3_isDigit_17 : decode cX3_isDigit 17 = .ok (.ireturn, 1) := dk_172 (dk_at dksX3_isDigit_0 17 rfl rfl)
abbrev cX3_wrong : ByteArray := prog_17_method_6_code
def yX3_wrong : MethodName := ⟨RX3, "wrong", "(I)LSownByArgument$Wrong;"⟩
def dkwX3_wrong_0 : List UInt8 := [187, 0, 65, 89, 27, 42, 180, 0, 22, 183, 0, 67, 176]
abbrev dktX3_wrong_0 : List UInt8 := dkwX3_wrong_0 ++ []
theorem dksX3_wrong_0 : cX3_wrong.data.toList.drop 0 = dktX3_wrong_0 := by decide +kernel
theorem dX3_wrong_0 : decode cX3_wrong 0 = .ok (.new 65, 3) := dk_187 0 65 (dk_at dksX3_wrong_0 0 rfl rfl)
theorem dX3_wrong_3 : decode cX3_wrong 3 = .ok (.dup, 1) := dk_89 (dk_at dksX3_wrong_0 3 rfl rfl)
theorem dX3_wrong_4 : decode cX3_wrong 4 = .ok (.iload_n 1, 1) := dk_27 (dk_at dksX3_wrong_0 4 rfl rfl)
theorem dX3_wrong_5 : decode cX3_wrong 5 = .ok (.aload_n 0, 1) := dk_42 (dk_at dksX3_wrong_0 5 rfl rfl)
theorem dX3_wrong_6 : decode cX3_wrong 6 = .ok (.getfield 22, 3) := dk_180 0 22 (dk_at dksX3_wrong_0 6 rfl rfl)
theorem dX3_wrong_9 : decode cX3_wrong 9 = .ok (.invokespecial 67, 3) := dk_183 0 67 (dk_at dksX3_wrong_0 9 rfl rfl)
theorem dX3_wrong_12 : decode cX3_wrong 12 = .ok (.areturn, 1) := dk_176 (dk_at dksX3_wrong_0 12 rfl rfl)
abbrev cX3_either : ByteArray := prog_17_method_14_code
def yX3_either : MethodName := ⟨RX3, "either", "()LSownByArgument$Asked;"⟩
def dkwX3_either_2 : List UInt8 := [160, 0, 14, 43, 3, 182, 0, 151, 192, 0, 126, 167, 0, 12, 187, 0, 155, 89, 3, 43, 183, 0, 157, 176]
abbrev dktX3_either_2 : List UInt8 := dkwX3_either_2 ++ []
def dkwX3_either_1 : List UInt8 := [160, 0, 19, 42, 182, 0, 74, 43, 42, 182, 0, 146, 182, 0, 115, 87, 167, 255, 233, 43, 182, 0, 149, 4]
abbrev dktX3_either_1 : List UInt8 := dkwX3_either_1 ++ dktX3_either_2
def dkwX3_either_0 : List UInt8 := [187, 0, 116, 89, 183, 0, 145, 76, 43, 42, 182, 0, 146, 182, 0, 115, 87, 42, 180, 0, 25, 17, 0, 218]
abbrev dktX3_either_0 : List UInt8 := dkwX3_either_0 ++ dktX3_either_1
theorem dksX3_either_0 : cX3_either.data.toList.drop 0 = dktX3_either_0 := by decide +kernel
theorem dksX3_either_1 : cX3_either.data.toList.drop 24 = dktX3_either_1 := dk_seg dksX3_either_0 24 rfl rfl
theorem dksX3_either_2 : cX3_either.data.toList.drop 48 = dktX3_either_2 := dk_seg dksX3_either_1 24 rfl rfl
theorem dX3_either_0 : decode cX3_either 0 = .ok (.new 116, 3) := dk_187 0 116 (dk_at dksX3_either_0 0 rfl rfl)
theorem dX3_either_3 : decode cX3_either 3 = .ok (.dup, 1) := dk_89 (dk_at dksX3_either_0 3 rfl rfl)
theorem dX3_either_4 : decode cX3_either 4 = .ok (.invokespecial 145, 3) := dk_183 0 145 (dk_at dksX3_either_0 4 rfl rfl)
theorem dX3_either_7 : decode cX3_either 7 = .ok (.astore_n 1, 1) := dk_76 (dk_at dksX3_either_0 7 rfl rfl)
theorem dX3_either_8 : decode cX3_either 8 = .ok (.aload_n 1, 1) := dk_43 (dk_at dksX3_either_0 8 rfl rfl)
theorem dX3_either_9 : decode cX3_either 9 = .ok (.aload_n 0, 1) := dk_42 (dk_at dksX3_either_0 9 rfl rfl)
theorem dX3_either_10 : decode cX3_either 10 = .ok (.invokevirtual 146, 3) := dk_182 0 146 (dk_at dksX3_either_0 10 rfl rfl)
theorem dX3_either_13 : decode cX3_either 13 = .ok (.invokevirtual 115, 3) := dk_182 0 115 (dk_at dksX3_either_0 13 rfl rfl)
theorem dX3_either_16 : decode cX3_either 16 = .ok (.pop, 1) := dk_87 (dk_at dksX3_either_0 16 rfl rfl)
theorem dX3_either_17 : decode cX3_either 17 = .ok (.aload_n 0, 1) := dk_42 (dk_at dksX3_either_0 17 rfl rfl)
theorem dX3_either_18 : decode cX3_either 18 = .ok (.getfield 25, 3) := dk_180 0 25 (dk_at dksX3_either_0 18 rfl rfl)
theorem dX3_either_21 : decode cX3_either 21 = .ok (.sipush 218, 3) := dk_17 0 218 (dk_at dksX3_either_0 21 rfl rfl)
theorem dX3_either_24 : decode cX3_either 24 = .ok (.if_icmp .ne 19, 3) := dk_160 0 19 (dk_at dksX3_either_1 0 rfl rfl)
theorem dX3_either_27 : decode cX3_either 27 = .ok (.aload_n 0, 1) := dk_42 (dk_at dksX3_either_1 3 rfl rfl)
theorem dX3_either_28 : decode cX3_either 28 = .ok (.invokevirtual 74, 3) := dk_182 0 74 (dk_at dksX3_either_1 4 rfl rfl)
theorem dX3_either_31 : decode cX3_either 31 = .ok (.aload_n 1, 1) := dk_43 (dk_at dksX3_either_1 7 rfl rfl)
theorem dX3_either_32 : decode cX3_either 32 = .ok (.aload_n 0, 1) := dk_42 (dk_at dksX3_either_1 8 rfl rfl)
theorem dX3_either_33 : decode cX3_either 33 = .ok (.invokevirtual 146, 3) := dk_182 0 146 (dk_at dksX3_either_1 9 rfl rfl)
theorem dX3_either_36 : decode cX3_either 36 = .ok (.invokevirtual 115, 3) := dk_182 0 115 (dk_at dksX3_either_1 12 rfl rfl)
theorem dX3_either_39 : decode cX3_either 39 = .ok (.pop, 1) := dk_87 (dk_at dksX3_either_1 15 rfl rfl)
theorem dX3_either_40 : decode cX3_either 40 = .ok (.goto (-23), 3) := dk_167 255 233 (dk_at dksX3_either_1 16 rfl rfl)
theorem dX3_either_43 : decode cX3_either 43 = .ok (.aload_n 1, 1) := dk_43 (dk_at dksX3_either_1 19 rfl rfl)
theorem dX3_either_44 : decode cX3_either 44 = .ok (.invokevirtual 149, 3) := dk_182 0 149 (dk_at dksX3_either_1 20 rfl rfl)
theorem dX3_either_47 : decode cX3_either 47 = .ok (.iconst 1, 1) := dk_4 (dk_at dksX3_either_1 23 rfl rfl)
theorem dX3_either_48 : decode cX3_either 48 = .ok (.if_icmp .ne 14, 3) := dk_160 0 14 (dk_at dksX3_either_2 0 rfl rfl)
theorem dX3_either_51 : decode cX3_either 51 = .ok (.aload_n 1, 1) := dk_43 (dk_at dksX3_either_2 3 rfl rfl)
theorem dX3_either_52 : decode cX3_either 52 = .ok (.iconst 0, 1) := dk_3 (dk_at dksX3_either_2 4 rfl rfl)
theorem dX3_either_53 : decode cX3_either 53 = .ok (.invokevirtual 151, 3) := dk_182 0 151 (dk_at dksX3_either_2 5 rfl rfl)
theorem dX3_either_56 : decode cX3_either 56 = .ok (.checkcast 126, 3) := dk_192 0 126 (dk_at dksX3_either_2 8 rfl rfl)
theorem dX3_either_59 : decode cX3_either 59 = .ok (.goto 12, 3) := dk_167 0 12 (dk_at dksX3_either_2 11 rfl rfl)
theorem dX3_either_62 : decode cX3_either 62 = .ok (.new 155, 3) := dk_187 0 155 (dk_at dksX3_either_2 14 rfl rfl)
theorem dX3_either_65 : decode cX3_either 65 = .ok (.dup, 1) := dk_89 (dk_at dksX3_either_2 17 rfl rfl)
theorem dX3_either_66 : decode cX3_either 66 = .ok (.iconst 0, 1) := dk_3 (dk_at dksX3_either_2 18 rfl rfl)
theorem dX3_either_67 : decode cX3_either 67 = .ok (.aload_n 1, 1) := dk_43 (dk_at dksX3_either_2 19 rfl rfl)
theorem dX3_either_68 : decode cX3_either 68 = .ok (.invokespecial 157, 3) := dk_183 0 157 (dk_at dksX3_either_2 20 rfl rfl)
theorem dX3_either_71 : decode cX3_either 71 = .ok (.areturn, 1) := dk_176 (dk_at dksX3_either_2 23 rfl rfl)
abbrev cX3_both : ByteArray := prog_17_method_15_code
def yX3_both : MethodName := ⟨RX3, "both", "()LSownByArgument$Asked;"⟩
def dkwX3_both_2 : List UInt8 := [160, 0, 14, 43, 3, 182, 0, 151, 192, 0, 126, 167, 0, 12, 187, 0, 155, 89, 4, 43, 183, 0, 157, 176]
abbrev dktX3_both_2 : List UInt8 := dkwX3_both_2 ++ []
def dkwX3_both_1 : List UInt8 := [160, 0, 19, 42, 182, 0, 74, 43, 42, 182, 0, 160, 182, 0, 115, 87, 167, 255, 233, 43, 182, 0, 149, 4]
abbrev dktX3_both_1 : List UInt8 := dkwX3_both_1 ++ dktX3_both_2
def dkwX3_both_0 : List UInt8 := [187, 0, 116, 89, 183, 0, 145, 76, 43, 42, 182, 0, 160, 182, 0, 115, 87, 42, 180, 0, 25, 17, 0, 219]
abbrev dktX3_both_0 : List UInt8 := dkwX3_both_0 ++ dktX3_both_1
theorem dksX3_both_0 : cX3_both.data.toList.drop 0 = dktX3_both_0 := by decide +kernel
theorem dksX3_both_1 : cX3_both.data.toList.drop 24 = dktX3_both_1 := dk_seg dksX3_both_0 24 rfl rfl
theorem dksX3_both_2 : cX3_both.data.toList.drop 48 = dktX3_both_2 := dk_seg dksX3_both_1 24 rfl rfl
theorem dX3_both_0 : decode cX3_both 0 = .ok (.new 116, 3) := dk_187 0 116 (dk_at dksX3_both_0 0 rfl rfl)
theorem dX3_both_3 : decode cX3_both 3 = .ok (.dup, 1) := dk_89 (dk_at dksX3_both_0 3 rfl rfl)
theorem dX3_both_4 : decode cX3_both 4 = .ok (.invokespecial 145, 3) := dk_183 0 145 (dk_at dksX3_both_0 4 rfl rfl)
theorem dX3_both_7 : decode cX3_both 7 = .ok (.astore_n 1, 1) := dk_76 (dk_at dksX3_both_0 7 rfl rfl)
theorem dX3_both_8 : decode cX3_both 8 = .ok (.aload_n 1, 1) := dk_43 (dk_at dksX3_both_0 8 rfl rfl)
theorem dX3_both_9 : decode cX3_both 9 = .ok (.aload_n 0, 1) := dk_42 (dk_at dksX3_both_0 9 rfl rfl)
theorem dX3_both_10 : decode cX3_both 10 = .ok (.invokevirtual 160, 3) := dk_182 0 160 (dk_at dksX3_both_0 10 rfl rfl)
theorem dX3_both_13 : decode cX3_both 13 = .ok (.invokevirtual 115, 3) := dk_182 0 115 (dk_at dksX3_both_0 13 rfl rfl)
theorem dX3_both_16 : decode cX3_both 16 = .ok (.pop, 1) := dk_87 (dk_at dksX3_both_0 16 rfl rfl)
theorem dX3_both_17 : decode cX3_both 17 = .ok (.aload_n 0, 1) := dk_42 (dk_at dksX3_both_0 17 rfl rfl)
theorem dX3_both_18 : decode cX3_both 18 = .ok (.getfield 25, 3) := dk_180 0 25 (dk_at dksX3_both_0 18 rfl rfl)
theorem dX3_both_21 : decode cX3_both 21 = .ok (.sipush 219, 3) := dk_17 0 219 (dk_at dksX3_both_0 21 rfl rfl)
theorem dX3_both_24 : decode cX3_both 24 = .ok (.if_icmp .ne 19, 3) := dk_160 0 19 (dk_at dksX3_both_1 0 rfl rfl)
theorem dX3_both_27 : decode cX3_both 27 = .ok (.aload_n 0, 1) := dk_42 (dk_at dksX3_both_1 3 rfl rfl)
theorem dX3_both_28 : decode cX3_both 28 = .ok (.invokevirtual 74, 3) := dk_182 0 74 (dk_at dksX3_both_1 4 rfl rfl)
theorem dX3_both_31 : decode cX3_both 31 = .ok (.aload_n 1, 1) := dk_43 (dk_at dksX3_both_1 7 rfl rfl)
theorem dX3_both_32 : decode cX3_both 32 = .ok (.aload_n 0, 1) := dk_42 (dk_at dksX3_both_1 8 rfl rfl)
theorem dX3_both_33 : decode cX3_both 33 = .ok (.invokevirtual 160, 3) := dk_182 0 160 (dk_at dksX3_both_1 9 rfl rfl)
theorem dX3_both_36 : decode cX3_both 36 = .ok (.invokevirtual 115, 3) := dk_182 0 115 (dk_at dksX3_both_1 12 rfl rfl)
theorem dX3_both_39 : decode cX3_both 39 = .ok (.pop, 1) := dk_87 (dk_at dksX3_both_1 15 rfl rfl)
theorem dX3_both_40 : decode cX3_both 40 = .ok (.goto (-23), 3) := dk_167 255 233 (dk_at dksX3_both_1 16 rfl rfl)
theorem dX3_both_43 : decode cX3_both 43 = .ok (.aload_n 1, 1) := dk_43 (dk_at dksX3_both_1 19 rfl rfl)
theorem dX3_both_44 : decode cX3_both 44 = .ok (.invokevirtual 149, 3) := dk_182 0 149 (dk_at dksX3_both_1 20 rfl rfl)
theorem dX3_both_47 : decode cX3_both 47 = .ok (.iconst 1, 1) := dk_4 (dk_at dksX3_both_1 23 rfl rfl)
theorem dX3_both_48 : decode cX3_both 48 = .ok (.if_icmp .ne 14, 3) := dk_160 0 14 (dk_at dksX3_both_2 0 rfl rfl)
theorem dX3_both_51 : decode cX3_both 51 = .ok (.aload_n 1, 1) := dk_43 (dk_at dksX3_both_2 3 rfl rfl)
theorem dX3_both_52 : decode cX3_both 52 = .ok (.iconst 0, 1) := dk_3 (dk_at dksX3_both_2 4 rfl rfl)
theorem dX3_both_53 : decode cX3_both 53 = .ok (.invokevirtual 151, 3) := dk_182 0 151 (dk_at dksX3_both_2 5 rfl rfl)
theorem dX3_both_56 : decode cX3_both 56 = .ok (.checkcast 126, 3) := dk_192 0 126 (dk_at dksX3_both_2 8 rfl rfl)
theorem dX3_both_59 : decode cX3_both 59 = .ok (.goto 12, 3) := dk_167 0 12 (dk_at dksX3_both_2 11 rfl rfl)
theorem dX3_both_62 : decode cX3_both 62 = .ok (.new 155, 3) := dk_187 0 155 (dk_at dksX3_both_2 14 rfl rfl)
theorem dX3_both_65 : decode cX3_both 65 = .ok (.dup, 1) := dk_89 (dk_at dksX3_both_2 17 rfl rfl)
theorem dX3_both_66 : decode cX3_both 66 = .ok (.iconst 1, 1) := dk_4 (dk_at dksX3_both_2 18 rfl rfl)
theorem dX3_both_67 : decode cX3_both 67 = .ok (.aload_n 1, 1) := dk_43 (dk_at dksX3_both_2 19 rfl rfl)
theorem dX3_both_68 : decode cX3_both 68 = .ok (.invokespecial 157, 3) := dk_183 0 157 (dk_at dksX3_both_2 20 rfl rfl)
theorem dX3_both_71 : decode cX3_both 71 = .ok (.areturn, 1) := dk_176 (dk_at dksX3_both_2 23 rfl rfl)
abbrev cX3_ask : ByteArray := prog_17_method_16_code
def yX3_ask : MethodName := ⟨RX3, "ask", "()LSownByArgument$Asked;"⟩
def dkwX3_ask_4 : List UInt8 := [191, 42, 182, 0, 74, 187, 0, 171, 89, 28, 43, 42, 182, 0, 103, 183, 0, 173, 176]
abbrev dktX3_ask_4 : List UInt8 := dkwX3_ask_4 ++ []
def dkwX3_ask_3 : List UInt8 := [16, 35, 159, 0, 23, 28, 17, 1, 47, 159, 0, 16, 28, 17, 1, 48, 159, 0, 9, 42, 4, 182, 0, 70]
abbrev dktX3_ask_3 : List UInt8 := dkwX3_ask_3 ++ dktX3_ask_4
def dkwX3_ask_2 : List UInt8 := [180, 0, 25, 61, 28, 16, 60, 159, 0, 41, 28, 16, 62, 159, 0, 35, 28, 16, 61, 159, 0, 29, 28]
abbrev dktX3_ask_2 : List UInt8 := dkwX3_ask_2 ++ dktX3_ask_3
def dkwX3_ask_1 : List UInt8 := [183, 0, 168, 76, 42, 89, 180, 0, 77, 4, 100, 181, 0, 77, 43, 176, 42, 182, 0, 103, 76, 42]
abbrev dktX3_ask_1 : List UInt8 := dkwX3_ask_1 ++ dktX3_ask_2
def dkwX3_ask_0 : List UInt8 := [42, 180, 0, 25, 17, 0, 220, 160, 0, 31, 42, 182, 0, 163, 187, 0, 166, 89, 42, 182, 0, 160]
abbrev dktX3_ask_0 : List UInt8 := dkwX3_ask_0 ++ dktX3_ask_1
theorem dksX3_ask_0 : cX3_ask.data.toList.drop 0 = dktX3_ask_0 := by decide +kernel
theorem dksX3_ask_1 : cX3_ask.data.toList.drop 22 = dktX3_ask_1 := dk_seg dksX3_ask_0 22 rfl rfl
theorem dksX3_ask_2 : cX3_ask.data.toList.drop 44 = dktX3_ask_2 := dk_seg dksX3_ask_1 22 rfl rfl
theorem dksX3_ask_3 : cX3_ask.data.toList.drop 67 = dktX3_ask_3 := dk_seg dksX3_ask_2 23 rfl rfl
theorem dksX3_ask_4 : cX3_ask.data.toList.drop 91 = dktX3_ask_4 := dk_seg dksX3_ask_3 24 rfl rfl
theorem dX3_ask_0 : decode cX3_ask 0 = .ok (.aload_n 0, 1) := dk_42 (dk_at dksX3_ask_0 0 rfl rfl)
theorem dX3_ask_1 : decode cX3_ask 1 = .ok (.getfield 25, 3) := dk_180 0 25 (dk_at dksX3_ask_0 1 rfl rfl)
theorem dX3_ask_4 : decode cX3_ask 4 = .ok (.sipush 220, 3) := dk_17 0 220 (dk_at dksX3_ask_0 4 rfl rfl)
theorem dX3_ask_7 : decode cX3_ask 7 = .ok (.if_icmp .ne 31, 3) := dk_160 0 31 (dk_at dksX3_ask_0 7 rfl rfl)
theorem dX3_ask_10 : decode cX3_ask 10 = .ok (.aload_n 0, 1) := dk_42 (dk_at dksX3_ask_0 10 rfl rfl)
theorem dX3_ask_11 : decode cX3_ask 11 = .ok (.invokevirtual 163, 3) := dk_182 0 163 (dk_at dksX3_ask_0 11 rfl rfl)
theorem dX3_ask_14 : decode cX3_ask 14 = .ok (.new 166, 3) := dk_187 0 166 (dk_at dksX3_ask_0 14 rfl rfl)
theorem dX3_ask_17 : decode cX3_ask 17 = .ok (.dup, 1) := dk_89 (dk_at dksX3_ask_0 17 rfl rfl)
theorem dX3_ask_18 : decode cX3_ask 18 = .ok (.aload_n 0, 1) := dk_42 (dk_at dksX3_ask_0 18 rfl rfl)
theorem dX3_ask_19 : decode cX3_ask 19 = .ok (.invokevirtual 160, 3) := dk_182 0 160 (dk_at dksX3_ask_0 19 rfl rfl)
theorem dX3_ask_22 : decode cX3_ask 22 = .ok (.invokespecial 168, 3) := dk_183 0 168 (dk_at dksX3_ask_1 0 rfl rfl)
theorem dX3_ask_25 : decode cX3_ask 25 = .ok (.astore_n 1, 1) := dk_76 (dk_at dksX3_ask_1 3 rfl rfl)
theorem dX3_ask_26 : decode cX3_ask 26 = .ok (.aload_n 0, 1) := dk_42 (dk_at dksX3_ask_1 4 rfl rfl)
theorem dX3_ask_27 : decode cX3_ask 27 = .ok (.dup, 1) := dk_89 (dk_at dksX3_ask_1 5 rfl rfl)
theorem dX3_ask_28 : decode cX3_ask 28 = .ok (.getfield 77, 3) := dk_180 0 77 (dk_at dksX3_ask_1 6 rfl rfl)
theorem dX3_ask_31 : decode cX3_ask 31 = .ok (.iconst 1, 1) := dk_4 (dk_at dksX3_ask_1 9 rfl rfl)
theorem dX3_ask_32 : decode cX3_ask 32 = .ok (.isub, 1) := dk_100 (dk_at dksX3_ask_1 10 rfl rfl)
theorem dX3_ask_33 : decode cX3_ask 33 = .ok (.putfield 77, 3) := dk_181 0 77 (dk_at dksX3_ask_1 11 rfl rfl)
theorem dX3_ask_36 : decode cX3_ask 36 = .ok (.aload_n 1, 1) := dk_43 (dk_at dksX3_ask_1 14 rfl rfl)
theorem dX3_ask_37 : decode cX3_ask 37 = .ok (.areturn, 1) := dk_176 (dk_at dksX3_ask_1 15 rfl rfl)
theorem dX3_ask_38 : decode cX3_ask 38 = .ok (.aload_n 0, 1) := dk_42 (dk_at dksX3_ask_1 16 rfl rfl)
theorem dX3_ask_39 : decode cX3_ask 39 = .ok (.invokevirtual 103, 3) := dk_182 0 103 (dk_at dksX3_ask_1 17 rfl rfl)
theorem dX3_ask_42 : decode cX3_ask 42 = .ok (.astore_n 1, 1) := dk_76 (dk_at dksX3_ask_1 20 rfl rfl)
theorem dX3_ask_43 : decode cX3_ask 43 = .ok (.aload_n 0, 1) := dk_42 (dk_at dksX3_ask_1 21 rfl rfl)
theorem dX3_ask_44 : decode cX3_ask 44 = .ok (.getfield 25, 3) := dk_180 0 25 (dk_at dksX3_ask_2 0 rfl rfl)
theorem dX3_ask_47 : decode cX3_ask 47 = .ok (.istore_n 2, 1) := dk_61 (dk_at dksX3_ask_2 3 rfl rfl)
theorem dX3_ask_48 : decode cX3_ask 48 = .ok (.iload_n 2, 1) := dk_28 (dk_at dksX3_ask_2 4 rfl rfl)
theorem dX3_ask_49 : decode cX3_ask 49 = .ok (.bipush 60, 2) := dk_16 60 (dk_at dksX3_ask_2 5 rfl rfl)
theorem dX3_ask_51 : decode cX3_ask 51 = .ok (.if_icmp .eq 41, 3) := dk_159 0 41 (dk_at dksX3_ask_2 7 rfl rfl)
theorem dX3_ask_54 : decode cX3_ask 54 = .ok (.iload_n 2, 1) := dk_28 (dk_at dksX3_ask_2 10 rfl rfl)
theorem dX3_ask_55 : decode cX3_ask 55 = .ok (.bipush 62, 2) := dk_16 62 (dk_at dksX3_ask_2 11 rfl rfl)
theorem dX3_ask_57 : decode cX3_ask 57 = .ok (.if_icmp .eq 35, 3) := dk_159 0 35 (dk_at dksX3_ask_2 13 rfl rfl)
theorem dX3_ask_60 : decode cX3_ask 60 = .ok (.iload_n 2, 1) := dk_28 (dk_at dksX3_ask_2 16 rfl rfl)
theorem dX3_ask_61 : decode cX3_ask 61 = .ok (.bipush 61, 2) := dk_16 61 (dk_at dksX3_ask_2 17 rfl rfl)
theorem dX3_ask_63 : decode cX3_ask 63 = .ok (.if_icmp .eq 29, 3) := dk_159 0 29 (dk_at dksX3_ask_2 19 rfl rfl)
theorem dX3_ask_66 : decode cX3_ask 66 = .ok (.iload_n 2, 1) := dk_28 (dk_at dksX3_ask_2 22 rfl rfl)
theorem dX3_ask_67 : decode cX3_ask 67 = .ok (.bipush 35, 2) := dk_16 35 (dk_at dksX3_ask_3 0 rfl rfl)
theorem dX3_ask_69 : decode cX3_ask 69 = .ok (.if_icmp .eq 23, 3) := dk_159 0 23 (dk_at dksX3_ask_3 2 rfl rfl)
theorem dX3_ask_72 : decode cX3_ask 72 = .ok (.iload_n 2, 1) := dk_28 (dk_at dksX3_ask_3 5 rfl rfl)
theorem dX3_ask_73 : decode cX3_ask 73 = .ok (.sipush 303, 3) := dk_17 1 47 (dk_at dksX3_ask_3 6 rfl rfl)
theorem dX3_ask_76 : decode cX3_ask 76 = .ok (.if_icmp .eq 16, 3) := dk_159 0 16 (dk_at dksX3_ask_3 9 rfl rfl)
theorem dX3_ask_79 : decode cX3_ask 79 = .ok (.iload_n 2, 1) := dk_28 (dk_at dksX3_ask_3 12 rfl rfl)
theorem dX3_ask_80 : decode cX3_ask 80 = .ok (.sipush 304, 3) := dk_17 1 48 (dk_at dksX3_ask_3 13 rfl rfl)
theorem dX3_ask_83 : decode cX3_ask 83 = .ok (.if_icmp .eq 9, 3) := dk_159 0 9 (dk_at dksX3_ask_3 16 rfl rfl)
theorem dX3_ask_86 : decode cX3_ask 86 = .ok (.aload_n 0, 1) := dk_42 (dk_at dksX3_ask_3 19 rfl rfl)
theorem dX3_ask_87 : decode cX3_ask 87 = .ok (.iconst 1, 1) := dk_4 (dk_at dksX3_ask_3 20 rfl rfl)
theorem dX3_ask_88 : decode cX3_ask 88 = .ok (.invokevirtual 70, 3) := dk_182 0 70 (dk_at dksX3_ask_3 21 rfl rfl)
theorem dX3_ask_91 : decode cX3_ask 91 = .ok (.athrow, 1) := dk_191 (dk_at dksX3_ask_4 0 rfl rfl)
theorem dX3_ask_92 : decode cX3_ask 92 = .ok (.aload_n 0, 1) := dk_42 (dk_at dksX3_ask_4 1 rfl rfl)
theorem dX3_ask_93 : decode cX3_ask 93 = .ok (.invokevirtual 74, 3) := dk_182 0 74 (dk_at dksX3_ask_4 2 rfl rfl)
theorem dX3_ask_96 : decode cX3_ask 96 = .ok (.new 171, 3) := dk_187 0 171 (dk_at dksX3_ask_4 5 rfl rfl)
theorem dX3_ask_99 : decode cX3_ask 99 = .ok (.dup, 1) := dk_89 (dk_at dksX3_ask_4 8 rfl rfl)
theorem dX3_ask_100 : decode cX3_ask 100 = .ok (.iload_n 2, 1) := dk_28 (dk_at dksX3_ask_4 9 rfl rfl)
theorem dX3_ask_101 : decode cX3_ask 101 = .ok (.aload_n 1, 1) := dk_43 (dk_at dksX3_ask_4 10 rfl rfl)
theorem dX3_ask_102 : decode cX3_ask 102 = .ok (.aload_n 0, 1) := dk_42 (dk_at dksX3_ask_4 11 rfl rfl)
theorem dX3_ask_103 : decode cX3_ask 103 = .ok (.invokevirtual 103, 3) := dk_182 0 103 (dk_at dksX3_ask_4 12 rfl rfl)
theorem dX3_ask_106 : decode cX3_ask 106 = .ok (.invokespecial 173, 3) := dk_183 0 173 (dk_at dksX3_ask_4 15 rfl rfl)
theorem dX3_ask_109 : decode cX3_ask 109 = .ok (.areturn, 1) := dk_176 (dk_at dksX3_ask_4 18 rfl rfl)
abbrev cX3_opens : ByteArray := prog_17_method_9_code
def yX3_opens : MethodName := ⟨RX3, "opens", "()V"⟩
def dkwX3_opens_1 : List UInt8 := [181, 0, 77, 42, 182, 0, 74, 177]
abbrev dktX3_opens_1 : List UInt8 := dkwX3_opens_1 ++ []
def dkwX3_opens_0 : List UInt8 := [42, 180, 0, 77, 16, 8, 160, 0, 9, 42, 6, 182, 0, 70, 191, 42, 89, 180, 0, 77, 4, 96]
abbrev dktX3_opens_0 : List UInt8 := dkwX3_opens_0 ++ dktX3_opens_1
theorem dksX3_opens_0 : cX3_opens.data.toList.drop 0 = dktX3_opens_0 := by decide +kernel
theorem dksX3_opens_1 : cX3_opens.data.toList.drop 22 = dktX3_opens_1 := dk_seg dksX3_opens_0 22 rfl rfl
theorem dX3_opens_0 : decode cX3_opens 0 = .ok (.aload_n 0, 1) := dk_42 (dk_at dksX3_opens_0 0 rfl rfl)
theorem dX3_opens_1 : decode cX3_opens 1 = .ok (.getfield 77, 3) := dk_180 0 77 (dk_at dksX3_opens_0 1 rfl rfl)
theorem dX3_opens_4 : decode cX3_opens 4 = .ok (.bipush 8, 2) := dk_16 8 (dk_at dksX3_opens_0 4 rfl rfl)
theorem dX3_opens_6 : decode cX3_opens 6 = .ok (.if_icmp .ne 9, 3) := dk_160 0 9 (dk_at dksX3_opens_0 6 rfl rfl)
theorem dX3_opens_9 : decode cX3_opens 9 = .ok (.aload_n 0, 1) := dk_42 (dk_at dksX3_opens_0 9 rfl rfl)
theorem dX3_opens_10 : decode cX3_opens 10 = .ok (.iconst 3, 1) := dk_6 (dk_at dksX3_opens_0 10 rfl rfl)
theorem dX3_opens_11 : decode cX3_opens 11 = .ok (.invokevirtual 70, 3) := dk_182 0 70 (dk_at dksX3_opens_0 11 rfl rfl)
theorem dX3_opens_14 : decode cX3_opens 14 = .ok (.athrow, 1) := dk_191 (dk_at dksX3_opens_0 14 rfl rfl)
theorem dX3_opens_15 : decode cX3_opens 15 = .ok (.aload_n 0, 1) := dk_42 (dk_at dksX3_opens_0 15 rfl rfl)
theorem dX3_opens_16 : decode cX3_opens 16 = .ok (.dup, 1) := dk_89 (dk_at dksX3_opens_0 16 rfl rfl)
theorem dX3_opens_17 : decode cX3_opens 17 = .ok (.getfield 77, 3) := dk_180 0 77 (dk_at dksX3_opens_0 17 rfl rfl)
theorem dX3_opens_20 : decode cX3_opens 20 = .ok (.iconst 1, 1) := dk_4 (dk_at dksX3_opens_0 20 rfl rfl)
theorem dX3_opens_21 : decode cX3_opens 21 = .ok (.iadd, 1) := dk_96 (dk_at dksX3_opens_0 21 rfl rfl)
theorem dX3_opens_22 : decode cX3_opens 22 = .ok (.putfield 77, 3) := dk_181 0 77 (dk_at dksX3_opens_1 0 rfl rfl)
theorem dX3_opens_25 : decode cX3_opens 25 = .ok (.aload_n 0, 1) := dk_42 (dk_at dksX3_opens_1 3 rfl rfl)
theorem dX3_opens_26 : decode cX3_opens 26 = .ok (.invokevirtual 74, 3) := dk_182 0 74 (dk_at dksX3_opens_1 4 rfl rfl)
theorem dX3_opens_29 : decode cX3_opens 29 = .ok (.return_, 1) := dk_177 (dk_at dksX3_opens_1 7 rfl rfl)
abbrev cX3_sum : ByteArray := prog_17_method_17_code
def yX3_sum : MethodName := ⟨RX3, "sum", "()LSownByArgument$Sum;"⟩
def dkwX3_sum_2 : List UInt8 := [182, 0, 184, 167, 255, 220, 43, 182, 0, 187, 176]
abbrev dktX3_sum_2 : List UInt8 := dkwX3_sum_2 ++ []
def dkwX3_sum_1 : List UInt8 := [180, 0, 25, 16, 45, 160, 0, 24, 42, 180, 0, 25, 61, 42, 182, 0, 74, 43, 28, 42, 182, 0, 178]
abbrev dktX3_sum_1 : List UInt8 := dkwX3_sum_1 ++ dktX3_sum_2
def dkwX3_sum_0 : List UInt8 := [187, 0, 176, 89, 42, 182, 0, 178, 183, 0, 181, 76, 42, 180, 0, 25, 16, 43, 159, 0, 12, 42]
abbrev dktX3_sum_0 : List UInt8 := dkwX3_sum_0 ++ dktX3_sum_1
theorem dksX3_sum_0 : cX3_sum.data.toList.drop 0 = dktX3_sum_0 := by decide +kernel
theorem dksX3_sum_1 : cX3_sum.data.toList.drop 22 = dktX3_sum_1 := dk_seg dksX3_sum_0 22 rfl rfl
theorem dksX3_sum_2 : cX3_sum.data.toList.drop 45 = dktX3_sum_2 := dk_seg dksX3_sum_1 23 rfl rfl
theorem dX3_sum_0 : decode cX3_sum 0 = .ok (.new 176, 3) := dk_187 0 176 (dk_at dksX3_sum_0 0 rfl rfl)
theorem dX3_sum_3 : decode cX3_sum 3 = .ok (.dup, 1) := dk_89 (dk_at dksX3_sum_0 3 rfl rfl)
theorem dX3_sum_4 : decode cX3_sum 4 = .ok (.aload_n 0, 1) := dk_42 (dk_at dksX3_sum_0 4 rfl rfl)
theorem dX3_sum_5 : decode cX3_sum 5 = .ok (.invokevirtual 178, 3) := dk_182 0 178 (dk_at dksX3_sum_0 5 rfl rfl)
theorem dX3_sum_8 : decode cX3_sum 8 = .ok (.invokespecial 181, 3) := dk_183 0 181 (dk_at dksX3_sum_0 8 rfl rfl)
theorem dX3_sum_11 : decode cX3_sum 11 = .ok (.astore_n 1, 1) := dk_76 (dk_at dksX3_sum_0 11 rfl rfl)
theorem dX3_sum_12 : decode cX3_sum 12 = .ok (.aload_n 0, 1) := dk_42 (dk_at dksX3_sum_0 12 rfl rfl)
theorem dX3_sum_13 : decode cX3_sum 13 = .ok (.getfield 25, 3) := dk_180 0 25 (dk_at dksX3_sum_0 13 rfl rfl)
theorem dX3_sum_16 : decode cX3_sum 16 = .ok (.bipush 43, 2) := dk_16 43 (dk_at dksX3_sum_0 16 rfl rfl)
theorem dX3_sum_18 : decode cX3_sum 18 = .ok (.if_icmp .eq 12, 3) := dk_159 0 12 (dk_at dksX3_sum_0 18 rfl rfl)
theorem dX3_sum_21 : decode cX3_sum 21 = .ok (.aload_n 0, 1) := dk_42 (dk_at dksX3_sum_0 21 rfl rfl)
theorem dX3_sum_22 : decode cX3_sum 22 = .ok (.getfield 25, 3) := dk_180 0 25 (dk_at dksX3_sum_1 0 rfl rfl)
theorem dX3_sum_25 : decode cX3_sum 25 = .ok (.bipush 45, 2) := dk_16 45 (dk_at dksX3_sum_1 3 rfl rfl)
theorem dX3_sum_27 : decode cX3_sum 27 = .ok (.if_icmp .ne 24, 3) := dk_160 0 24 (dk_at dksX3_sum_1 5 rfl rfl)
theorem dX3_sum_30 : decode cX3_sum 30 = .ok (.aload_n 0, 1) := dk_42 (dk_at dksX3_sum_1 8 rfl rfl)
theorem dX3_sum_31 : decode cX3_sum 31 = .ok (.getfield 25, 3) := dk_180 0 25 (dk_at dksX3_sum_1 9 rfl rfl)
theorem dX3_sum_34 : decode cX3_sum 34 = .ok (.istore_n 2, 1) := dk_61 (dk_at dksX3_sum_1 12 rfl rfl)
theorem dX3_sum_35 : decode cX3_sum 35 = .ok (.aload_n 0, 1) := dk_42 (dk_at dksX3_sum_1 13 rfl rfl)
theorem dX3_sum_36 : decode cX3_sum 36 = .ok (.invokevirtual 74, 3) := dk_182 0 74 (dk_at dksX3_sum_1 14 rfl rfl)
theorem dX3_sum_39 : decode cX3_sum 39 = .ok (.aload_n 1, 1) := dk_43 (dk_at dksX3_sum_1 17 rfl rfl)
theorem dX3_sum_40 : decode cX3_sum 40 = .ok (.iload_n 2, 1) := dk_28 (dk_at dksX3_sum_1 18 rfl rfl)
theorem dX3_sum_41 : decode cX3_sum 41 = .ok (.aload_n 0, 1) := dk_42 (dk_at dksX3_sum_1 19 rfl rfl)
theorem dX3_sum_42 : decode cX3_sum 42 = .ok (.invokevirtual 178, 3) := dk_182 0 178 (dk_at dksX3_sum_1 20 rfl rfl)
theorem dX3_sum_45 : decode cX3_sum 45 = .ok (.invokevirtual 184, 3) := dk_182 0 184 (dk_at dksX3_sum_2 0 rfl rfl)
theorem dX3_sum_48 : decode cX3_sum 48 = .ok (.goto (-36), 3) := dk_167 255 220 (dk_at dksX3_sum_2 3 rfl rfl)
theorem dX3_sum_51 : decode cX3_sum 51 = .ok (.aload_n 1, 1) := dk_43 (dk_at dksX3_sum_2 6 rfl rfl)
theorem dX3_sum_52 : decode cX3_sum 52 = .ok (.invokevirtual 187, 3) := dk_182 0 187 (dk_at dksX3_sum_2 7 rfl rfl)
theorem dX3_sum_55 : decode cX3_sum 55 = .ok (.areturn, 1) := dk_176 (dk_at dksX3_sum_2 10 rfl rfl)
abbrev cX3_product : ByteArray := prog_17_method_18_code
def yX3_product : MethodName := ⟨RX3, "product", "()LSownByArgument$Sum;"⟩
def dkwX3_product_2 : List UInt8 := [182, 0, 184, 167, 255, 220, 43, 182, 0, 187, 176]
abbrev dktX3_product_2 : List UInt8 := dkwX3_product_2 ++ []
def dkwX3_product_1 : List UInt8 := [180, 0, 25, 16, 47, 160, 0, 24, 42, 180, 0, 25, 61, 42, 182, 0, 74, 43, 28, 42, 182, 0, 190]
abbrev dktX3_product_1 : List UInt8 := dkwX3_product_1 ++ dktX3_product_2
def dkwX3_product_0 : List UInt8 := [187, 0, 176, 89, 42, 182, 0, 190, 183, 0, 181, 76, 42, 180, 0, 25, 16, 42, 159, 0, 12, 42]
abbrev dktX3_product_0 : List UInt8 := dkwX3_product_0 ++ dktX3_product_1
theorem dksX3_product_0 : cX3_product.data.toList.drop 0 = dktX3_product_0 := by decide +kernel
theorem dksX3_product_1 : cX3_product.data.toList.drop 22 = dktX3_product_1 := dk_seg dksX3_product_0 22 rfl rfl
theorem dksX3_product_2 : cX3_product.data.toList.drop 45 = dktX3_product_2 := dk_seg dksX3_product_1 23 rfl rfl
theorem dX3_product_0 : decode cX3_product 0 = .ok (.new 176, 3) := dk_187 0 176 (dk_at dksX3_product_0 0 rfl rfl)
theorem dX3_product_3 : decode cX3_product 3 = .ok (.dup, 1) := dk_89 (dk_at dksX3_product_0 3 rfl rfl)
theorem dX3_product_4 : decode cX3_product 4 = .ok (.aload_n 0, 1) := dk_42 (dk_at dksX3_product_0 4 rfl rfl)
theorem dX3_product_5 : decode cX3_product 5 = .ok (.invokevirtual 190, 3) := dk_182 0 190 (dk_at dksX3_product_0 5 rfl rfl)
theorem dX3_product_8 : decode cX3_product 8 = .ok (.invokespecial 181, 3) := dk_183 0 181 (dk_at dksX3_product_0 8 rfl rfl)
theorem dX3_product_11 : decode cX3_product 11 = .ok (.astore_n 1, 1) := dk_76 (dk_at dksX3_product_0 11 rfl rfl)
theorem dX3_product_12 : decode cX3_product 12 = .ok (.aload_n 0, 1) := dk_42 (dk_at dksX3_product_0 12 rfl rfl)
theorem dX3_product_13 : decode cX3_product 13 = .ok (.getfield 25, 3) := dk_180 0 25 (dk_at dksX3_product_0 13 rfl rfl)
theorem dX3_product_16 : decode cX3_product 16 = .ok (.bipush 42, 2) := dk_16 42 (dk_at dksX3_product_0 16 rfl rfl)
theorem dX3_product_18 : decode cX3_product 18 = .ok (.if_icmp .eq 12, 3) := dk_159 0 12 (dk_at dksX3_product_0 18 rfl rfl)
theorem dX3_product_21 : decode cX3_product 21 = .ok (.aload_n 0, 1) := dk_42 (dk_at dksX3_product_0 21 rfl rfl)
theorem dX3_product_22 : decode cX3_product 22 = .ok (.getfield 25, 3) := dk_180 0 25 (dk_at dksX3_product_1 0 rfl rfl)
theorem dX3_product_25 : decode cX3_product 25 = .ok (.bipush 47, 2) := dk_16 47 (dk_at dksX3_product_1 3 rfl rfl)
theorem dX3_product_27 : decode cX3_product 27 = .ok (.if_icmp .ne 24, 3) := dk_160 0 24 (dk_at dksX3_product_1 5 rfl rfl)
theorem dX3_product_30 : decode cX3_product 30 = .ok (.aload_n 0, 1) := dk_42 (dk_at dksX3_product_1 8 rfl rfl)
theorem dX3_product_31 : decode cX3_product 31 = .ok (.getfield 25, 3) := dk_180 0 25 (dk_at dksX3_product_1 9 rfl rfl)
theorem dX3_product_34 : decode cX3_product 34 = .ok (.istore_n 2, 1) := dk_61 (dk_at dksX3_product_1 12 rfl rfl)
theorem dX3_product_35 : decode cX3_product 35 = .ok (.aload_n 0, 1) := dk_42 (dk_at dksX3_product_1 13 rfl rfl)
theorem dX3_product_36 : decode cX3_product 36 = .ok (.invokevirtual 74, 3) := dk_182 0 74 (dk_at dksX3_product_1 14 rfl rfl)
theorem dX3_product_39 : decode cX3_product 39 = .ok (.aload_n 1, 1) := dk_43 (dk_at dksX3_product_1 17 rfl rfl)
theorem dX3_product_40 : decode cX3_product 40 = .ok (.iload_n 2, 1) := dk_28 (dk_at dksX3_product_1 18 rfl rfl)
theorem dX3_product_41 : decode cX3_product 41 = .ok (.aload_n 0, 1) := dk_42 (dk_at dksX3_product_1 19 rfl rfl)
theorem dX3_product_42 : decode cX3_product 42 = .ok (.invokevirtual 190, 3) := dk_182 0 190 (dk_at dksX3_product_1 20 rfl rfl)
theorem dX3_product_45 : decode cX3_product 45 = .ok (.invokevirtual 184, 3) := dk_182 0 184 (dk_at dksX3_product_2 0 rfl rfl)
theorem dX3_product_48 : decode cX3_product 48 = .ok (.goto (-36), 3) := dk_167 255 220 (dk_at dksX3_product_2 3 rfl rfl)
theorem dX3_product_51 : decode cX3_product 51 = .ok (.aload_n 1, 1) := dk_43 (dk_at dksX3_product_2 6 rfl rfl)
theorem dX3_product_52 : decode cX3_product 52 = .ok (.invokevirtual 187, 3) := dk_182 0 187 (dk_at dksX3_product_2 7 rfl rfl)
theorem dX3_product_55 : decode cX3_product 55 = .ok (.areturn, 1) := dk_176 (dk_at dksX3_product_2 10 rfl rfl)
abbrev cX3_one : ByteArray := prog_17_method_23_code
def yX3_one : MethodName := ⟨RX3, "one", "()LSownByArgument$Sum;"⟩
def dkwX3_one_8 : List UInt8 := [77, 167, 0, 9, 42, 4, 182, 0, 70, 191, 42, 89, 180, 0, 77, 4, 100, 181, 0, 77, 44, 176]
abbrev dktX3_one_8 : List UInt8 := dkwX3_one_8 ++ []
def dkwX3_one_7 : List UInt8 := [160, 0, 15, 187, 0, 225, 89, 25, 4, 183, 0, 227, 167, 0, 12, 187, 0, 228, 89, 25, 4, 183, 0, 230]
abbrev dktX3_one_7 : List UInt8 := dkwX3_one_7 ++ dktX3_one_8
def dkwX3_one_6 : List UInt8 := [160, 0, 50, 42, 180, 0, 25, 62, 42, 182, 0, 163, 42, 182, 0, 190, 58, 4, 29, 17, 0, 213]
abbrev dktX3_one_6 : List UInt8 := dkwX3_one_6 ++ dktX3_one_7
def dkwX3_one_5 : List UInt8 := [182, 0, 121, 167, 0, 75, 42, 180, 0, 25, 16, 45, 159, 0, 13, 42, 180, 0, 25, 17, 0, 213]
abbrev dktX3_one_5 : List UInt8 := dkwX3_one_5 ++ dktX3_one_6
def dkwX3_one_4 : List UInt8 := [176, 42, 180, 0, 25, 16, 40, 160, 0, 21, 42, 182, 0, 163, 42, 182, 0, 103, 77, 42, 16, 41]
abbrev dktX3_one_4 : List UInt8 := dkwX3_one_4 ++ dktX3_one_5
def dkwX3_one_3 : List UInt8 := [182, 0, 219, 154, 0, 9, 42, 8, 182, 0, 70, 191, 42, 182, 0, 74, 187, 0, 222, 89, 27, 183, 0, 224]
abbrev dktX3_one_3 : List UInt8 := dkwX3_one_3 ++ dktX3_one_4
def dkwX3_one_2 : List UInt8 := [17, 0, 211, 160, 0, 8, 42, 182, 0, 213, 176, 42, 182, 0, 216, 60, 27, 2, 159, 0, 30, 42, 27]
abbrev dktX3_one_2 : List UInt8 := dkwX3_one_2 ++ dktX3_one_3
def dkwX3_one_1 : List UInt8 := [183, 0, 208, 176, 42, 180, 0, 25, 17, 0, 214, 160, 0, 8, 42, 182, 0, 210, 176, 42, 180, 0, 25]
abbrev dktX3_one_1 : List UInt8 := dkwX3_one_1 ++ dktX3_one_2
def dkwX3_one_0 : List UInt8 := [42, 180, 0, 25, 17, 1, 44, 160, 0, 19, 187, 0, 206, 89, 42, 3, 17, 39, 15, 182, 0, 135]
abbrev dktX3_one_0 : List UInt8 := dkwX3_one_0 ++ dktX3_one_1
theorem dksX3_one_0 : cX3_one.data.toList.drop 0 = dktX3_one_0 := by decide +kernel
theorem dksX3_one_1 : cX3_one.data.toList.drop 22 = dktX3_one_1 := dk_seg dksX3_one_0 22 rfl rfl
theorem dksX3_one_2 : cX3_one.data.toList.drop 45 = dktX3_one_2 := dk_seg dksX3_one_1 23 rfl rfl
theorem dksX3_one_3 : cX3_one.data.toList.drop 68 = dktX3_one_3 := dk_seg dksX3_one_2 23 rfl rfl
theorem dksX3_one_4 : cX3_one.data.toList.drop 92 = dktX3_one_4 := dk_seg dksX3_one_3 24 rfl rfl
theorem dksX3_one_5 : cX3_one.data.toList.drop 114 = dktX3_one_5 := dk_seg dksX3_one_4 22 rfl rfl
theorem dksX3_one_6 : cX3_one.data.toList.drop 136 = dktX3_one_6 := dk_seg dksX3_one_5 22 rfl rfl
theorem dksX3_one_7 : cX3_one.data.toList.drop 158 = dktX3_one_7 := dk_seg dksX3_one_6 22 rfl rfl
theorem dksX3_one_8 : cX3_one.data.toList.drop 182 = dktX3_one_8 := dk_seg dksX3_one_7 24 rfl rfl
theorem dX3_one_0 : decode cX3_one 0 = .ok (.aload_n 0, 1) := dk_42 (dk_at dksX3_one_0 0 rfl rfl)
theorem dX3_one_1 : decode cX3_one 1 = .ok (.getfield 25, 3) := dk_180 0 25 (dk_at dksX3_one_0 1 rfl rfl)
theorem dX3_one_4 : decode cX3_one 4 = .ok (.sipush 300, 3) := dk_17 1 44 (dk_at dksX3_one_0 4 rfl rfl)
theorem dX3_one_7 : decode cX3_one 7 = .ok (.if_icmp .ne 19, 3) := dk_160 0 19 (dk_at dksX3_one_0 7 rfl rfl)
theorem dX3_one_10 : decode cX3_one 10 = .ok (.new 206, 3) := dk_187 0 206 (dk_at dksX3_one_0 10 rfl rfl)
theorem dX3_one_13 : decode cX3_one 13 = .ok (.dup, 1) := dk_89 (dk_at dksX3_one_0 13 rfl rfl)
theorem dX3_one_14 : decode cX3_one 14 = .ok (.aload_n 0, 1) := dk_42 (dk_at dksX3_one_0 14 rfl rfl)
theorem dX3_one_15 : decode cX3_one 15 = .ok (.iconst 0, 1) := dk_3 (dk_at dksX3_one_0 15 rfl rfl)
theorem dX3_one_16 : decode cX3_one 16 = .ok (.sipush 9999, 3) := dk_17 39 15 (dk_at dksX3_one_0 16 rfl rfl)
theorem dX3_one_19 : decode cX3_one 19 = .ok (.invokevirtual 135, 3) := dk_182 0 135 (dk_at dksX3_one_0 19 rfl rfl)
theorem dX3_one_22 : decode cX3_one 22 = .ok (.invokespecial 208, 3) := dk_183 0 208 (dk_at dksX3_one_1 0 rfl rfl)
theorem dX3_one_25 : decode cX3_one 25 = .ok (.areturn, 1) := dk_176 (dk_at dksX3_one_1 3 rfl rfl)
theorem dX3_one_26 : decode cX3_one 26 = .ok (.aload_n 0, 1) := dk_42 (dk_at dksX3_one_1 4 rfl rfl)
theorem dX3_one_27 : decode cX3_one 27 = .ok (.getfield 25, 3) := dk_180 0 25 (dk_at dksX3_one_1 5 rfl rfl)
theorem dX3_one_30 : decode cX3_one 30 = .ok (.sipush 214, 3) := dk_17 0 214 (dk_at dksX3_one_1 8 rfl rfl)
theorem dX3_one_33 : decode cX3_one 33 = .ok (.if_icmp .ne 8, 3) := dk_160 0 8 (dk_at dksX3_one_1 11 rfl rfl)
theorem dX3_one_36 : decode cX3_one 36 = .ok (.aload_n 0, 1) := dk_42 (dk_at dksX3_one_1 14 rfl rfl)
theorem dX3_one_37 : decode cX3_one 37 = .ok (.invokevirtual 210, 3) := dk_182 0 210 (dk_at dksX3_one_1 15 rfl rfl)
theorem dX3_one_40 : decode cX3_one 40 = .ok (.areturn, 1) := dk_176 (dk_at dksX3_one_1 18 rfl rfl)
theorem dX3_one_41 : decode cX3_one 41 = .ok (.aload_n 0, 1) := dk_42 (dk_at dksX3_one_1 19 rfl rfl)
theorem dX3_one_42 : decode cX3_one 42 = .ok (.getfield 25, 3) := dk_180 0 25 (dk_at dksX3_one_1 20 rfl rfl)
theorem dX3_one_45 : decode cX3_one 45 = .ok (.sipush 211, 3) := dk_17 0 211 (dk_at dksX3_one_2 0 rfl rfl)
theorem dX3_one_48 : decode cX3_one 48 = .ok (.if_icmp .ne 8, 3) := dk_160 0 8 (dk_at dksX3_one_2 3 rfl rfl)
theorem dX3_one_51 : decode cX3_one 51 = .ok (.aload_n 0, 1) := dk_42 (dk_at dksX3_one_2 6 rfl rfl)
theorem dX3_one_52 : decode cX3_one 52 = .ok (.invokevirtual 213, 3) := dk_182 0 213 (dk_at dksX3_one_2 7 rfl rfl)
theorem dX3_one_55 : decode cX3_one 55 = .ok (.areturn, 1) := dk_176 (dk_at dksX3_one_2 10 rfl rfl)
theorem dX3_one_56 : decode cX3_one 56 = .ok (.aload_n 0, 1) := dk_42 (dk_at dksX3_one_2 11 rfl rfl)
theorem dX3_one_57 : decode cX3_one 57 = .ok (.invokevirtual 216, 3) := dk_182 0 216 (dk_at dksX3_one_2 12 rfl rfl)
theorem dX3_one_60 : decode cX3_one 60 = .ok (.istore_n 1, 1) := dk_60 (dk_at dksX3_one_2 15 rfl rfl)
theorem dX3_one_61 : decode cX3_one 61 = .ok (.iload_n 1, 1) := dk_27 (dk_at dksX3_one_2 16 rfl rfl)
theorem dX3_one_62 : decode cX3_one 62 = .ok (.iconst (-1), 1) := dk_2 (dk_at dksX3_one_2 17 rfl rfl)
theorem dX3_one_63 : decode cX3_one 63 = .ok (.if_icmp .eq 30, 3) := dk_159 0 30 (dk_at dksX3_one_2 18 rfl rfl)
theorem dX3_one_66 : decode cX3_one 66 = .ok (.aload_n 0, 1) := dk_42 (dk_at dksX3_one_2 21 rfl rfl)
theorem dX3_one_67 : decode cX3_one 67 = .ok (.iload_n 1, 1) := dk_27 (dk_at dksX3_one_2 22 rfl rfl)
theorem dX3_one_68 : decode cX3_one 68 = .ok (.invokevirtual 219, 3) := dk_182 0 219 (dk_at dksX3_one_3 0 rfl rfl)
theorem dX3_one_71 : decode cX3_one 71 = .ok (.ifCond .ne 9, 3) := dk_154 0 9 (dk_at dksX3_one_3 3 rfl rfl)
theorem dX3_one_74 : decode cX3_one 74 = .ok (.aload_n 0, 1) := dk_42 (dk_at dksX3_one_3 6 rfl rfl)
theorem dX3_one_75 : decode cX3_one 75 = .ok (.iconst 5, 1) := dk_8 (dk_at dksX3_one_3 7 rfl rfl)
theorem dX3_one_76 : decode cX3_one 76 = .ok (.invokevirtual 70, 3) := dk_182 0 70 (dk_at dksX3_one_3 8 rfl rfl)
theorem dX3_one_79 : decode cX3_one 79 = .ok (.athrow, 1) := dk_191 (dk_at dksX3_one_3 11 rfl rfl)
theorem dX3_one_80 : decode cX3_one 80 = .ok (.aload_n 0, 1) := dk_42 (dk_at dksX3_one_3 12 rfl rfl)
theorem dX3_one_81 : decode cX3_one 81 = .ok (.invokevirtual 74, 3) := dk_182 0 74 (dk_at dksX3_one_3 13 rfl rfl)
theorem dX3_one_84 : decode cX3_one 84 = .ok (.new 222, 3) := dk_187 0 222 (dk_at dksX3_one_3 16 rfl rfl)
theorem dX3_one_87 : decode cX3_one 87 = .ok (.dup, 1) := dk_89 (dk_at dksX3_one_3 19 rfl rfl)
theorem dX3_one_88 : decode cX3_one 88 = .ok (.iload_n 1, 1) := dk_27 (dk_at dksX3_one_3 20 rfl rfl)
theorem dX3_one_89 : decode cX3_one 89 = .ok (.invokespecial 224, 3) := dk_183 0 224 (dk_at dksX3_one_3 21 rfl rfl)
theorem dX3_one_92 : decode cX3_one 92 = .ok (.areturn, 1) := dk_176 (dk_at dksX3_one_4 0 rfl rfl)
theorem dX3_one_93 : decode cX3_one 93 = .ok (.aload_n 0, 1) := dk_42 (dk_at dksX3_one_4 1 rfl rfl)
theorem dX3_one_94 : decode cX3_one 94 = .ok (.getfield 25, 3) := dk_180 0 25 (dk_at dksX3_one_4 2 rfl rfl)
theorem dX3_one_97 : decode cX3_one 97 = .ok (.bipush 40, 2) := dk_16 40 (dk_at dksX3_one_4 5 rfl rfl)
theorem dX3_one_99 : decode cX3_one 99 = .ok (.if_icmp .ne 21, 3) := dk_160 0 21 (dk_at dksX3_one_4 7 rfl rfl)
theorem dX3_one_102 : decode cX3_one 102 = .ok (.aload_n 0, 1) := dk_42 (dk_at dksX3_one_4 10 rfl rfl)
theorem dX3_one_103 : decode cX3_one 103 = .ok (.invokevirtual 163, 3) := dk_182 0 163 (dk_at dksX3_one_4 11 rfl rfl)
theorem dX3_one_106 : decode cX3_one 106 = .ok (.aload_n 0, 1) := dk_42 (dk_at dksX3_one_4 14 rfl rfl)
theorem dX3_one_107 : decode cX3_one 107 = .ok (.invokevirtual 103, 3) := dk_182 0 103 (dk_at dksX3_one_4 15 rfl rfl)
theorem dX3_one_110 : decode cX3_one 110 = .ok (.astore_n 2, 1) := dk_77 (dk_at dksX3_one_4 18 rfl rfl)
theorem dX3_one_111 : decode cX3_one 111 = .ok (.aload_n 0, 1) := dk_42 (dk_at dksX3_one_4 19 rfl rfl)
theorem dX3_one_112 : decode cX3_one 112 = .ok (.bipush 41, 2) := dk_16 41 (dk_at dksX3_one_4 20 rfl rfl)
theorem dX3_one_114 : decode cX3_one 114 = .ok (.invokevirtual 121, 3) := dk_182 0 121 (dk_at dksX3_one_5 0 rfl rfl)
theorem dX3_one_117 : decode cX3_one 117 = .ok (.goto 75, 3) := dk_167 0 75 (dk_at dksX3_one_5 3 rfl rfl)
theorem dX3_one_120 : decode cX3_one 120 = .ok (.aload_n 0, 1) := dk_42 (dk_at dksX3_one_5 6 rfl rfl)
theorem dX3_one_121 : decode cX3_one 121 = .ok (.getfield 25, 3) := dk_180 0 25 (dk_at dksX3_one_5 7 rfl rfl)
theorem dX3_one_124 : decode cX3_one 124 = .ok (.bipush 45, 2) := dk_16 45 (dk_at dksX3_one_5 10 rfl rfl)
theorem dX3_one_126 : decode cX3_one 126 = .ok (.if_icmp .eq 13, 3) := dk_159 0 13 (dk_at dksX3_one_5 12 rfl rfl)
theorem dX3_one_129 : decode cX3_one 129 = .ok (.aload_n 0, 1) := dk_42 (dk_at dksX3_one_5 15 rfl rfl)
theorem dX3_one_130 : decode cX3_one 130 = .ok (.getfield 25, 3) := dk_180 0 25 (dk_at dksX3_one_5 16 rfl rfl)
theorem dX3_one_133 : decode cX3_one 133 = .ok (.sipush 213, 3) := dk_17 0 213 (dk_at dksX3_one_5 19 rfl rfl)
theorem dX3_one_136 : decode cX3_one 136 = .ok (.if_icmp .ne 50, 3) := dk_160 0 50 (dk_at dksX3_one_6 0 rfl rfl)
theorem dX3_one_139 : decode cX3_one 139 = .ok (.aload_n 0, 1) := dk_42 (dk_at dksX3_one_6 3 rfl rfl)
theorem dX3_one_140 : decode cX3_one 140 = .ok (.getfield 25, 3) := dk_180 0 25 (dk_at dksX3_one_6 4 rfl rfl)
theorem dX3_one_143 : decode cX3_one 143 = .ok (.istore_n 3, 1) := dk_62 (dk_at dksX3_one_6 7 rfl rfl)
theorem dX3_one_144 : decode cX3_one 144 = .ok (.aload_n 0, 1) := dk_42 (dk_at dksX3_one_6 8 rfl rfl)
theorem dX3_one_145 : decode cX3_one 145 = .ok (.invokevirtual 163, 3) := dk_182 0 163 (dk_at dksX3_one_6 9 rfl rfl)
theorem dX3_one_148 : decode cX3_one 148 = .ok (.aload_n 0, 1) := dk_42 (dk_at dksX3_one_6 12 rfl rfl)
theorem dX3_one_149 : decode cX3_one 149 = .ok (.invokevirtual 190, 3) := dk_182 0 190 (dk_at dksX3_one_6 13 rfl rfl)
theorem dX3_one_152 : decode cX3_one 152 = .ok (.astore 4, 2) := dk_58 4 (dk_at dksX3_one_6 16 rfl rfl)
theorem dX3_one_154 : decode cX3_one 154 = .ok (.iload_n 3, 1) := dk_29 (dk_at dksX3_one_6 18 rfl rfl)
theorem dX3_one_155 : decode cX3_one 155 = .ok (.sipush 213, 3) := dk_17 0 213 (dk_at dksX3_one_6 19 rfl rfl)
theorem dX3_one_158 : decode cX3_one 158 = .ok (.if_icmp .ne 15, 3) := dk_160 0 15 (dk_at dksX3_one_7 0 rfl rfl)
theorem dX3_one_161 : decode cX3_one 161 = .ok (.new 225, 3) := dk_187 0 225 (dk_at dksX3_one_7 3 rfl rfl)
theorem dX3_one_164 : decode cX3_one 164 = .ok (.dup, 1) := dk_89 (dk_at dksX3_one_7 6 rfl rfl)
theorem dX3_one_165 : decode cX3_one 165 = .ok (.aload 4, 2) := dk_25 4 (dk_at dksX3_one_7 7 rfl rfl)
theorem dX3_one_167 : decode cX3_one 167 = .ok (.invokespecial 227, 3) := dk_183 0 227 (dk_at dksX3_one_7 9 rfl rfl)
theorem dX3_one_170 : decode cX3_one 170 = .ok (.goto 12, 3) := dk_167 0 12 (dk_at dksX3_one_7 12 rfl rfl)
theorem dX3_one_173 : decode cX3_one 173 = .ok (.new 228, 3) := dk_187 0 228 (dk_at dksX3_one_7 15 rfl rfl)
theorem dX3_one_176 : decode cX3_one 176 = .ok (.dup, 1) := dk_89 (dk_at dksX3_one_7 18 rfl rfl)
theorem dX3_one_177 : decode cX3_one 177 = .ok (.aload 4, 2) := dk_25 4 (dk_at dksX3_one_7 19 rfl rfl)
theorem dX3_one_179 : decode cX3_one 179 = .ok (.invokespecial 230, 3) := dk_183 0 230 (dk_at dksX3_one_7 21 rfl rfl)
theorem dX3_one_182 : decode cX3_one 182 = .ok (.astore_n 2, 1) := dk_77 (dk_at dksX3_one_8 0 rfl rfl)
theorem dX3_one_183 : decode cX3_one 183 = .ok (.goto 9, 3) := dk_167 0 9 (dk_at dksX3_one_8 1 rfl rfl)
theorem dX3_one_186 : decode cX3_one 186 = .ok (.aload_n 0, 1) := dk_42 (dk_at dksX3_one_8 4 rfl rfl)
theorem dX3_one_187 : decode cX3_one 187 = .ok (.iconst 1, 1) := dk_4 (dk_at dksX3_one_8 5 rfl rfl)
theorem dX3_one_188 : decode cX3_one 188 = .ok (.invokevirtual 70, 3) := dk_182 0 70 (dk_at dksX3_one_8 6 rfl rfl)
theorem dX3_one_191 : decode cX3_one 191 = .ok (.athrow, 1) := dk_191 (dk_at dksX3_one_8 9 rfl rfl)
theorem dX3_one_192 : decode cX3_one 192 = .ok (.aload_n 0, 1) := dk_42 (dk_at dksX3_one_8 10 rfl rfl)
theorem dX3_one_193 : decode cX3_one 193 = .ok (.dup, 1) := dk_89 (dk_at dksX3_one_8 11 rfl rfl)
theorem dX3_one_194 : decode cX3_one 194 = .ok (.getfield 77, 3) := dk_180 0 77 (dk_at dksX3_one_8 12 rfl rfl)
theorem dX3_one_197 : decode cX3_one 197 = .ok (.iconst 1, 1) := dk_4 (dk_at dksX3_one_8 15 rfl rfl)
theorem dX3_one_198 : decode cX3_one 198 = .ok (.isub, 1) := dk_100 (dk_at dksX3_one_8 16 rfl rfl)
theorem dX3_one_199 : decode cX3_one 199 = .ok (.putfield 77, 3) := dk_181 0 77 (dk_at dksX3_one_8 17 rfl rfl)
theorem dX3_one_202 : decode cX3_one 202 = .ok (.aload_n 2, 1) := dk_44 (dk_at dksX3_one_8 20 rfl rfl)
theorem dX3_one_203 : decode cX3_one 203 = .ok (.areturn, 1) := dk_176 (dk_at dksX3_one_8 21 rfl rfl)
abbrev cX3_number : ByteArray := prog_17_method_8_code
def yX3_number : MethodName := ⟨RX3, "number", "(II)I"⟩
def dkwX3_number_2 : List UInt8 := [172]
abbrev dktX3_number_2 : List UInt8 := dkwX3_number_2 ++ []
def dkwX3_number_1 : List UInt8 := [42, 180, 0, 43, 28, 164, 0, 9, 42, 5, 182, 0, 70, 191, 42, 180, 0, 43, 62, 42, 182, 0, 74, 29]
abbrev dktX3_number_1 : List UInt8 := dkwX3_number_1 ++ dktX3_number_2
def dkwX3_number_0 : List UInt8 := [42, 180, 0, 25, 17, 1, 44, 159, 0, 9, 42, 4, 182, 0, 70, 191, 42, 180, 0, 43, 27, 161, 0, 11]
abbrev dktX3_number_0 : List UInt8 := dkwX3_number_0 ++ dktX3_number_1
theorem dksX3_number_0 : cX3_number.data.toList.drop 0 = dktX3_number_0 := by decide +kernel
theorem dksX3_number_1 : cX3_number.data.toList.drop 24 = dktX3_number_1 := dk_seg dksX3_number_0 24 rfl rfl
theorem dksX3_number_2 : cX3_number.data.toList.drop 48 = dktX3_number_2 := dk_seg dksX3_number_1 24 rfl rfl
theorem dX3_number_0 : decode cX3_number 0 = .ok (.aload_n 0, 1) := dk_42 (dk_at dksX3_number_0 0 rfl rfl)
theorem dX3_number_1 : decode cX3_number 1 = .ok (.getfield 25, 3) := dk_180 0 25 (dk_at dksX3_number_0 1 rfl rfl)
theorem dX3_number_4 : decode cX3_number 4 = .ok (.sipush 300, 3) := dk_17 1 44 (dk_at dksX3_number_0 4 rfl rfl)
theorem dX3_number_7 : decode cX3_number 7 = .ok (.if_icmp .eq 9, 3) := dk_159 0 9 (dk_at dksX3_number_0 7 rfl rfl)
theorem dX3_number_10 : decode cX3_number 10 = .ok (.aload_n 0, 1) := dk_42 (dk_at dksX3_number_0 10 rfl rfl)
theorem dX3_number_11 : decode cX3_number 11 = .ok (.iconst 1, 1) := dk_4 (dk_at dksX3_number_0 11 rfl rfl)
theorem dX3_number_12 : decode cX3_number 12 = .ok (.invokevirtual 70, 3) := dk_182 0 70 (dk_at dksX3_number_0 12 rfl rfl)
theorem dX3_number_15 : decode cX3_number 15 = .ok (.athrow, 1) := dk_191 (dk_at dksX3_number_0 15 rfl rfl)
theorem dX3_number_16 : decode cX3_number 16 = .ok (.aload_n 0, 1) := dk_42 (dk_at dksX3_number_0 16 rfl rfl)
theorem dX3_number_17 : decode cX3_number 17 = .ok (.getfield 43, 3) := dk_180 0 43 (dk_at dksX3_number_0 17 rfl rfl)
theorem dX3_number_20 : decode cX3_number 20 = .ok (.iload_n 1, 1) := dk_27 (dk_at dksX3_number_0 20 rfl rfl)
theorem dX3_number_21 : decode cX3_number 21 = .ok (.if_icmp .lt 11, 3) := dk_161 0 11 (dk_at dksX3_number_0 21 rfl rfl)
theorem dX3_number_24 : decode cX3_number 24 = .ok (.aload_n 0, 1) := dk_42 (dk_at dksX3_number_1 0 rfl rfl)
theorem dX3_number_25 : decode cX3_number 25 = .ok (.getfield 43, 3) := dk_180 0 43 (dk_at dksX3_number_1 1 rfl rfl)
theorem dX3_number_28 : decode cX3_number 28 = .ok (.iload_n 2, 1) := dk_28 (dk_at dksX3_number_1 4 rfl rfl)
theorem dX3_number_29 : decode cX3_number 29 = .ok (.if_icmp .le 9, 3) := dk_164 0 9 (dk_at dksX3_number_1 5 rfl rfl)
theorem dX3_number_32 : decode cX3_number 32 = .ok (.aload_n 0, 1) := dk_42 (dk_at dksX3_number_1 8 rfl rfl)
theorem dX3_number_33 : decode cX3_number 33 = .ok (.iconst 2, 1) := dk_5 (dk_at dksX3_number_1 9 rfl rfl)
theorem dX3_number_34 : decode cX3_number 34 = .ok (.invokevirtual 70, 3) := dk_182 0 70 (dk_at dksX3_number_1 10 rfl rfl)
theorem dX3_number_37 : decode cX3_number 37 = .ok (.athrow, 1) := dk_191 (dk_at dksX3_number_1 13 rfl rfl)
theorem dX3_number_38 : decode cX3_number 38 = .ok (.aload_n 0, 1) := dk_42 (dk_at dksX3_number_1 14 rfl rfl)
theorem dX3_number_39 : decode cX3_number 39 = .ok (.getfield 43, 3) := dk_180 0 43 (dk_at dksX3_number_1 15 rfl rfl)
theorem dX3_number_42 : decode cX3_number 42 = .ok (.istore_n 3, 1) := dk_62 (dk_at dksX3_number_1 18 rfl rfl)
theorem dX3_number_43 : decode cX3_number 43 = .ok (.aload_n 0, 1) := dk_42 (dk_at dksX3_number_1 19 rfl rfl)
theorem dX3_number_44 : decode cX3_number 44 = .ok (.invokevirtual 74, 3) := dk_182 0 74 (dk_at dksX3_number_1 20 rfl rfl)
theorem dX3_number_47 : decode cX3_number 47 = .ok (.iload_n 3, 1) := dk_29 (dk_at dksX3_number_1 23 rfl rfl)
theorem dX3_number_48 : decode cX3_number 48 = .ok (.ireturn, 1) := dk_172 (dk_at dksX3_number_2 0 rfl rfl)
abbrev cX3_choice : ByteArray := prog_17_method_22_code
def yX3_choice : MethodName := ⟨RX3, "choice", "()LSownByArgument$Sum;"⟩
def dkwX3_choice_2 : List UInt8 := [100, 181, 0, 77, 187, 0, 201, 89, 43, 44, 45, 183, 0, 203, 176]
abbrev dktX3_choice_2 : List UInt8 := dkwX3_choice_2 ++ []
def dkwX3_choice_1 : List UInt8 := [17, 0, 216, 182, 0, 121, 42, 182, 0, 103, 78, 42, 17, 0, 217, 182, 0, 121, 42, 89, 180, 0, 77, 4]
abbrev dktX3_choice_1 : List UInt8 := dkwX3_choice_1 ++ dktX3_choice_2
def dkwX3_choice_0 : List UInt8 := [42, 182, 0, 163, 42, 182, 0, 96, 76, 42, 17, 0, 215, 182, 0, 121, 42, 182, 0, 103, 77, 42]
abbrev dktX3_choice_0 : List UInt8 := dkwX3_choice_0 ++ dktX3_choice_1
theorem dksX3_choice_0 : cX3_choice.data.toList.drop 0 = dktX3_choice_0 := by decide +kernel
theorem dksX3_choice_1 : cX3_choice.data.toList.drop 22 = dktX3_choice_1 := dk_seg dksX3_choice_0 22 rfl rfl
theorem dksX3_choice_2 : cX3_choice.data.toList.drop 46 = dktX3_choice_2 := dk_seg dksX3_choice_1 24 rfl rfl
theorem dX3_choice_0 : decode cX3_choice 0 = .ok (.aload_n 0, 1) := dk_42 (dk_at dksX3_choice_0 0 rfl rfl)
theorem dX3_choice_1 : decode cX3_choice 1 = .ok (.invokevirtual 163, 3) := dk_182 0 163 (dk_at dksX3_choice_0 1 rfl rfl)
theorem dX3_choice_4 : decode cX3_choice 4 = .ok (.aload_n 0, 1) := dk_42 (dk_at dksX3_choice_0 4 rfl rfl)
theorem dX3_choice_5 : decode cX3_choice 5 = .ok (.invokevirtual 96, 3) := dk_182 0 96 (dk_at dksX3_choice_0 5 rfl rfl)
theorem dX3_choice_8 : decode cX3_choice 8 = .ok (.astore_n 1, 1) := dk_76 (dk_at dksX3_choice_0 8 rfl rfl)
theorem dX3_choice_9 : decode cX3_choice 9 = .ok (.aload_n 0, 1) := dk_42 (dk_at dksX3_choice_0 9 rfl rfl)
theorem dX3_choice_10 : decode cX3_choice 10 = .ok (.sipush 215, 3) := dk_17 0 215 (dk_at dksX3_choice_0 10 rfl rfl)
theorem dX3_choice_13 : decode cX3_choice 13 = .ok (.invokevirtual 121, 3) := dk_182 0 121 (dk_at dksX3_choice_0 13 rfl rfl)
theorem dX3_choice_16 : decode cX3_choice 16 = .ok (.aload_n 0, 1) := dk_42 (dk_at dksX3_choice_0 16 rfl rfl)
theorem dX3_choice_17 : decode cX3_choice 17 = .ok (.invokevirtual 103, 3) := dk_182 0 103 (dk_at dksX3_choice_0 17 rfl rfl)
theorem dX3_choice_20 : decode cX3_choice 20 = .ok (.astore_n 2, 1) := dk_77 (dk_at dksX3_choice_0 20 rfl rfl)
theorem dX3_choice_21 : decode cX3_choice 21 = .ok (.aload_n 0, 1) := dk_42 (dk_at dksX3_choice_0 21 rfl rfl)
theorem dX3_choice_22 : decode cX3_choice 22 = .ok (.sipush 216, 3) := dk_17 0 216 (dk_at dksX3_choice_1 0 rfl rfl)
theorem dX3_choice_25 : decode cX3_choice 25 = .ok (.invokevirtual 121, 3) := dk_182 0 121 (dk_at dksX3_choice_1 3 rfl rfl)
theorem dX3_choice_28 : decode cX3_choice 28 = .ok (.aload_n 0, 1) := dk_42 (dk_at dksX3_choice_1 6 rfl rfl)
theorem dX3_choice_29 : decode cX3_choice 29 = .ok (.invokevirtual 103, 3) := dk_182 0 103 (dk_at dksX3_choice_1 7 rfl rfl)
theorem dX3_choice_32 : decode cX3_choice 32 = .ok (.astore_n 3, 1) := dk_78 (dk_at dksX3_choice_1 10 rfl rfl)
theorem dX3_choice_33 : decode cX3_choice 33 = .ok (.aload_n 0, 1) := dk_42 (dk_at dksX3_choice_1 11 rfl rfl)
theorem dX3_choice_34 : decode cX3_choice 34 = .ok (.sipush 217, 3) := dk_17 0 217 (dk_at dksX3_choice_1 12 rfl rfl)
theorem dX3_choice_37 : decode cX3_choice 37 = .ok (.invokevirtual 121, 3) := dk_182 0 121 (dk_at dksX3_choice_1 15 rfl rfl)
theorem dX3_choice_40 : decode cX3_choice 40 = .ok (.aload_n 0, 1) := dk_42 (dk_at dksX3_choice_1 18 rfl rfl)
theorem dX3_choice_41 : decode cX3_choice 41 = .ok (.dup, 1) := dk_89 (dk_at dksX3_choice_1 19 rfl rfl)
theorem dX3_choice_42 : decode cX3_choice 42 = .ok (.getfield 77, 3) := dk_180 0 77 (dk_at dksX3_choice_1 20 rfl rfl)
theorem dX3_choice_45 : decode cX3_choice 45 = .ok (.iconst 1, 1) := dk_4 (dk_at dksX3_choice_1 23 rfl rfl)
theorem dX3_choice_46 : decode cX3_choice 46 = .ok (.isub, 1) := dk_100 (dk_at dksX3_choice_2 0 rfl rfl)
theorem dX3_choice_47 : decode cX3_choice 47 = .ok (.putfield 77, 3) := dk_181 0 77 (dk_at dksX3_choice_2 1 rfl rfl)
theorem dX3_choice_50 : decode cX3_choice 50 = .ok (.new 201, 3) := dk_187 0 201 (dk_at dksX3_choice_2 4 rfl rfl)
theorem dX3_choice_53 : decode cX3_choice 53 = .ok (.dup, 1) := dk_89 (dk_at dksX3_choice_2 7 rfl rfl)
theorem dX3_choice_54 : decode cX3_choice 54 = .ok (.aload_n 1, 1) := dk_43 (dk_at dksX3_choice_2 8 rfl rfl)
theorem dX3_choice_55 : decode cX3_choice 55 = .ok (.aload_n 2, 1) := dk_44 (dk_at dksX3_choice_2 9 rfl rfl)
theorem dX3_choice_56 : decode cX3_choice 56 = .ok (.aload_n 3, 1) := dk_45 (dk_at dksX3_choice_2 10 rfl rfl)
theorem dX3_choice_57 : decode cX3_choice 57 = .ok (.invokespecial 203, 3) := dk_183 0 203 (dk_at dksX3_choice_2 11 rfl rfl)
theorem dX3_choice_60 : decode cX3_choice 60 = .ok (.areturn, 1) := dk_176 (dk_at dksX3_choice_2 14 rfl rfl)
abbrev cX3_want : ByteArray := prog_17_method_7_code
def yX3_want : MethodName := ⟨RX3, "want", "(I)V"⟩
def dkwX3_want_0 : List UInt8 := [42, 180, 0, 25, 27, 159, 0, 9, 42, 4, 182, 0, 70, 191, 42, 182, 0, 74, 177]
abbrev dktX3_want_0 : List UInt8 := dkwX3_want_0 ++ []
theorem dksX3_want_0 : cX3_want.data.toList.drop 0 = dktX3_want_0 := by decide +kernel
theorem dX3_want_0 : decode cX3_want 0 = .ok (.aload_n 0, 1) := dk_42 (dk_at dksX3_want_0 0 rfl rfl)
theorem dX3_want_1 : decode cX3_want 1 = .ok (.getfield 25, 3) := dk_180 0 25 (dk_at dksX3_want_0 1 rfl rfl)
theorem dX3_want_4 : decode cX3_want 4 = .ok (.iload_n 1, 1) := dk_27 (dk_at dksX3_want_0 4 rfl rfl)
theorem dX3_want_5 : decode cX3_want 5 = .ok (.if_icmp .eq 9, 3) := dk_159 0 9 (dk_at dksX3_want_0 5 rfl rfl)
theorem dX3_want_8 : decode cX3_want 8 = .ok (.aload_n 0, 1) := dk_42 (dk_at dksX3_want_0 8 rfl rfl)
theorem dX3_want_9 : decode cX3_want 9 = .ok (.iconst 1, 1) := dk_4 (dk_at dksX3_want_0 9 rfl rfl)
theorem dX3_want_10 : decode cX3_want 10 = .ok (.invokevirtual 70, 3) := dk_182 0 70 (dk_at dksX3_want_0 10 rfl rfl)
theorem dX3_want_13 : decode cX3_want 13 = .ok (.athrow, 1) := dk_191 (dk_at dksX3_want_0 13 rfl rfl)
theorem dX3_want_14 : decode cX3_want 14 = .ok (.aload_n 0, 1) := dk_42 (dk_at dksX3_want_0 14 rfl rfl)
theorem dX3_want_15 : decode cX3_want 15 = .ok (.invokevirtual 74, 3) := dk_182 0 74 (dk_at dksX3_want_0 15 rfl rfl)
theorem dX3_want_18 : decode cX3_want 18 = .ok (.return_, 1) := dk_177 (dk_at dksX3_want_0 18 rfl rfl)
abbrev cX3_gap : ByteArray := prog_17_method_21_code
def yX3_gap : MethodName := ⟨RX3, "gap", "()LSownByArgument$Sum;"⟩
def dkwX3_gap_1 : List UInt8 := [180, 0, 77, 4, 100, 181, 0, 77, 187, 0, 196, 89, 43, 44, 183, 0, 198, 176]
abbrev dktX3_gap_1 : List UInt8 := dkwX3_gap_1 ++ []
def dkwX3_gap_0 : List UInt8 := [42, 182, 0, 163, 42, 182, 0, 190, 76, 42, 17, 0, 212, 182, 0, 121, 42, 182, 0, 190, 77, 42, 89]
abbrev dktX3_gap_0 : List UInt8 := dkwX3_gap_0 ++ dktX3_gap_1
theorem dksX3_gap_0 : cX3_gap.data.toList.drop 0 = dktX3_gap_0 := by decide +kernel
theorem dksX3_gap_1 : cX3_gap.data.toList.drop 23 = dktX3_gap_1 := dk_seg dksX3_gap_0 23 rfl rfl
theorem dX3_gap_0 : decode cX3_gap 0 = .ok (.aload_n 0, 1) := dk_42 (dk_at dksX3_gap_0 0 rfl rfl)
theorem dX3_gap_1 : decode cX3_gap 1 = .ok (.invokevirtual 163, 3) := dk_182 0 163 (dk_at dksX3_gap_0 1 rfl rfl)
theorem dX3_gap_4 : decode cX3_gap 4 = .ok (.aload_n 0, 1) := dk_42 (dk_at dksX3_gap_0 4 rfl rfl)
theorem dX3_gap_5 : decode cX3_gap 5 = .ok (.invokevirtual 190, 3) := dk_182 0 190 (dk_at dksX3_gap_0 5 rfl rfl)
theorem dX3_gap_8 : decode cX3_gap 8 = .ok (.astore_n 1, 1) := dk_76 (dk_at dksX3_gap_0 8 rfl rfl)
theorem dX3_gap_9 : decode cX3_gap 9 = .ok (.aload_n 0, 1) := dk_42 (dk_at dksX3_gap_0 9 rfl rfl)
theorem dX3_gap_10 : decode cX3_gap 10 = .ok (.sipush 212, 3) := dk_17 0 212 (dk_at dksX3_gap_0 10 rfl rfl)
theorem dX3_gap_13 : decode cX3_gap 13 = .ok (.invokevirtual 121, 3) := dk_182 0 121 (dk_at dksX3_gap_0 13 rfl rfl)
theorem dX3_gap_16 : decode cX3_gap 16 = .ok (.aload_n 0, 1) := dk_42 (dk_at dksX3_gap_0 16 rfl rfl)
theorem dX3_gap_17 : decode cX3_gap 17 = .ok (.invokevirtual 190, 3) := dk_182 0 190 (dk_at dksX3_gap_0 17 rfl rfl)
theorem dX3_gap_20 : decode cX3_gap 20 = .ok (.astore_n 2, 1) := dk_77 (dk_at dksX3_gap_0 20 rfl rfl)
theorem dX3_gap_21 : decode cX3_gap 21 = .ok (.aload_n 0, 1) := dk_42 (dk_at dksX3_gap_0 21 rfl rfl)
theorem dX3_gap_22 : decode cX3_gap 22 = .ok (.dup, 1) := dk_89 (dk_at dksX3_gap_0 22 rfl rfl)
theorem dX3_gap_23 : decode cX3_gap 23 = .ok (.getfield 77, 3) := dk_180 0 77 (dk_at dksX3_gap_1 0 rfl rfl)
theorem dX3_gap_26 : decode cX3_gap 26 = .ok (.iconst 1, 1) := dk_4 (dk_at dksX3_gap_1 3 rfl rfl)
theorem dX3_gap_27 : decode cX3_gap 27 = .ok (.isub, 1) := dk_100 (dk_at dksX3_gap_1 4 rfl rfl)
theorem dX3_gap_28 : decode cX3_gap 28 = .ok (.putfield 77, 3) := dk_181 0 77 (dk_at dksX3_gap_1 5 rfl rfl)
theorem dX3_gap_31 : decode cX3_gap 31 = .ok (.new 196, 3) := dk_187 0 196 (dk_at dksX3_gap_1 8 rfl rfl)
theorem dX3_gap_34 : decode cX3_gap 34 = .ok (.dup, 1) := dk_89 (dk_at dksX3_gap_1 11 rfl rfl)
theorem dX3_gap_35 : decode cX3_gap 35 = .ok (.aload_n 1, 1) := dk_43 (dk_at dksX3_gap_1 12 rfl rfl)
theorem dX3_gap_36 : decode cX3_gap 36 = .ok (.aload_n 2, 1) := dk_44 (dk_at dksX3_gap_1 13 rfl rfl)
theorem dX3_gap_37 : decode cX3_gap 37 = .ok (.invokespecial 198, 3) := dk_183 0 198 (dk_at dksX3_gap_1 14 rfl rfl)
theorem dX3_gap_40 : decode cX3_gap 40 = .ok (.areturn, 1) := dk_176 (dk_at dksX3_gap_1 17 rfl rfl)
abbrev cX3_nameNow : ByteArray := prog_17_method_19_code
def yX3_nameNow : MethodName := ⟨RX3, "nameNow", "()I"⟩
def dkwX3_nameNow_1 : List UInt8 := [132, 1, 1, 167, 255, 231, 2, 172]
abbrev dktX3_nameNow_1 : List UInt8 := dkwX3_nameNow_1 ++ []
def dkwX3_nameNow_0 : List UInt8 := [3, 60, 27, 178, 0, 193, 190, 162, 0, 23, 178, 0, 193, 27, 46, 42, 180, 0, 25, 160, 0, 5, 27, 172]
abbrev dktX3_nameNow_0 : List UInt8 := dkwX3_nameNow_0 ++ dktX3_nameNow_1
theorem dksX3_nameNow_0 : cX3_nameNow.data.toList.drop 0 = dktX3_nameNow_0 := by decide +kernel
theorem dksX3_nameNow_1 : cX3_nameNow.data.toList.drop 24 = dktX3_nameNow_1 := dk_seg dksX3_nameNow_0 24 rfl rfl
theorem dX3_nameNow_0 : decode cX3_nameNow 0 = .ok (.iconst 0, 1) := dk_3 (dk_at dksX3_nameNow_0 0 rfl rfl)
theorem dX3_nameNow_1 : decode cX3_nameNow 1 = .ok (.istore_n 1, 1) := dk_60 (dk_at dksX3_nameNow_0 1 rfl rfl)
theorem dX3_nameNow_2 : decode cX3_nameNow 2 = .ok (.iload_n 1, 1) := dk_27 (dk_at dksX3_nameNow_0 2 rfl rfl)
theorem dX3_nameNow_3 : decode cX3_nameNow 3 = .ok (.getstatic 193, 3) := dk_178 0 193 (dk_at dksX3_nameNow_0 3 rfl rfl)
theorem dX3_nameNow_6 : decode cX3_nameNow 6 = .ok (.arraylength, 1) := dk_190 (dk_at dksX3_nameNow_0 6 rfl rfl)
theorem dX3_nameNow_7 : decode cX3_nameNow 7 = .ok (.if_icmp .ge 23, 3) := dk_162 0 23 (dk_at dksX3_nameNow_0 7 rfl rfl)
theorem dX3_nameNow_10 : decode cX3_nameNow 10 = .ok (.getstatic 193, 3) := dk_178 0 193 (dk_at dksX3_nameNow_0 10 rfl rfl)
theorem dX3_nameNow_13 : decode cX3_nameNow 13 = .ok (.iload_n 1, 1) := dk_27 (dk_at dksX3_nameNow_0 13 rfl rfl)
theorem dX3_nameNow_14 : decode cX3_nameNow 14 = .ok (.iaload, 1) := dk_46 (dk_at dksX3_nameNow_0 14 rfl rfl)
theorem dX3_nameNow_15 : decode cX3_nameNow 15 = .ok (.aload_n 0, 1) := dk_42 (dk_at dksX3_nameNow_0 15 rfl rfl)
theorem dX3_nameNow_16 : decode cX3_nameNow 16 = .ok (.getfield 25, 3) := dk_180 0 25 (dk_at dksX3_nameNow_0 16 rfl rfl)
theorem dX3_nameNow_19 : decode cX3_nameNow 19 = .ok (.if_icmp .ne 5, 3) := dk_160 0 5 (dk_at dksX3_nameNow_0 19 rfl rfl)
theorem dX3_nameNow_22 : decode cX3_nameNow 22 = .ok (.iload_n 1, 1) := dk_27 (dk_at dksX3_nameNow_0 22 rfl rfl)
theorem dX3_nameNow_23 : decode cX3_nameNow 23 = .ok (.ireturn, 1) := dk_172 (dk_at dksX3_nameNow_0 23 rfl rfl)
theorem dX3_nameNow_24 : decode cX3_nameNow 24 = .ok (.iinc 1 1, 3) := dk_132 1 1 (dk_at dksX3_nameNow_1 0 rfl rfl)
theorem dX3_nameNow_27 : decode cX3_nameNow 27 = .ok (.goto (-25), 3) := dk_167 255 231 (dk_at dksX3_nameNow_1 3 rfl rfl)
theorem dX3_nameNow_30 : decode cX3_nameNow 30 = .ok (.iconst (-1), 1) := dk_2 (dk_at dksX3_nameNow_1 6 rfl rfl)
theorem dX3_nameNow_31 : decode cX3_nameNow 31 = .ok (.ireturn, 1) := dk_172 (dk_at dksX3_nameNow_1 7 rfl rfl)
abbrev cX3_mayName : ByteArray := prog_17_method_20_code
def yX3_mayName : MethodName := ⟨RX3, "mayName", "(I)Z"⟩
def dkwX3_mayName_1 : List UInt8 := [3, 160, 0, 7, 4, 167, 0, 4, 3, 172]
abbrev dktX3_mayName_1 : List UInt8 := dkwX3_mayName_1 ++ []
def dkwX3_mayName_0 : List UInt8 := [27, 7, 162, 0, 7, 4, 167, 0, 4, 3, 42, 180, 0, 83, 17, 0, 200, 160, 0, 7, 4, 167, 0, 4]
abbrev dktX3_mayName_0 : List UInt8 := dkwX3_mayName_0 ++ dktX3_mayName_1
theorem dksX3_mayName_0 : cX3_mayName.data.toList.drop 0 = dktX3_mayName_0 := by decide +kernel
theorem dksX3_mayName_1 : cX3_mayName.data.toList.drop 24 = dktX3_mayName_1 := dk_seg dksX3_mayName_0 24 rfl rfl
theorem dX3_mayName_0 : decode cX3_mayName 0 = .ok (.iload_n 1, 1) := dk_27 (dk_at dksX3_mayName_0 0 rfl rfl)
theorem dX3_mayName_1 : decode cX3_mayName 1 = .ok (.iconst 4, 1) := dk_7 (dk_at dksX3_mayName_0 1 rfl rfl)
theorem dX3_mayName_2 : decode cX3_mayName 2 = .ok (.if_icmp .ge 7, 3) := dk_162 0 7 (dk_at dksX3_mayName_0 2 rfl rfl)
theorem dX3_mayName_5 : decode cX3_mayName 5 = .ok (.iconst 1, 1) := dk_4 (dk_at dksX3_mayName_0 5 rfl rfl)
theorem dX3_mayName_6 : decode cX3_mayName 6 = .ok (.goto 4, 3) := dk_167 0 4 (dk_at dksX3_mayName_0 6 rfl rfl)
theorem dX3_mayName_9 : decode cX3_mayName 9 = .ok (.iconst 0, 1) := dk_3 (dk_at dksX3_mayName_0 9 rfl rfl)
theorem dX3_mayName_10 : decode cX3_mayName 10 = .ok (.aload_n 0, 1) := dk_42 (dk_at dksX3_mayName_0 10 rfl rfl)
theorem dX3_mayName_11 : decode cX3_mayName 11 = .ok (.getfield 83, 3) := dk_180 0 83 (dk_at dksX3_mayName_0 11 rfl rfl)
theorem dX3_mayName_14 : decode cX3_mayName 14 = .ok (.sipush 200, 3) := dk_17 0 200 (dk_at dksX3_mayName_0 14 rfl rfl)
theorem dX3_mayName_17 : decode cX3_mayName 17 = .ok (.if_icmp .ne 7, 3) := dk_160 0 7 (dk_at dksX3_mayName_0 17 rfl rfl)
theorem dX3_mayName_20 : decode cX3_mayName 20 = .ok (.iconst 1, 1) := dk_4 (dk_at dksX3_mayName_0 20 rfl rfl)
theorem dX3_mayName_21 : decode cX3_mayName 21 = .ok (.goto 4, 3) := dk_167 0 4 (dk_at dksX3_mayName_0 21 rfl rfl)
theorem dX3_mayName_24 : decode cX3_mayName 24 = .ok (.iconst 0, 1) := dk_3 (dk_at dksX3_mayName_1 0 rfl rfl)
theorem dX3_mayName_25 : decode cX3_mayName 25 = .ok (.if_icmp .ne 7, 3) := dk_160 0 7 (dk_at dksX3_mayName_1 1 rfl rfl)
theorem dX3_mayName_28 : decode cX3_mayName 28 = .ok (.iconst 1, 1) := dk_4 (dk_at dksX3_mayName_1 4 rfl rfl)
theorem dX3_mayName_29 : decode cX3_mayName 29 = .ok (.goto 4, 3) := dk_167 0 4 (dk_at dksX3_mayName_1 5 rfl rfl)
theorem dX3_mayName_32 : decode cX3_mayName 32 = .ok (.iconst 0, 1) := dk_3 (dk_at dksX3_mayName_1 8 rfl rfl)
theorem dX3_mayName_33 : decode cX3_mayName 33 = .ok (.ireturn, 1) := dk_172 (dk_at dksX3_mayName_1 9 rfl rfl)
abbrev cX3_claims : ByteArray := prog_17_method_11_code
def yX3_claims : MethodName := ⟨RX3, "claims", "(LSownByArgument$Text;LSownByArgument$Asked;)V"⟩
def dkwX3_claims_3 : List UInt8 := [42, 89, 180, 0, 93, 4, 96, 181, 0, 93, 177]
abbrev dktX3_claims_3 : List UInt8 := dkwX3_claims_3 ++ []
def dkwX3_claims_2 : List UInt8 := [153, 0, 18, 42, 180, 0, 131, 42, 180, 0, 93, 92, 46, 4, 29, 120, 128, 79, 132, 3, 1, 167, 255, 197]
abbrev dktX3_claims_2 : List UInt8 := dkwX3_claims_2 ++ dktX3_claims_3
def dkwX3_claims_1 : List UInt8 := [21, 4, 29, 21, 4, 122, 4, 126, 79, 132, 4, 1, 167, 255, 237, 43, 44, 185, 0, 125, 2, 0]
abbrev dktX3_claims_1 : List UInt8 := dkwX3_claims_1 ++ dktX3_claims_2
def dkwX3_claims_0 : List UInt8 := [16, 18, 188, 10, 77, 3, 62, 29, 16, 16, 162, 0, 59, 3, 54, 4, 21, 4, 7, 162, 0, 19, 44]
abbrev dktX3_claims_0 : List UInt8 := dkwX3_claims_0 ++ dktX3_claims_1
theorem dksX3_claims_0 : cX3_claims.data.toList.drop 0 = dktX3_claims_0 := by decide +kernel
theorem dksX3_claims_1 : cX3_claims.data.toList.drop 23 = dktX3_claims_1 := dk_seg dksX3_claims_0 23 rfl rfl
theorem dksX3_claims_2 : cX3_claims.data.toList.drop 45 = dktX3_claims_2 := dk_seg dksX3_claims_1 22 rfl rfl
theorem dksX3_claims_3 : cX3_claims.data.toList.drop 69 = dktX3_claims_3 := dk_seg dksX3_claims_2 24 rfl rfl
theorem dX3_claims_0 : decode cX3_claims 0 = .ok (.bipush 18, 2) := dk_16 18 (dk_at dksX3_claims_0 0 rfl rfl)
theorem dX3_claims_2 : decode cX3_claims 2 = .ok (.newarray .int, 2) := dk_188_10 (dk_at dksX3_claims_0 2 rfl rfl)
theorem dX3_claims_4 : decode cX3_claims 4 = .ok (.astore_n 2, 1) := dk_77 (dk_at dksX3_claims_0 4 rfl rfl)
theorem dX3_claims_5 : decode cX3_claims 5 = .ok (.iconst 0, 1) := dk_3 (dk_at dksX3_claims_0 5 rfl rfl)
theorem dX3_claims_6 : decode cX3_claims 6 = .ok (.istore_n 3, 1) := dk_62 (dk_at dksX3_claims_0 6 rfl rfl)
theorem dX3_claims_7 : decode cX3_claims 7 = .ok (.iload_n 3, 1) := dk_29 (dk_at dksX3_claims_0 7 rfl rfl)
theorem dX3_claims_8 : decode cX3_claims 8 = .ok (.bipush 16, 2) := dk_16 16 (dk_at dksX3_claims_0 8 rfl rfl)
theorem dX3_claims_10 : decode cX3_claims 10 = .ok (.if_icmp .ge 59, 3) := dk_162 0 59 (dk_at dksX3_claims_0 10 rfl rfl)
theorem dX3_claims_13 : decode cX3_claims 13 = .ok (.iconst 0, 1) := dk_3 (dk_at dksX3_claims_0 13 rfl rfl)
theorem dX3_claims_14 : decode cX3_claims 14 = .ok (.istore 4, 2) := dk_54 4 (dk_at dksX3_claims_0 14 rfl rfl)
theorem dX3_claims_16 : decode cX3_claims 16 = .ok (.iload 4, 2) := dk_21 4 (dk_at dksX3_claims_0 16 rfl rfl)
theorem dX3_claims_18 : decode cX3_claims 18 = .ok (.iconst 4, 1) := dk_7 (dk_at dksX3_claims_0 18 rfl rfl)
theorem dX3_claims_19 : decode cX3_claims 19 = .ok (.if_icmp .ge 19, 3) := dk_162 0 19 (dk_at dksX3_claims_0 19 rfl rfl)
theorem dX3_claims_22 : decode cX3_claims 22 = .ok (.aload_n 2, 1) := dk_44 (dk_at dksX3_claims_0 22 rfl rfl)
theorem dX3_claims_23 : decode cX3_claims 23 = .ok (.iload 4, 2) := dk_21 4 (dk_at dksX3_claims_1 0 rfl rfl)
theorem dX3_claims_25 : decode cX3_claims 25 = .ok (.iload_n 3, 1) := dk_29 (dk_at dksX3_claims_1 2 rfl rfl)
theorem dX3_claims_26 : decode cX3_claims 26 = .ok (.iload 4, 2) := dk_21 4 (dk_at dksX3_claims_1 3 rfl rfl)
theorem dX3_claims_28 : decode cX3_claims 28 = .ok (.ishr, 1) := dk_122 (dk_at dksX3_claims_1 5 rfl rfl)
theorem dX3_claims_29 : decode cX3_claims 29 = .ok (.iconst 1, 1) := dk_4 (dk_at dksX3_claims_1 6 rfl rfl)
theorem dX3_claims_30 : decode cX3_claims 30 = .ok (.iand, 1) := dk_126 (dk_at dksX3_claims_1 7 rfl rfl)
theorem dX3_claims_31 : decode cX3_claims 31 = .ok (.iastore, 1) := dk_79 (dk_at dksX3_claims_1 8 rfl rfl)
theorem dX3_claims_32 : decode cX3_claims 32 = .ok (.iinc 4 1, 3) := dk_132 4 1 (dk_at dksX3_claims_1 9 rfl rfl)
theorem dX3_claims_35 : decode cX3_claims 35 = .ok (.goto (-19), 3) := dk_167 255 237 (dk_at dksX3_claims_1 12 rfl rfl)
theorem dX3_claims_38 : decode cX3_claims 38 = .ok (.aload_n 1, 1) := dk_43 (dk_at dksX3_claims_1 15 rfl rfl)
theorem dX3_claims_39 : decode cX3_claims 39 = .ok (.aload_n 2, 1) := dk_44 (dk_at dksX3_claims_1 16 rfl rfl)
theorem dX3_claims_40 : decode cX3_claims 40 = .ok (.invokeinterface 125 2, 5) := by decide +kernel
theorem dX3_claims_45 : decode cX3_claims 45 = .ok (.ifCond .eq 18, 3) := dk_153 0 18 (dk_at dksX3_claims_2 0 rfl rfl)
theorem dX3_claims_48 : decode cX3_claims 48 = .ok (.aload_n 0, 1) := dk_42 (dk_at dksX3_claims_2 3 rfl rfl)
theorem dX3_claims_49 : decode cX3_claims 49 = .ok (.getfield 131, 3) := dk_180 0 131 (dk_at dksX3_claims_2 4 rfl rfl)
theorem dX3_claims_52 : decode cX3_claims 52 = .ok (.aload_n 0, 1) := dk_42 (dk_at dksX3_claims_2 7 rfl rfl)
theorem dX3_claims_53 : decode cX3_claims 53 = .ok (.getfield 93, 3) := dk_180 0 93 (dk_at dksX3_claims_2 8 rfl rfl)
theorem dX3_claims_56 : decode cX3_claims 56 = .ok (.dup2, 1) := dk_92 (dk_at dksX3_claims_2 11 rfl rfl)
theorem dX3_claims_57 : decode cX3_claims 57 = .ok (.iaload, 1) := dk_46 (dk_at dksX3_claims_2 12 rfl rfl)
theorem dX3_claims_58 : decode cX3_claims 58 = .ok (.iconst 1, 1) := dk_4 (dk_at dksX3_claims_2 13 rfl rfl)
theorem dX3_claims_59 : decode cX3_claims 59 = .ok (.iload_n 3, 1) := dk_29 (dk_at dksX3_claims_2 14 rfl rfl)
theorem dX3_claims_60 : decode cX3_claims 60 = .ok (.ishl, 1) := dk_120 (dk_at dksX3_claims_2 15 rfl rfl)
theorem dX3_claims_61 : decode cX3_claims 61 = .ok (.ior, 1) := dk_128 (dk_at dksX3_claims_2 16 rfl rfl)
theorem dX3_claims_62 : decode cX3_claims 62 = .ok (.iastore, 1) := dk_79 (dk_at dksX3_claims_2 17 rfl rfl)
theorem dX3_claims_63 : decode cX3_claims 63 = .ok (.iinc 3 1, 3) := dk_132 3 1 (dk_at dksX3_claims_2 18 rfl rfl)
theorem dX3_claims_66 : decode cX3_claims 66 = .ok (.goto (-59), 3) := dk_167 255 197 (dk_at dksX3_claims_2 21 rfl rfl)
theorem dX3_claims_69 : decode cX3_claims 69 = .ok (.aload_n 0, 1) := dk_42 (dk_at dksX3_claims_3 0 rfl rfl)
theorem dX3_claims_70 : decode cX3_claims 70 = .ok (.dup, 1) := dk_89 (dk_at dksX3_claims_3 1 rfl rfl)
theorem dX3_claims_71 : decode cX3_claims 71 = .ok (.getfield 93, 3) := dk_180 0 93 (dk_at dksX3_claims_3 2 rfl rfl)
theorem dX3_claims_74 : decode cX3_claims 74 = .ok (.iconst 1, 1) := dk_4 (dk_at dksX3_claims_3 5 rfl rfl)
theorem dX3_claims_75 : decode cX3_claims 75 = .ok (.iadd, 1) := dk_96 (dk_at dksX3_claims_3 6 rfl rfl)
theorem dX3_claims_76 : decode cX3_claims 76 = .ok (.putfield 93, 3) := dk_181 0 93 (dk_at dksX3_claims_3 7 rfl rfl)
theorem dX3_claims_79 : decode cX3_claims 79 = .ok (.return_, 1) := dk_177 (dk_at dksX3_claims_3 10 rfl rfl)
abbrev cX3_doing : ByteArray := prog_17_method_13_code
def yX3_doing : MethodName := ⟨RX3, "doing", "(I)LSownByArgument$Doing;"⟩
def dkwX3_doing_7 : List UInt8 := [187, 0, 137, 89, 42, 180, 0, 83, 42, 3, 16, 7, 182, 0, 135, 2, 2, 27, 183, 0, 139, 176]
abbrev dktX3_doing_7 : List UInt8 := dkwX3_doing_7 ++ []
def dkwX3_doing_6 : List UInt8 := [187, 0, 137, 89, 42, 180, 0, 83, 42, 4, 16, 60, 182, 0, 135, 2, 2, 27, 183, 0, 139, 176]
abbrev dktX3_doing_6 : List UInt8 := dkwX3_doing_6 ++ dktX3_doing_7
def dkwX3_doing_5 : List UInt8 := [187, 0, 137, 89, 42, 180, 0, 83, 28, 29, 42, 17, 0, 210, 7, 182, 0, 142, 27, 183, 0, 139, 176]
abbrev dktX3_doing_5 : List UInt8 := dkwX3_doing_5 ++ dktX3_doing_6
def dkwX3_doing_4 : List UInt8 := [27, 183, 0, 139, 176, 42, 3, 16, 20, 182, 0, 135, 61, 42, 17, 0, 209, 7, 182, 0, 142, 62]
abbrev dktX3_doing_4 : List UInt8 := dkwX3_doing_4 ++ dktX3_doing_5
def dkwX3_doing_3 : List UInt8 := [16, 20, 182, 0, 135, 61, 187, 0, 137, 89, 42, 180, 0, 83, 28, 42, 17, 0, 209, 7, 182, 0, 142, 2]
abbrev dktX3_doing_3 : List UInt8 := dkwX3_doing_3 ++ dktX3_doing_4
def dkwX3_doing_2 : List UInt8 := [187, 0, 137, 89, 42, 180, 0, 83, 42, 4, 16, 9, 182, 0, 135, 2, 2, 27, 183, 0, 139, 176, 42, 3]
abbrev dktX3_doing_2 : List UInt8 := dkwX3_doing_2 ++ dktX3_doing_3
def dkwX3_doing_1 : List UInt8 := [170, 0, 0, 0, 0, 0, 0, 159, 0, 0, 0, 202, 0, 0, 0, 208, 0, 0, 0, 44, 0, 0, 0, 66, 0, 0, 0, 97, 0, 0, 0, 159, 0, 0, 0, 159, 0, 0, 0, 159, 0, 0, 0, 137]
abbrev dktX3_doing_1 : List UInt8 := dkwX3_doing_1 ++ dktX3_doing_2
def dkwX3_doing_0 : List UInt8 := [42, 180, 0, 83]
abbrev dktX3_doing_0 : List UInt8 := dkwX3_doing_0 ++ dktX3_doing_1
theorem dksX3_doing_0 : cX3_doing.data.toList.drop 0 = dktX3_doing_0 := by decide +kernel
theorem dksX3_doing_1 : cX3_doing.data.toList.drop 4 = dktX3_doing_1 := dk_seg dksX3_doing_0 4 rfl rfl
theorem dksX3_doing_2 : cX3_doing.data.toList.drop 48 = dktX3_doing_2 := dk_seg dksX3_doing_1 44 rfl rfl
theorem dksX3_doing_3 : cX3_doing.data.toList.drop 72 = dktX3_doing_3 := dk_seg dksX3_doing_2 24 rfl rfl
theorem dksX3_doing_4 : cX3_doing.data.toList.drop 96 = dktX3_doing_4 := dk_seg dksX3_doing_3 24 rfl rfl
theorem dksX3_doing_5 : cX3_doing.data.toList.drop 118 = dktX3_doing_5 := dk_seg dksX3_doing_4 22 rfl rfl
theorem dksX3_doing_6 : cX3_doing.data.toList.drop 141 = dktX3_doing_6 := dk_seg dksX3_doing_5 23 rfl rfl
theorem dksX3_doing_7 : cX3_doing.data.toList.drop 163 = dktX3_doing_7 := dk_seg dksX3_doing_6 22 rfl rfl
theorem dX3_doing_0 : decode cX3_doing 0 = .ok (.aload_n 0, 1) := dk_42 (dk_at dksX3_doing_0 0 rfl rfl)
theorem dX3_doing_1 : decode cX3_doing 1 = .ok (.getfield 83, 3) := dk_180 0 83 (dk_at dksX3_doing_0 1 rfl rfl)
theorem dX3_doing_4 : decode cX3_doing 4 = .ok (.tableswitch 159 202 208 #[44, 66, 97, 159, 159, 159, 137], 44) := by decide +kernel
theorem dX3_doing_48 : decode cX3_doing 48 = .ok (.new 137, 3) := dk_187 0 137 (dk_at dksX3_doing_2 0 rfl rfl)
theorem dX3_doing_51 : decode cX3_doing 51 = .ok (.dup, 1) := dk_89 (dk_at dksX3_doing_2 3 rfl rfl)
theorem dX3_doing_52 : decode cX3_doing 52 = .ok (.aload_n 0, 1) := dk_42 (dk_at dksX3_doing_2 4 rfl rfl)
theorem dX3_doing_53 : decode cX3_doing 53 = .ok (.getfield 83, 3) := dk_180 0 83 (dk_at dksX3_doing_2 5 rfl rfl)
theorem dX3_doing_56 : decode cX3_doing 56 = .ok (.aload_n 0, 1) := dk_42 (dk_at dksX3_doing_2 8 rfl rfl)
theorem dX3_doing_57 : decode cX3_doing 57 = .ok (.iconst 1, 1) := dk_4 (dk_at dksX3_doing_2 9 rfl rfl)
theorem dX3_doing_58 : decode cX3_doing 58 = .ok (.bipush 9, 2) := dk_16 9 (dk_at dksX3_doing_2 10 rfl rfl)
theorem dX3_doing_60 : decode cX3_doing 60 = .ok (.invokevirtual 135, 3) := dk_182 0 135 (dk_at dksX3_doing_2 12 rfl rfl)
theorem dX3_doing_63 : decode cX3_doing 63 = .ok (.iconst (-1), 1) := dk_2 (dk_at dksX3_doing_2 15 rfl rfl)
theorem dX3_doing_64 : decode cX3_doing 64 = .ok (.iconst (-1), 1) := dk_2 (dk_at dksX3_doing_2 16 rfl rfl)
theorem dX3_doing_65 : decode cX3_doing 65 = .ok (.iload_n 1, 1) := dk_27 (dk_at dksX3_doing_2 17 rfl rfl)
theorem dX3_doing_66 : decode cX3_doing 66 = .ok (.invokespecial 139, 3) := dk_183 0 139 (dk_at dksX3_doing_2 18 rfl rfl)
theorem dX3_doing_69 : decode cX3_doing 69 = .ok (.areturn, 1) := dk_176 (dk_at dksX3_doing_2 21 rfl rfl)
theorem dX3_doing_70 : decode cX3_doing 70 = .ok (.aload_n 0, 1) := dk_42 (dk_at dksX3_doing_2 22 rfl rfl)
theorem dX3_doing_71 : decode cX3_doing 71 = .ok (.iconst 0, 1) := dk_3 (dk_at dksX3_doing_2 23 rfl rfl)
theorem dX3_doing_72 : decode cX3_doing 72 = .ok (.bipush 20, 2) := dk_16 20 (dk_at dksX3_doing_3 0 rfl rfl)
theorem dX3_doing_74 : decode cX3_doing 74 = .ok (.invokevirtual 135, 3) := dk_182 0 135 (dk_at dksX3_doing_3 2 rfl rfl)
theorem dX3_doing_77 : decode cX3_doing 77 = .ok (.istore_n 2, 1) := dk_61 (dk_at dksX3_doing_3 5 rfl rfl)
theorem dX3_doing_78 : decode cX3_doing 78 = .ok (.new 137, 3) := dk_187 0 137 (dk_at dksX3_doing_3 6 rfl rfl)
theorem dX3_doing_81 : decode cX3_doing 81 = .ok (.dup, 1) := dk_89 (dk_at dksX3_doing_3 9 rfl rfl)
theorem dX3_doing_82 : decode cX3_doing 82 = .ok (.aload_n 0, 1) := dk_42 (dk_at dksX3_doing_3 10 rfl rfl)
theorem dX3_doing_83 : decode cX3_doing 83 = .ok (.getfield 83, 3) := dk_180 0 83 (dk_at dksX3_doing_3 11 rfl rfl)
theorem dX3_doing_86 : decode cX3_doing 86 = .ok (.iload_n 2, 1) := dk_28 (dk_at dksX3_doing_3 14 rfl rfl)
theorem dX3_doing_87 : decode cX3_doing 87 = .ok (.aload_n 0, 1) := dk_42 (dk_at dksX3_doing_3 15 rfl rfl)
theorem dX3_doing_88 : decode cX3_doing 88 = .ok (.sipush 209, 3) := dk_17 0 209 (dk_at dksX3_doing_3 16 rfl rfl)
theorem dX3_doing_91 : decode cX3_doing 91 = .ok (.iconst 4, 1) := dk_7 (dk_at dksX3_doing_3 19 rfl rfl)
theorem dX3_doing_92 : decode cX3_doing 92 = .ok (.invokevirtual 142, 3) := dk_182 0 142 (dk_at dksX3_doing_3 20 rfl rfl)
theorem dX3_doing_95 : decode cX3_doing 95 = .ok (.iconst (-1), 1) := dk_2 (dk_at dksX3_doing_3 23 rfl rfl)
theorem dX3_doing_96 : decode cX3_doing 96 = .ok (.iload_n 1, 1) := dk_27 (dk_at dksX3_doing_4 0 rfl rfl)
theorem dX3_doing_97 : decode cX3_doing 97 = .ok (.invokespecial 139, 3) := dk_183 0 139 (dk_at dksX3_doing_4 1 rfl rfl)
theorem dX3_doing_100 : decode cX3_doing 100 = .ok (.areturn, 1) := dk_176 (dk_at dksX3_doing_4 4 rfl rfl)
theorem dX3_doing_101 : decode cX3_doing 101 = .ok (.aload_n 0, 1) := dk_42 (dk_at dksX3_doing_4 5 rfl rfl)
theorem dX3_doing_102 : decode cX3_doing 102 = .ok (.iconst 0, 1) := dk_3 (dk_at dksX3_doing_4 6 rfl rfl)
theorem dX3_doing_103 : decode cX3_doing 103 = .ok (.bipush 20, 2) := dk_16 20 (dk_at dksX3_doing_4 7 rfl rfl)
theorem dX3_doing_105 : decode cX3_doing 105 = .ok (.invokevirtual 135, 3) := dk_182 0 135 (dk_at dksX3_doing_4 9 rfl rfl)
theorem dX3_doing_108 : decode cX3_doing 108 = .ok (.istore_n 2, 1) := dk_61 (dk_at dksX3_doing_4 12 rfl rfl)
theorem dX3_doing_109 : decode cX3_doing 109 = .ok (.aload_n 0, 1) := dk_42 (dk_at dksX3_doing_4 13 rfl rfl)
theorem dX3_doing_110 : decode cX3_doing 110 = .ok (.sipush 209, 3) := dk_17 0 209 (dk_at dksX3_doing_4 14 rfl rfl)
theorem dX3_doing_113 : decode cX3_doing 113 = .ok (.iconst 4, 1) := dk_7 (dk_at dksX3_doing_4 17 rfl rfl)
theorem dX3_doing_114 : decode cX3_doing 114 = .ok (.invokevirtual 142, 3) := dk_182 0 142 (dk_at dksX3_doing_4 18 rfl rfl)
theorem dX3_doing_117 : decode cX3_doing 117 = .ok (.istore_n 3, 1) := dk_62 (dk_at dksX3_doing_4 21 rfl rfl)
theorem dX3_doing_118 : decode cX3_doing 118 = .ok (.new 137, 3) := dk_187 0 137 (dk_at dksX3_doing_5 0 rfl rfl)
theorem dX3_doing_121 : decode cX3_doing 121 = .ok (.dup, 1) := dk_89 (dk_at dksX3_doing_5 3 rfl rfl)
theorem dX3_doing_122 : decode cX3_doing 122 = .ok (.aload_n 0, 1) := dk_42 (dk_at dksX3_doing_5 4 rfl rfl)
theorem dX3_doing_123 : decode cX3_doing 123 = .ok (.getfield 83, 3) := dk_180 0 83 (dk_at dksX3_doing_5 5 rfl rfl)
theorem dX3_doing_126 : decode cX3_doing 126 = .ok (.iload_n 2, 1) := dk_28 (dk_at dksX3_doing_5 8 rfl rfl)
theorem dX3_doing_127 : decode cX3_doing 127 = .ok (.iload_n 3, 1) := dk_29 (dk_at dksX3_doing_5 9 rfl rfl)
theorem dX3_doing_128 : decode cX3_doing 128 = .ok (.aload_n 0, 1) := dk_42 (dk_at dksX3_doing_5 10 rfl rfl)
theorem dX3_doing_129 : decode cX3_doing 129 = .ok (.sipush 210, 3) := dk_17 0 210 (dk_at dksX3_doing_5 11 rfl rfl)
theorem dX3_doing_132 : decode cX3_doing 132 = .ok (.iconst 4, 1) := dk_7 (dk_at dksX3_doing_5 14 rfl rfl)
theorem dX3_doing_133 : decode cX3_doing 133 = .ok (.invokevirtual 142, 3) := dk_182 0 142 (dk_at dksX3_doing_5 15 rfl rfl)
theorem dX3_doing_136 : decode cX3_doing 136 = .ok (.iload_n 1, 1) := dk_27 (dk_at dksX3_doing_5 18 rfl rfl)
theorem dX3_doing_137 : decode cX3_doing 137 = .ok (.invokespecial 139, 3) := dk_183 0 139 (dk_at dksX3_doing_5 19 rfl rfl)
theorem dX3_doing_140 : decode cX3_doing 140 = .ok (.areturn, 1) := dk_176 (dk_at dksX3_doing_5 22 rfl rfl)
theorem dX3_doing_141 : decode cX3_doing 141 = .ok (.new 137, 3) := dk_187 0 137 (dk_at dksX3_doing_6 0 rfl rfl)
theorem dX3_doing_144 : decode cX3_doing 144 = .ok (.dup, 1) := dk_89 (dk_at dksX3_doing_6 3 rfl rfl)
theorem dX3_doing_145 : decode cX3_doing 145 = .ok (.aload_n 0, 1) := dk_42 (dk_at dksX3_doing_6 4 rfl rfl)
theorem dX3_doing_146 : decode cX3_doing 146 = .ok (.getfield 83, 3) := dk_180 0 83 (dk_at dksX3_doing_6 5 rfl rfl)
theorem dX3_doing_149 : decode cX3_doing 149 = .ok (.aload_n 0, 1) := dk_42 (dk_at dksX3_doing_6 8 rfl rfl)
theorem dX3_doing_150 : decode cX3_doing 150 = .ok (.iconst 1, 1) := dk_4 (dk_at dksX3_doing_6 9 rfl rfl)
theorem dX3_doing_151 : decode cX3_doing 151 = .ok (.bipush 60, 2) := dk_16 60 (dk_at dksX3_doing_6 10 rfl rfl)
theorem dX3_doing_153 : decode cX3_doing 153 = .ok (.invokevirtual 135, 3) := dk_182 0 135 (dk_at dksX3_doing_6 12 rfl rfl)
theorem dX3_doing_156 : decode cX3_doing 156 = .ok (.iconst (-1), 1) := dk_2 (dk_at dksX3_doing_6 15 rfl rfl)
theorem dX3_doing_157 : decode cX3_doing 157 = .ok (.iconst (-1), 1) := dk_2 (dk_at dksX3_doing_6 16 rfl rfl)
theorem dX3_doing_158 : decode cX3_doing 158 = .ok (.iload_n 1, 1) := dk_27 (dk_at dksX3_doing_6 17 rfl rfl)
theorem dX3_doing_159 : decode cX3_doing 159 = .ok (.invokespecial 139, 3) := dk_183 0 139 (dk_at dksX3_doing_6 18 rfl rfl)
theorem dX3_doing_162 : decode cX3_doing 162 = .ok (.areturn, 1) := dk_176 (dk_at dksX3_doing_6 21 rfl rfl)
theorem dX3_doing_163 : decode cX3_doing 163 = .ok (.new 137, 3) := dk_187 0 137 (dk_at dksX3_doing_7 0 rfl rfl)
theorem dX3_doing_166 : decode cX3_doing 166 = .ok (.dup, 1) := dk_89 (dk_at dksX3_doing_7 3 rfl rfl)
theorem dX3_doing_167 : decode cX3_doing 167 = .ok (.aload_n 0, 1) := dk_42 (dk_at dksX3_doing_7 4 rfl rfl)
theorem dX3_doing_168 : decode cX3_doing 168 = .ok (.getfield 83, 3) := dk_180 0 83 (dk_at dksX3_doing_7 5 rfl rfl)
theorem dX3_doing_171 : decode cX3_doing 171 = .ok (.aload_n 0, 1) := dk_42 (dk_at dksX3_doing_7 8 rfl rfl)
theorem dX3_doing_172 : decode cX3_doing 172 = .ok (.iconst 0, 1) := dk_3 (dk_at dksX3_doing_7 9 rfl rfl)
theorem dX3_doing_173 : decode cX3_doing 173 = .ok (.bipush 7, 2) := dk_16 7 (dk_at dksX3_doing_7 10 rfl rfl)
theorem dX3_doing_175 : decode cX3_doing 175 = .ok (.invokevirtual 135, 3) := dk_182 0 135 (dk_at dksX3_doing_7 12 rfl rfl)
theorem dX3_doing_178 : decode cX3_doing 178 = .ok (.iconst (-1), 1) := dk_2 (dk_at dksX3_doing_7 15 rfl rfl)
theorem dX3_doing_179 : decode cX3_doing 179 = .ok (.iconst (-1), 1) := dk_2 (dk_at dksX3_doing_7 16 rfl rfl)
theorem dX3_doing_180 : decode cX3_doing 180 = .ok (.iload_n 1, 1) := dk_27 (dk_at dksX3_doing_7 17 rfl rfl)
theorem dX3_doing_181 : decode cX3_doing 181 = .ok (.invokespecial 139, 3) := dk_183 0 139 (dk_at dksX3_doing_7 18 rfl rfl)
theorem dX3_doing_184 : decode cX3_doing 184 = .ok (.areturn, 1) := dk_176 (dk_at dksX3_doing_7 21 rfl rfl)
abbrev cX3_behind : ByteArray := prog_17_method_12_code
def yX3_behind : MethodName := ⟨RX3, "behind", "(II)I"⟩
def dkwX3_behind_0 : List UInt8 := [42, 27, 182, 0, 121, 42, 3, 28, 182, 0, 135, 172]
abbrev dktX3_behind_0 : List UInt8 := dkwX3_behind_0 ++ []
theorem dksX3_behind_0 : cX3_behind.data.toList.drop 0 = dktX3_behind_0 := by decide +kernel
theorem dX3_behind_0 : decode cX3_behind 0 = .ok (.aload_n 0, 1) := dk_42 (dk_at dksX3_behind_0 0 rfl rfl)
theorem dX3_behind_1 : decode cX3_behind 1 = .ok (.iload_n 1, 1) := dk_27 (dk_at dksX3_behind_0 1 rfl rfl)
theorem dX3_behind_2 : decode cX3_behind 2 = .ok (.invokevirtual 121, 3) := dk_182 0 121 (dk_at dksX3_behind_0 2 rfl rfl)
theorem dX3_behind_5 : decode cX3_behind 5 = .ok (.aload_n 0, 1) := dk_42 (dk_at dksX3_behind_0 5 rfl rfl)
theorem dX3_behind_6 : decode cX3_behind 6 = .ok (.iconst 0, 1) := dk_3 (dk_at dksX3_behind_0 6 rfl rfl)
theorem dX3_behind_7 : decode cX3_behind 7 = .ok (.iload_n 2, 1) := dk_28 (dk_at dksX3_behind_0 7 rfl rfl)
theorem dX3_behind_8 : decode cX3_behind 8 = .ok (.invokevirtual 135, 3) := dk_182 0 135 (dk_at dksX3_behind_0 8 rfl rfl)
theorem dX3_behind_11 : decode cX3_behind 11 = .ok (.ireturn, 1) := dk_172 (dk_at dksX3_behind_0 11 rfl rfl)
theorem q140 : (Jvm.Cond.initialized "SownByArgument$Tokens") ∈ lw_all := lw_g (lw_at lw_m1 6 rfl) rfl
theorem q323 : (Jvm.Cond.instantiable "SownByArgument$Tokens" (8 : Nat)) ∈ lw_all := lw_g (lw_at lw_m1 189 rfl) rfl
theorem q325 : (Jvm.Cond.instanceMethod ({ cls := "SownByArgument$Tokens", name := "<init>", desc := "([BI)V" } : Jvm.MethodName)) ∈ lw_all := lw_g (lw_at lw_m1 191 rfl) rfl
theorem q326 : (Jvm.Cond.code ({ cls := "SownByArgument$Tokens", name := "<init>", desc := "([BI)V" } : Jvm.MethodName) prog_17_method_1_code (3 : Nat) (Option.none : Option Jvm.ClassFile.FieldType)) ∈ lw_all := lw_g (lw_at lw_m1 192 rfl) rfl
theorem q327 : (Jvm.Cond.methodLink "SownByArgument$Tokens" (3 : Nat) ({ cls := "java/lang/Object", name := "<init>", desc := "()V" } : Jvm.MethodName)) ∈ lw_all := lw_g (lw_at lw_m1 193 rfl) rfl
theorem q328 : (Jvm.Cond.fieldLink "SownByArgument$Tokens" (9 : Nat) "SownByArgument$Tokens" "text" "[B") ∈ lw_all := lw_g (lw_at lw_m1 194 rfl) rfl
theorem q329 : (Jvm.Cond.fieldLink "SownByArgument$Tokens" (15 : Nat) "SownByArgument$Tokens" "size" "I") ∈ lw_all := lw_g (lw_at lw_m1 195 rfl) rfl
theorem q330 : (Jvm.Cond.fieldLink "SownByArgument$Tokens" (19 : Nat) "SownByArgument$Tokens" "at" "I") ∈ lw_all := lw_g (lw_at lw_m1 196 rfl) rfl
theorem q331 : (Jvm.Cond.fieldLink "SownByArgument$Tokens" (22 : Nat) "SownByArgument$Tokens" "token" "I") ∈ lw_all := lw_g (lw_at lw_m1 197 rfl) rfl
theorem q332 : (Jvm.Cond.fieldLink "SownByArgument$Tokens" (25 : Nat) "SownByArgument$Tokens" "sort" "I") ∈ lw_all := lw_g (lw_at lw_m1 198 rfl) rfl
theorem q333 : (Jvm.Cond.fieldLink "SownByArgument$Tokens" (43 : Nat) "SownByArgument$Tokens" "number" "I") ∈ lw_all := lw_g (lw_at lw_m1 199 rfl) rfl
theorem q334 : (Jvm.Cond.fieldLink "SownByArgument$Tokens" (77 : Nat) "SownByArgument$Tokens" "open" "I") ∈ lw_all := lw_g (lw_at lw_m1 200 rfl) rfl
theorem q335 : (Jvm.Cond.fieldLink "SownByArgument$Tokens" (83 : Nat) "SownByArgument$Tokens" "kind" "I") ∈ lw_all := lw_g (lw_at lw_m1 201 rfl) rfl
theorem q336 : (Jvm.Cond.laysFinal "SownByArgument$Tokens" "SownByArgument$Tokens" "text" "[B") ∈ lw_all := lw_g (lw_at lw_m1 202 rfl) rfl
theorem q337 : (Jvm.Cond.soleField "SownByArgument$Tokens" "text") ∈ lw_all := lw_g (lw_at lw_m1 203 rfl) rfl
theorem q338 : (Jvm.Cond.laysFinal "SownByArgument$Tokens" "SownByArgument$Tokens" "size" "I") ∈ lw_all := lw_g (lw_at lw_m1 204 rfl) rfl
theorem q339 : (Jvm.Cond.soleField "SownByArgument$Tokens" "size") ∈ lw_all := lw_g (lw_at lw_m1 205 rfl) rfl
theorem q340 : (Jvm.Cond.lays "SownByArgument$Tokens" "SownByArgument$Tokens" "at" "I") ∈ lw_all := lw_g (lw_at lw_m1 206 rfl) rfl
theorem q341 : (Jvm.Cond.soleField "SownByArgument$Tokens" "at") ∈ lw_all := lw_g (lw_at lw_m1 207 rfl) rfl
theorem q342 : (Jvm.Cond.lays "SownByArgument$Tokens" "SownByArgument$Tokens" "token" "I") ∈ lw_all := lw_g (lw_at lw_m1 208 rfl) rfl
theorem q343 : (Jvm.Cond.soleField "SownByArgument$Tokens" "token") ∈ lw_all := lw_g (lw_at lw_m1 209 rfl) rfl
theorem q344 : (Jvm.Cond.lays "SownByArgument$Tokens" "SownByArgument$Tokens" "sort" "I") ∈ lw_all := lw_g (lw_at lw_m1 210 rfl) rfl
theorem q345 : (Jvm.Cond.soleField "SownByArgument$Tokens" "sort") ∈ lw_all := lw_g (lw_at lw_m1 211 rfl) rfl
theorem q346 : (Jvm.Cond.lays "SownByArgument$Tokens" "SownByArgument$Tokens" "number" "I") ∈ lw_all := lw_g (lw_at lw_m1 212 rfl) rfl
theorem q347 : (Jvm.Cond.soleField "SownByArgument$Tokens" "number") ∈ lw_all := lw_g (lw_at lw_m1 213 rfl) rfl
theorem q348 : (Jvm.Cond.lays "SownByArgument$Tokens" "SownByArgument$Tokens" "open" "I") ∈ lw_all := lw_g (lw_at lw_m1 214 rfl) rfl
theorem q349 : (Jvm.Cond.soleField "SownByArgument$Tokens" "open") ∈ lw_all := lw_g (lw_at lw_m1 215 rfl) rfl
theorem q350 : (Jvm.Cond.lays "SownByArgument$Tokens" "SownByArgument$Tokens" "kind" "I") ∈ lw_all := lw_g (lw_at lw_m1 216 rfl) rfl
theorem q351 : (Jvm.Cond.soleField "SownByArgument$Tokens" "kind") ∈ lw_all := lw_g (lw_at lw_m1 217 rfl) rfl
theorem q352 : (Jvm.Cond.superclass "SownByArgument$Tokens" "java/lang/Object") ∈ lw_all := lw_g (lw_at lw_m1 218 rfl) rfl
theorem q354 : (Jvm.Cond.instanceMethod ({ cls := "SownByArgument$Tokens", name := "read", desc := "()LSownByArgument$Text;" } : Jvm.MethodName)) ∈ lw_all := lw_g (lw_at lw_m1 220 rfl) rfl
theorem q355 : (Jvm.Cond.selects "SownByArgument$Tokens" ({ cls := "SownByArgument$Tokens", name := "read", desc := "()LSownByArgument$Text;" } : Jvm.MethodName) ({ cls := "SownByArgument$Tokens", name := "read", desc := "()LSownByArgument$Text;" } : Jvm.MethodName)) ∈ lw_all := lw_g (lw_at lw_m1 221 rfl) rfl
theorem q356 : (Jvm.Cond.code ({ cls := "SownByArgument$Tokens", name := "read", desc := "()LSownByArgument$Text;" } : Jvm.MethodName) prog_17_method_10_code (2 : Nat) (Option.some (Jvm.ClassFile.FieldType.object "SownByArgument$Text"))) ∈ lw_all := lw_g (lw_at lw_m1 222 rfl) rfl
theorem q357 : (Jvm.Cond.classLink "SownByArgument$Tokens" (80 : Nat) "SownByArgument$Text") ∈ lw_all := lw_g (lw_at lw_m1 223 rfl) rfl
theorem q359 : (Jvm.Cond.methodLinkNest "SownByArgument$Tokens" (82 : Nat) ({ cls := "SownByArgument$Text", name := "<init>", desc := "()V" } : Jvm.MethodName) "SownByArgument") ∈ lw_tbl := lw_at lw_m1 225 rfl
theorem q389 : (Jvm.Cond.fieldLinkNest "SownByArgument$Tokens" (86 : Nat) "SownByArgument$Text" "worth" "LSownByArgument$Sum;" "SownByArgument") ∈ lw_tbl := lw_at lw_m2 15 rfl
theorem q392 : (Jvm.Cond.fieldLinkNest "SownByArgument$Tokens" (131 : Nat) "SownByArgument$Text" "table" "[I" "SownByArgument") ∈ lw_tbl := lw_at lw_m2 18 rfl
theorem q394 : (Jvm.Cond.fieldLinkNest "SownByArgument$Tokens" (93 : Nat) "SownByArgument$Text" "claims" "I" "SownByArgument") ∈ lw_tbl := lw_at lw_m2 20 rfl
theorem q396 : (Jvm.Cond.fieldLinkNest "SownByArgument$Tokens" (90 : Nat) "SownByArgument$Text" "clauses" "I" "SownByArgument") ∈ lw_tbl := lw_at lw_m2 22 rfl
theorem q398 : (Jvm.Cond.fieldLinkNest "SownByArgument$Tokens" (107 : Nat) "SownByArgument$Text" "doings" "Ljava/util/ArrayList;" "SownByArgument") ∈ lw_tbl := lw_at lw_m2 24 rfl
theorem q411 : (Jvm.Cond.methodLink "SownByArgument$Tokens" (74 : Nat) ({ cls := "SownByArgument$Tokens", name := "next", desc := "()V" } : Jvm.MethodName)) ∈ lw_all := lw_g (lw_at lw_m2 37 rfl) rfl
theorem q412 : (Jvm.Cond.privateMethod ({ cls := "SownByArgument$Tokens", name := "next", desc := "()V" } : Jvm.MethodName)) ∈ lw_tbl := lw_at lw_m2 38 rfl
theorem q413 : (Jvm.Cond.instanceMethod ({ cls := "SownByArgument$Tokens", name := "next", desc := "()V" } : Jvm.MethodName)) ∈ lw_all := lw_g (lw_at lw_m2 39 rfl) rfl
theorem q414 : (Jvm.Cond.code ({ cls := "SownByArgument$Tokens", name := "next", desc := "()V" } : Jvm.MethodName) prog_17_method_4_code (3 : Nat) (Option.none : Option Jvm.ClassFile.FieldType)) ∈ lw_all := lw_g (lw_at lw_m2 40 rfl) rfl
theorem q415 : (Jvm.Cond.methodLink "SownByArgument$Tokens" (28 : Nat) ({ cls := "SownByArgument$Tokens", name := "isLetter", desc := "(I)Z" } : Jvm.MethodName)) ∈ lw_all := lw_g (lw_at lw_m2 41 rfl) rfl
theorem q416 : (Jvm.Cond.static ({ cls := "SownByArgument$Tokens", name := "isLetter", desc := "(I)Z" } : Jvm.MethodName)) ∈ lw_all := lw_g (lw_at lw_m2 42 rfl) rfl
theorem q417 : (Jvm.Cond.code ({ cls := "SownByArgument$Tokens", name := "isLetter", desc := "(I)Z" } : Jvm.MethodName) prog_17_method_2_code (1 : Nat) (Option.some Jvm.ClassFile.FieldType.boolean)) ∈ lw_all := lw_g (lw_at lw_m2 43 rfl) rfl
theorem q418 : (Jvm.Cond.fieldLink "SownByArgument$Tokens" (32 : Nat) "SownByArgument$Tokens" "WORDS" "[Ljava/lang/String;") ∈ lw_all := lw_g (lw_at lw_m2 44 rfl) rfl
theorem q419 : (Jvm.Cond.laysStatic "SownByArgument$Tokens" "WORDS" "[Ljava/lang/String;") ∈ lw_tbl := lw_at lw_m2 45 rfl
theorem q420 : (Jvm.Cond.methodLink "SownByArgument$Tokens" (36 : Nat) ({ cls := "SownByArgument$Tokens", name := "isWord", desc := "(Ljava/lang/String;)Z" } : Jvm.MethodName)) ∈ lw_all := lw_g (lw_at lw_m2 46 rfl) rfl
theorem q421 : (Jvm.Cond.privateMethod ({ cls := "SownByArgument$Tokens", name := "isWord", desc := "(Ljava/lang/String;)Z" } : Jvm.MethodName)) ∈ lw_tbl := lw_at lw_m2 47 rfl
theorem q422 : (Jvm.Cond.instanceMethod ({ cls := "SownByArgument$Tokens", name := "isWord", desc := "(Ljava/lang/String;)Z" } : Jvm.MethodName)) ∈ lw_all := lw_g (lw_at lw_m2 48 rfl) rfl
theorem q423 : (Jvm.Cond.code ({ cls := "SownByArgument$Tokens", name := "isWord", desc := "(Ljava/lang/String;)Z" } : Jvm.MethodName) prog_17_method_5_code (3 : Nat) (Option.some Jvm.ClassFile.FieldType.boolean)) ∈ lw_all := lw_g (lw_at lw_m2 49 rfl) rfl
theorem q424 : (Jvm.Cond.methodLink "SownByArgument$Tokens" (55 : Nat) ({ cls := "java/lang/String", name := "length", desc := "()I" } : Jvm.MethodName)) ∈ lw_all := lw_g (lw_at lw_m2 50 rfl) rfl
theorem q434 : (Jvm.Cond.methodLink "SownByArgument$Tokens" (61 : Nat) ({ cls := "java/lang/String", name := "charAt", desc := "(I)C" } : Jvm.MethodName)) ∈ lw_all := lw_g (lw_at lw_m2 60 rfl) rfl
theorem q472 : (Jvm.Cond.methodLink "SownByArgument$Tokens" (40 : Nat) ({ cls := "SownByArgument$Tokens", name := "isDigit", desc := "(I)Z" } : Jvm.MethodName)) ∈ lw_all := lw_g (lw_at lw_m2 98 rfl) rfl
theorem q473 : (Jvm.Cond.static ({ cls := "SownByArgument$Tokens", name := "isDigit", desc := "(I)Z" } : Jvm.MethodName)) ∈ lw_all := lw_g (lw_at lw_m2 99 rfl) rfl
theorem q474 : (Jvm.Cond.code ({ cls := "SownByArgument$Tokens", name := "isDigit", desc := "(I)Z" } : Jvm.MethodName) prog_17_method_3_code (1 : Nat) (Option.some Jvm.ClassFile.FieldType.boolean)) ∈ lw_all := lw_g (lw_at lw_m2 100 rfl) rfl
theorem q475 : (Jvm.Cond.constant "SownByArgument$Tokens" (46 : Nat) (99999 : Int32)) ∈ lw_all := lw_g (lw_at lw_m2 101 rfl) rfl
theorem q476 : (Jvm.Cond.methodLink "SownByArgument$Tokens" (47 : Nat) ({ cls := "java/lang/Math", name := "min", desc := "(II)I" } : Jvm.MethodName)) ∈ lw_all := lw_g (lw_at lw_m2 102 rfl) rfl
theorem q479 : (Jvm.Cond.stringRef "SownByArgument$Tokens" (53 : Nat) "<>=#+-*/();") ∈ lw_tbl := lw_at lw_m2 105 rfl
theorem q480 : (Jvm.Cond.methodLink "SownByArgument$Tokens" (70 : Nat) ({ cls := "SownByArgument$Tokens", name := "wrong", desc := "(I)LSownByArgument$Wrong;" } : Jvm.MethodName)) ∈ lw_all := lw_g (lw_at lw_m2 106 rfl) rfl
theorem q481 : (Jvm.Cond.privateMethod ({ cls := "SownByArgument$Tokens", name := "wrong", desc := "(I)LSownByArgument$Wrong;" } : Jvm.MethodName)) ∈ lw_tbl := lw_at lw_m2 107 rfl
theorem q482 : (Jvm.Cond.instanceMethod ({ cls := "SownByArgument$Tokens", name := "wrong", desc := "(I)LSownByArgument$Wrong;" } : Jvm.MethodName)) ∈ lw_all := lw_g (lw_at lw_m2 108 rfl) rfl
theorem q483 : (Jvm.Cond.code ({ cls := "SownByArgument$Tokens", name := "wrong", desc := "(I)LSownByArgument$Wrong;" } : Jvm.MethodName) prog_17_method_6_code (2 : Nat) (Option.some (Jvm.ClassFile.FieldType.object "SownByArgument$Wrong"))) ∈ lw_all := lw_g (lw_at lw_m2 109 rfl) rfl
theorem q484 : (Jvm.Cond.classLink "SownByArgument$Tokens" (65 : Nat) "SownByArgument$Wrong") ∈ lw_all := lw_g (lw_at lw_m2 110 rfl) rfl
theorem q521 : (Jvm.Cond.methodLink "SownByArgument$Tokens" (67 : Nat) ({ cls := "SownByArgument$Wrong", name := "<init>", desc := "(II)V" } : Jvm.MethodName)) ∈ lw_all := lw_g (lw_at lw_m2 147 rfl) rfl
theorem q548 : (Jvm.Cond.methodLink "SownByArgument$Tokens" (96 : Nat) ({ cls := "SownByArgument$Tokens", name := "either", desc := "()LSownByArgument$Asked;" } : Jvm.MethodName)) ∈ lw_all := lw_g (lw_at lw_m2 174 rfl) rfl
theorem q549 : (Jvm.Cond.privateMethod ({ cls := "SownByArgument$Tokens", name := "either", desc := "()LSownByArgument$Asked;" } : Jvm.MethodName)) ∈ lw_tbl := lw_at lw_m2 175 rfl
theorem q550 : (Jvm.Cond.instanceMethod ({ cls := "SownByArgument$Tokens", name := "either", desc := "()LSownByArgument$Asked;" } : Jvm.MethodName)) ∈ lw_all := lw_g (lw_at lw_m2 176 rfl) rfl
theorem q551 : (Jvm.Cond.code ({ cls := "SownByArgument$Tokens", name := "either", desc := "()LSownByArgument$Asked;" } : Jvm.MethodName) prog_17_method_14_code (2 : Nat) (Option.some (Jvm.ClassFile.FieldType.object "SownByArgument$Asked"))) ∈ lw_all := lw_g (lw_at lw_m2 177 rfl) rfl
theorem q552 : (Jvm.Cond.classLink "SownByArgument$Tokens" (116 : Nat) "java/util/ArrayList") ∈ lw_all := lw_g (lw_at lw_m2 178 rfl) rfl
theorem q553 : (Jvm.Cond.methodLink "SownByArgument$Tokens" (145 : Nat) ({ cls := "java/util/ArrayList", name := "<init>", desc := "()V" } : Jvm.MethodName)) ∈ lw_all := lw_g (lw_at lw_m2 179 rfl) rfl
theorem q554 : (Jvm.Cond.methodLink "SownByArgument$Tokens" (146 : Nat) ({ cls := "SownByArgument$Tokens", name := "both", desc := "()LSownByArgument$Asked;" } : Jvm.MethodName)) ∈ lw_all := lw_g (lw_at lw_m2 180 rfl) rfl
theorem q555 : (Jvm.Cond.privateMethod ({ cls := "SownByArgument$Tokens", name := "both", desc := "()LSownByArgument$Asked;" } : Jvm.MethodName)) ∈ lw_tbl := lw_at lw_m2 181 rfl
theorem q556 : (Jvm.Cond.instanceMethod ({ cls := "SownByArgument$Tokens", name := "both", desc := "()LSownByArgument$Asked;" } : Jvm.MethodName)) ∈ lw_all := lw_g (lw_at lw_m2 182 rfl) rfl
theorem q557 : (Jvm.Cond.code ({ cls := "SownByArgument$Tokens", name := "both", desc := "()LSownByArgument$Asked;" } : Jvm.MethodName) prog_17_method_15_code (2 : Nat) (Option.some (Jvm.ClassFile.FieldType.object "SownByArgument$Asked"))) ∈ lw_all := lw_g (lw_at lw_m2 183 rfl) rfl
theorem q558 : (Jvm.Cond.methodLink "SownByArgument$Tokens" (160 : Nat) ({ cls := "SownByArgument$Tokens", name := "ask", desc := "()LSownByArgument$Asked;" } : Jvm.MethodName)) ∈ lw_all := lw_g (lw_at lw_m2 184 rfl) rfl
theorem q559 : (Jvm.Cond.privateMethod ({ cls := "SownByArgument$Tokens", name := "ask", desc := "()LSownByArgument$Asked;" } : Jvm.MethodName)) ∈ lw_tbl := lw_at lw_m2 185 rfl
theorem q560 : (Jvm.Cond.instanceMethod ({ cls := "SownByArgument$Tokens", name := "ask", desc := "()LSownByArgument$Asked;" } : Jvm.MethodName)) ∈ lw_all := lw_g (lw_at lw_m2 186 rfl) rfl
theorem q561 : (Jvm.Cond.code ({ cls := "SownByArgument$Tokens", name := "ask", desc := "()LSownByArgument$Asked;" } : Jvm.MethodName) prog_17_method_16_code (3 : Nat) (Option.some (Jvm.ClassFile.FieldType.object "SownByArgument$Asked"))) ∈ lw_all := lw_g (lw_at lw_m2 187 rfl) rfl
theorem q562 : (Jvm.Cond.methodLink "SownByArgument$Tokens" (163 : Nat) ({ cls := "SownByArgument$Tokens", name := "opens", desc := "()V" } : Jvm.MethodName)) ∈ lw_all := lw_g (lw_at lw_m2 188 rfl) rfl
theorem q563 : (Jvm.Cond.privateMethod ({ cls := "SownByArgument$Tokens", name := "opens", desc := "()V" } : Jvm.MethodName)) ∈ lw_tbl := lw_at lw_m2 189 rfl
theorem q564 : (Jvm.Cond.instanceMethod ({ cls := "SownByArgument$Tokens", name := "opens", desc := "()V" } : Jvm.MethodName)) ∈ lw_all := lw_g (lw_at lw_m2 190 rfl) rfl
theorem q565 : (Jvm.Cond.code ({ cls := "SownByArgument$Tokens", name := "opens", desc := "()V" } : Jvm.MethodName) prog_17_method_9_code (1 : Nat) (Option.none : Option Jvm.ClassFile.FieldType)) ∈ lw_all := lw_g (lw_at lw_m2 191 rfl) rfl
theorem q566 : (Jvm.Cond.classLink "SownByArgument$Tokens" (166 : Nat) "SownByArgument$Not") ∈ lw_all := lw_g (lw_at lw_m2 192 rfl) rfl
theorem q568 : (Jvm.Cond.methodLinkNest "SownByArgument$Tokens" (168 : Nat) ({ cls := "SownByArgument$Not", name := "<init>", desc := "(LSownByArgument$Asked;)V" } : Jvm.MethodName) "SownByArgument") ∈ lw_tbl := lw_at lw_m2 194 rfl
theorem q579 : (Jvm.Cond.methodLink "SownByArgument$Tokens" (103 : Nat) ({ cls := "SownByArgument$Tokens", name := "sum", desc := "()LSownByArgument$Sum;" } : Jvm.MethodName)) ∈ lw_all := lw_g (lw_at lw_m2 205 rfl) rfl
theorem q580 : (Jvm.Cond.privateMethod ({ cls := "SownByArgument$Tokens", name := "sum", desc := "()LSownByArgument$Sum;" } : Jvm.MethodName)) ∈ lw_tbl := lw_at lw_m2 206 rfl
theorem q581 : (Jvm.Cond.instanceMethod ({ cls := "SownByArgument$Tokens", name := "sum", desc := "()LSownByArgument$Sum;" } : Jvm.MethodName)) ∈ lw_all := lw_g (lw_at lw_m2 207 rfl) rfl
theorem q582 : (Jvm.Cond.code ({ cls := "SownByArgument$Tokens", name := "sum", desc := "()LSownByArgument$Sum;" } : Jvm.MethodName) prog_17_method_17_code (3 : Nat) (Option.some (Jvm.ClassFile.FieldType.object "SownByArgument$Sum"))) ∈ lw_all := lw_g (lw_at lw_m2 208 rfl) rfl
theorem q583 : (Jvm.Cond.classLink "SownByArgument$Tokens" (176 : Nat) "SownByArgument$Chain") ∈ lw_all := lw_g (lw_at lw_m2 209 rfl) rfl
theorem q585 : (Jvm.Cond.methodLink "SownByArgument$Tokens" (178 : Nat) ({ cls := "SownByArgument$Tokens", name := "product", desc := "()LSownByArgument$Sum;" } : Jvm.MethodName)) ∈ lw_all := lw_g (lw_at lw_m2 211 rfl) rfl
theorem q586 : (Jvm.Cond.privateMethod ({ cls := "SownByArgument$Tokens", name := "product", desc := "()LSownByArgument$Sum;" } : Jvm.MethodName)) ∈ lw_tbl := lw_at lw_m2 212 rfl
theorem q587 : (Jvm.Cond.instanceMethod ({ cls := "SownByArgument$Tokens", name := "product", desc := "()LSownByArgument$Sum;" } : Jvm.MethodName)) ∈ lw_all := lw_g (lw_at lw_m2 213 rfl) rfl
theorem q588 : (Jvm.Cond.code ({ cls := "SownByArgument$Tokens", name := "product", desc := "()LSownByArgument$Sum;" } : Jvm.MethodName) prog_17_method_18_code (3 : Nat) (Option.some (Jvm.ClassFile.FieldType.object "SownByArgument$Sum"))) ∈ lw_all := lw_g (lw_at lw_m2 214 rfl) rfl
theorem q589 : (Jvm.Cond.methodLink "SownByArgument$Tokens" (190 : Nat) ({ cls := "SownByArgument$Tokens", name := "one", desc := "()LSownByArgument$Sum;" } : Jvm.MethodName)) ∈ lw_all := lw_g (lw_at lw_m2 215 rfl) rfl
theorem q590 : (Jvm.Cond.privateMethod ({ cls := "SownByArgument$Tokens", name := "one", desc := "()LSownByArgument$Sum;" } : Jvm.MethodName)) ∈ lw_tbl := lw_at lw_m2 216 rfl
theorem q591 : (Jvm.Cond.instanceMethod ({ cls := "SownByArgument$Tokens", name := "one", desc := "()LSownByArgument$Sum;" } : Jvm.MethodName)) ∈ lw_all := lw_g (lw_at lw_m2 217 rfl) rfl
theorem q592 : (Jvm.Cond.code ({ cls := "SownByArgument$Tokens", name := "one", desc := "()LSownByArgument$Sum;" } : Jvm.MethodName) prog_17_method_23_code (5 : Nat) (Option.some (Jvm.ClassFile.FieldType.object "SownByArgument$Sum"))) ∈ lw_all := lw_g (lw_at lw_m2 218 rfl) rfl
theorem q593 : (Jvm.Cond.classLink "SownByArgument$Tokens" (206 : Nat) "SownByArgument$Plain") ∈ lw_all := lw_g (lw_at lw_m2 219 rfl) rfl
theorem q595 : (Jvm.Cond.methodLink "SownByArgument$Tokens" (135 : Nat) ({ cls := "SownByArgument$Tokens", name := "number", desc := "(II)I" } : Jvm.MethodName)) ∈ lw_all := lw_g (lw_at lw_m2 221 rfl) rfl
theorem q596 : (Jvm.Cond.privateMethod ({ cls := "SownByArgument$Tokens", name := "number", desc := "(II)I" } : Jvm.MethodName)) ∈ lw_tbl := lw_at lw_m2 222 rfl
theorem q597 : (Jvm.Cond.instanceMethod ({ cls := "SownByArgument$Tokens", name := "number", desc := "(II)I" } : Jvm.MethodName)) ∈ lw_all := lw_g (lw_at lw_m2 223 rfl) rfl
theorem q598 : (Jvm.Cond.code ({ cls := "SownByArgument$Tokens", name := "number", desc := "(II)I" } : Jvm.MethodName) prog_17_method_8_code (4 : Nat) (Option.some Jvm.ClassFile.FieldType.int)) ∈ lw_all := lw_g (lw_at lw_m2 224 rfl) rfl
theorem q599 : (Jvm.Cond.methodLinkNest "SownByArgument$Tokens" (208 : Nat) ({ cls := "SownByArgument$Plain", name := "<init>", desc := "(I)V" } : Jvm.MethodName) "SownByArgument") ∈ lw_tbl := lw_at lw_m2 225 rfl
theorem q607 : (Jvm.Cond.methodLink "SownByArgument$Tokens" (210 : Nat) ({ cls := "SownByArgument$Tokens", name := "choice", desc := "()LSownByArgument$Sum;" } : Jvm.MethodName)) ∈ lw_all := lw_g (lw_at lw_m2 233 rfl) rfl
theorem q608 : (Jvm.Cond.privateMethod ({ cls := "SownByArgument$Tokens", name := "choice", desc := "()LSownByArgument$Sum;" } : Jvm.MethodName)) ∈ lw_tbl := lw_at lw_m2 234 rfl
theorem q609 : (Jvm.Cond.instanceMethod ({ cls := "SownByArgument$Tokens", name := "choice", desc := "()LSownByArgument$Sum;" } : Jvm.MethodName)) ∈ lw_all := lw_g (lw_at lw_m2 235 rfl) rfl
theorem q610 : (Jvm.Cond.code ({ cls := "SownByArgument$Tokens", name := "choice", desc := "()LSownByArgument$Sum;" } : Jvm.MethodName) prog_17_method_22_code (4 : Nat) (Option.some (Jvm.ClassFile.FieldType.object "SownByArgument$Sum"))) ∈ lw_all := lw_g (lw_at lw_m2 236 rfl) rfl
theorem q611 : (Jvm.Cond.methodLink "SownByArgument$Tokens" (121 : Nat) ({ cls := "SownByArgument$Tokens", name := "want", desc := "(I)V" } : Jvm.MethodName)) ∈ lw_all := lw_g (lw_at lw_m2 237 rfl) rfl
theorem q612 : (Jvm.Cond.privateMethod ({ cls := "SownByArgument$Tokens", name := "want", desc := "(I)V" } : Jvm.MethodName)) ∈ lw_tbl := lw_at lw_m2 238 rfl
theorem q613 : (Jvm.Cond.instanceMethod ({ cls := "SownByArgument$Tokens", name := "want", desc := "(I)V" } : Jvm.MethodName)) ∈ lw_all := lw_g (lw_at lw_m2 239 rfl) rfl
theorem q614 : (Jvm.Cond.code ({ cls := "SownByArgument$Tokens", name := "want", desc := "(I)V" } : Jvm.MethodName) prog_17_method_7_code (2 : Nat) (Option.none : Option Jvm.ClassFile.FieldType)) ∈ lw_all := lw_g (lw_at lw_m3 0 rfl) rfl
theorem q615 : (Jvm.Cond.classLink "SownByArgument$Tokens" (201 : Nat) "SownByArgument$If") ∈ lw_all := lw_g (lw_at lw_m3 1 rfl) rfl
theorem q617 : (Jvm.Cond.methodLinkNest "SownByArgument$Tokens" (203 : Nat) ({ cls := "SownByArgument$If", name := "<init>", desc := "(LSownByArgument$Asked;LSownByArgument$Sum;LSownByArgument$Sum;)V" } : Jvm.MethodName) "SownByArgument") ∈ lw_tbl := lw_at lw_m3 3 rfl
theorem q631 : (Jvm.Cond.methodLink "SownByArgument$Tokens" (213 : Nat) ({ cls := "SownByArgument$Tokens", name := "gap", desc := "()LSownByArgument$Sum;" } : Jvm.MethodName)) ∈ lw_all := lw_g (lw_at lw_m3 17 rfl) rfl
theorem q632 : (Jvm.Cond.privateMethod ({ cls := "SownByArgument$Tokens", name := "gap", desc := "()LSownByArgument$Sum;" } : Jvm.MethodName)) ∈ lw_tbl := lw_at lw_m3 18 rfl
theorem q633 : (Jvm.Cond.instanceMethod ({ cls := "SownByArgument$Tokens", name := "gap", desc := "()LSownByArgument$Sum;" } : Jvm.MethodName)) ∈ lw_all := lw_g (lw_at lw_m3 19 rfl) rfl
theorem q634 : (Jvm.Cond.code ({ cls := "SownByArgument$Tokens", name := "gap", desc := "()LSownByArgument$Sum;" } : Jvm.MethodName) prog_17_method_21_code (3 : Nat) (Option.some (Jvm.ClassFile.FieldType.object "SownByArgument$Sum"))) ∈ lw_all := lw_g (lw_at lw_m3 20 rfl) rfl
theorem q635 : (Jvm.Cond.classLink "SownByArgument$Tokens" (196 : Nat) "SownByArgument$Gap") ∈ lw_all := lw_g (lw_at lw_m3 21 rfl) rfl
theorem q637 : (Jvm.Cond.methodLinkNest "SownByArgument$Tokens" (198 : Nat) ({ cls := "SownByArgument$Gap", name := "<init>", desc := "(LSownByArgument$Sum;LSownByArgument$Sum;)V" } : Jvm.MethodName) "SownByArgument") ∈ lw_tbl := lw_at lw_m3 23 rfl
theorem q648 : (Jvm.Cond.methodLink "SownByArgument$Tokens" (216 : Nat) ({ cls := "SownByArgument$Tokens", name := "nameNow", desc := "()I" } : Jvm.MethodName)) ∈ lw_all := lw_g (lw_at lw_m3 34 rfl) rfl
theorem q649 : (Jvm.Cond.privateMethod ({ cls := "SownByArgument$Tokens", name := "nameNow", desc := "()I" } : Jvm.MethodName)) ∈ lw_tbl := lw_at lw_m3 35 rfl
theorem q650 : (Jvm.Cond.instanceMethod ({ cls := "SownByArgument$Tokens", name := "nameNow", desc := "()I" } : Jvm.MethodName)) ∈ lw_all := lw_g (lw_at lw_m3 36 rfl) rfl
theorem q651 : (Jvm.Cond.code ({ cls := "SownByArgument$Tokens", name := "nameNow", desc := "()I" } : Jvm.MethodName) prog_17_method_19_code (2 : Nat) (Option.some Jvm.ClassFile.FieldType.int)) ∈ lw_all := lw_g (lw_at lw_m3 37 rfl) rfl
theorem q652 : (Jvm.Cond.fieldLink "SownByArgument$Tokens" (193 : Nat) "SownByArgument$Tokens" "NAMED" "[I") ∈ lw_all := lw_g (lw_at lw_m3 38 rfl) rfl
theorem q653 : (Jvm.Cond.laysStatic "SownByArgument$Tokens" "NAMED" "[I") ∈ lw_tbl := lw_at lw_m3 39 rfl
theorem q654 : (Jvm.Cond.methodLink "SownByArgument$Tokens" (219 : Nat) ({ cls := "SownByArgument$Tokens", name := "mayName", desc := "(I)Z" } : Jvm.MethodName)) ∈ lw_all := lw_g (lw_at lw_m3 40 rfl) rfl
theorem q655 : (Jvm.Cond.privateMethod ({ cls := "SownByArgument$Tokens", name := "mayName", desc := "(I)Z" } : Jvm.MethodName)) ∈ lw_tbl := lw_at lw_m3 41 rfl
theorem q656 : (Jvm.Cond.instanceMethod ({ cls := "SownByArgument$Tokens", name := "mayName", desc := "(I)Z" } : Jvm.MethodName)) ∈ lw_all := lw_g (lw_at lw_m3 42 rfl) rfl
theorem q657 : (Jvm.Cond.code ({ cls := "SownByArgument$Tokens", name := "mayName", desc := "(I)Z" } : Jvm.MethodName) prog_17_method_20_code (2 : Nat) (Option.some Jvm.ClassFile.FieldType.boolean)) ∈ lw_all := lw_g (lw_at lw_m3 43 rfl) rfl
theorem q658 : (Jvm.Cond.classLink "SownByArgument$Tokens" (222 : Nat) "SownByArgument$Name") ∈ lw_all := lw_g (lw_at lw_m3 44 rfl) rfl
theorem q660 : (Jvm.Cond.methodLinkNest "SownByArgument$Tokens" (224 : Nat) ({ cls := "SownByArgument$Name", name := "<init>", desc := "(I)V" } : Jvm.MethodName) "SownByArgument") ∈ lw_tbl := lw_at lw_m3 46 rfl
theorem q668 : (Jvm.Cond.classLink "SownByArgument$Tokens" (225 : Nat) "SownByArgument$Held") ∈ lw_all := lw_g (lw_at lw_m3 54 rfl) rfl
theorem q670 : (Jvm.Cond.methodLinkNest "SownByArgument$Tokens" (227 : Nat) ({ cls := "SownByArgument$Held", name := "<init>", desc := "(LSownByArgument$Sum;)V" } : Jvm.MethodName) "SownByArgument") ∈ lw_tbl := lw_at lw_m3 56 rfl
theorem q678 : (Jvm.Cond.classLink "SownByArgument$Tokens" (228 : Nat) "SownByArgument$Minus") ∈ lw_all := lw_g (lw_at lw_m3 64 rfl) rfl
theorem q680 : (Jvm.Cond.methodLinkNest "SownByArgument$Tokens" (230 : Nat) ({ cls := "SownByArgument$Minus", name := "<init>", desc := "(LSownByArgument$Sum;)V" } : Jvm.MethodName) "SownByArgument") ∈ lw_tbl := lw_at lw_m3 66 rfl
theorem q688 : (Jvm.Cond.methodLink "SownByArgument$Tokens" (181 : Nat) ({ cls := "SownByArgument$Chain", name := "<init>", desc := "(LSownByArgument$Sum;)V" } : Jvm.MethodName)) ∈ lw_all := lw_g (lw_at lw_m3 74 rfl) rfl
theorem q704 : (Jvm.Cond.methodLink "SownByArgument$Tokens" (184 : Nat) ({ cls := "SownByArgument$Chain", name := "add", desc := "(ILSownByArgument$Sum;)V" } : Jvm.MethodName)) ∈ lw_all := lw_g (lw_at lw_m3 90 rfl) rfl
theorem q774 : (Jvm.Cond.selects "SownByArgument$Tokens" ({ cls := "java/lang/Object", name := "getClass", desc := "()Ljava/lang/Class;" } : Jvm.MethodName) ({ cls := "java/lang/Object", name := "getClass", desc := "()Ljava/lang/Class;" } : Jvm.MethodName)) ∈ lw_all := lw_g (lw_at lw_m3 160 rfl) rfl
theorem q790 : (Jvm.Cond.methodLink "SownByArgument$Tokens" (187 : Nat) ({ cls := "SownByArgument$Chain", name := "itself", desc := "()LSownByArgument$Sum;" } : Jvm.MethodName)) ∈ lw_all := lw_g (lw_at lw_m3 176 rfl) rfl
theorem q798 : (Jvm.Cond.classLink "SownByArgument$Tokens" (171 : Nat) "SownByArgument$Compared") ∈ lw_all := lw_g (lw_at lw_m3 184 rfl) rfl
theorem q800 : (Jvm.Cond.methodLinkNest "SownByArgument$Tokens" (173 : Nat) ({ cls := "SownByArgument$Compared", name := "<init>", desc := "(ILSownByArgument$Sum;LSownByArgument$Sum;)V" } : Jvm.MethodName) "SownByArgument") ∈ lw_tbl := lw_at lw_m3 186 rfl
theorem q814 : (Jvm.Cond.methodLink "SownByArgument$Tokens" (115 : Nat) ({ cls := "java/util/ArrayList", name := "add", desc := "(Ljava/lang/Object;)Z" } : Jvm.MethodName)) ∈ lw_all := lw_g (lw_at lw_m3 200 rfl) rfl
theorem q815 : (Jvm.Cond.methodLink "SownByArgument$Tokens" (149 : Nat) ({ cls := "java/util/ArrayList", name := "size", desc := "()I" } : Jvm.MethodName)) ∈ lw_all := lw_g (lw_at lw_m3 201 rfl) rfl
theorem q819 : (Jvm.Cond.methodLink "SownByArgument$Tokens" (151 : Nat) ({ cls := "java/util/ArrayList", name := "get", desc := "(I)Ljava/lang/Object;" } : Jvm.MethodName)) ∈ lw_all := lw_g (lw_at lw_m3 205 rfl) rfl
theorem q831 : (Jvm.Cond.classLink "SownByArgument$Tokens" (126 : Nat) "SownByArgument$Asked") ∈ lw_all := lw_g (lw_at lw_m3 217 rfl) rfl
theorem q832 : (Jvm.Cond.classLink "SownByArgument$Tokens" (155 : Nat) "SownByArgument$All") ∈ lw_all := lw_g (lw_at lw_m3 218 rfl) rfl
theorem q834 : (Jvm.Cond.methodLinkNest "SownByArgument$Tokens" (157 : Nat) ({ cls := "SownByArgument$All", name := "<init>", desc := "(ZLjava/util/ArrayList;)V" } : Jvm.MethodName) "SownByArgument") ∈ lw_tbl := lw_at lw_m3 220 rfl
theorem q845 : (Jvm.Cond.methodLink "SownByArgument$Tokens" (100 : Nat) ({ cls := "SownByArgument$Tokens", name := "claims", desc := "(LSownByArgument$Text;LSownByArgument$Asked;)V" } : Jvm.MethodName)) ∈ lw_all := lw_g (lw_at lw_m3 231 rfl) rfl
theorem q846 : (Jvm.Cond.static ({ cls := "SownByArgument$Tokens", name := "claims", desc := "(LSownByArgument$Text;LSownByArgument$Asked;)V" } : Jvm.MethodName)) ∈ lw_all := lw_g (lw_at lw_m3 232 rfl) rfl
theorem q847 : (Jvm.Cond.code ({ cls := "SownByArgument$Tokens", name := "claims", desc := "(LSownByArgument$Text;LSownByArgument$Asked;)V" } : Jvm.MethodName) prog_17_method_11_code (5 : Nat) (Option.none : Option Jvm.ClassFile.FieldType)) ∈ lw_all := lw_g (lw_at lw_m3 233 rfl) rfl
theorem q848 : (Jvm.Cond.interfaceEntry "SownByArgument$Tokens" (125 : Nat)) ∈ lw_tbl := lw_at lw_m3 234 rfl
theorem q849 : (Jvm.Cond.methodLink "SownByArgument$Tokens" (125 : Nat) ({ cls := "SownByArgument$Asked", name := "is", desc := "([I)Z" } : Jvm.MethodName)) ∈ lw_all := lw_g (lw_at lw_m3 235 rfl) rfl
theorem q957 : (Jvm.Cond.methodLink "SownByArgument$Tokens" (111 : Nat) ({ cls := "SownByArgument$Tokens", name := "doing", desc := "(I)LSownByArgument$Doing;" } : Jvm.MethodName)) ∈ lw_all := lw_g (lw_at lw_m4 103 rfl) rfl
theorem q958 : (Jvm.Cond.privateMethod ({ cls := "SownByArgument$Tokens", name := "doing", desc := "(I)LSownByArgument$Doing;" } : Jvm.MethodName)) ∈ lw_tbl := lw_at lw_m4 104 rfl
theorem q959 : (Jvm.Cond.instanceMethod ({ cls := "SownByArgument$Tokens", name := "doing", desc := "(I)LSownByArgument$Doing;" } : Jvm.MethodName)) ∈ lw_all := lw_g (lw_at lw_m4 105 rfl) rfl
theorem q960 : (Jvm.Cond.code ({ cls := "SownByArgument$Tokens", name := "doing", desc := "(I)LSownByArgument$Doing;" } : Jvm.MethodName) prog_17_method_13_code (4 : Nat) (Option.some (Jvm.ClassFile.FieldType.object "SownByArgument$Doing"))) ∈ lw_all := lw_g (lw_at lw_m4 106 rfl) rfl
theorem q961 : (Jvm.Cond.classLink "SownByArgument$Tokens" (137 : Nat) "SownByArgument$Doing") ∈ lw_all := lw_g (lw_at lw_m4 107 rfl) rfl
theorem q963 : (Jvm.Cond.methodLinkNest "SownByArgument$Tokens" (139 : Nat) ({ cls := "SownByArgument$Doing", name := "<init>", desc := "(IIIII)V" } : Jvm.MethodName) "SownByArgument") ∈ lw_tbl := lw_at lw_m4 109 rfl
theorem q983 : (Jvm.Cond.methodLink "SownByArgument$Tokens" (142 : Nat) ({ cls := "SownByArgument$Tokens", name := "behind", desc := "(II)I" } : Jvm.MethodName)) ∈ lw_all := lw_g (lw_at lw_m4 129 rfl) rfl
theorem q984 : (Jvm.Cond.privateMethod ({ cls := "SownByArgument$Tokens", name := "behind", desc := "(II)I" } : Jvm.MethodName)) ∈ lw_tbl := lw_at lw_m4 130 rfl
theorem q985 : (Jvm.Cond.instanceMethod ({ cls := "SownByArgument$Tokens", name := "behind", desc := "(II)I" } : Jvm.MethodName)) ∈ lw_all := lw_g (lw_at lw_m4 131 rfl) rfl
theorem q986 : (Jvm.Cond.code ({ cls := "SownByArgument$Tokens", name := "behind", desc := "(II)I" } : Jvm.MethodName) prog_17_method_12_code (3 : Nat) (Option.some Jvm.ClassFile.FieldType.int)) ∈ lw_all := lw_g (lw_at lw_m4 132 rfl) rfl
theorem q2111 : (Jvm.Cond.castable "SownByArgument$Tokens" "java/lang/Object") ∈ lw_tbl := lw_at lw_m9 57 rfl
theorem q2140 : (Jvm.Cond.stringRef "SownByArgument$Tokens" (231 : Nat) "claim") ∈ lw_tbl := lw_at lw_m9 86 rfl
theorem q2141 : (Jvm.Cond.stringRef "SownByArgument$Tokens" (233 : Nat) "worth") ∈ lw_tbl := lw_at lw_m9 87 rfl
theorem q2142 : (Jvm.Cond.stringRef "SownByArgument$Tokens" (234 : Nat) "farmer") ∈ lw_tbl := lw_at lw_m9 88 rfl
theorem q2143 : (Jvm.Cond.stringRef "SownByArgument$Tokens" (236 : Nat) "soil") ∈ lw_tbl := lw_at lw_m9 89 rfl
theorem q2144 : (Jvm.Cond.stringRef "SownByArgument$Tokens" (238 : Nat) "want") ∈ lw_tbl := lw_at lw_m9 90 rfl
theorem q2145 : (Jvm.Cond.stringRef "SownByArgument$Tokens" (239 : Nat) "say") ∈ lw_tbl := lw_at lw_m9 91 rfl
theorem q2146 : (Jvm.Cond.stringRef "SownByArgument$Tokens" (241 : Nat) "retract") ∈ lw_tbl := lw_at lw_m9 92 rfl
theorem q2147 : (Jvm.Cond.stringRef "SownByArgument$Tokens" (243 : Nat) "pardon") ∈ lw_tbl := lw_at lw_m9 93 rfl
theorem q2148 : (Jvm.Cond.stringRef "SownByArgument$Tokens" (245 : Nat) "spring") ∈ lw_tbl := lw_at lw_m9 94 rfl
theorem q2149 : (Jvm.Cond.stringRef "SownByArgument$Tokens" (247 : Nat) "at") ∈ lw_tbl := lw_at lw_m9 95 rfl
theorem q2150 : (Jvm.Cond.stringRef "SownByArgument$Tokens" (248 : Nat) "by") ∈ lw_tbl := lw_at lw_m9 96 rfl
theorem q2151 : (Jvm.Cond.stringRef "SownByArgument$Tokens" (250 : Nat) "gap") ∈ lw_tbl := lw_at lw_m9 97 rfl
theorem q2152 : (Jvm.Cond.stringRef "SownByArgument$Tokens" (251 : Nat) "of") ∈ lw_tbl := lw_at lw_m9 98 rfl
theorem q2153 : (Jvm.Cond.stringRef "SownByArgument$Tokens" (253 : Nat) "held") ∈ lw_tbl := lw_at lw_m9 99 rfl
theorem q2154 : (Jvm.Cond.stringRef "SownByArgument$Tokens" (255 : Nat) "if") ∈ lw_tbl := lw_at lw_m9 100 rfl
theorem q2155 : (Jvm.Cond.stringRef "SownByArgument$Tokens" (257 : Nat) "then") ∈ lw_tbl := lw_at lw_m9 101 rfl
theorem q2156 : (Jvm.Cond.stringRef "SownByArgument$Tokens" (259 : Nat) "else") ∈ lw_tbl := lw_at lw_m9 102 rfl
theorem q2157 : (Jvm.Cond.stringRef "SownByArgument$Tokens" (261 : Nat) "end") ∈ lw_tbl := lw_at lw_m9 103 rfl
theorem q2158 : (Jvm.Cond.stringRef "SownByArgument$Tokens" (263 : Nat) "or") ∈ lw_tbl := lw_at lw_m9 104 rfl
theorem q2159 : (Jvm.Cond.stringRef "SownByArgument$Tokens" (265 : Nat) "and") ∈ lw_tbl := lw_at lw_m9 105 rfl
theorem q2160 : (Jvm.Cond.stringRef "SownByArgument$Tokens" (267 : Nat) "not") ∈ lw_tbl := lw_at lw_m9 106 rfl
theorem q2161 : (Jvm.Cond.stringRef "SownByArgument$Tokens" (269 : Nat) "a") ∈ lw_tbl := lw_at lw_m9 107 rfl
theorem q2162 : (Jvm.Cond.stringRef "SownByArgument$Tokens" (271 : Nat) "b") ∈ lw_tbl := lw_at lw_m9 108 rfl
theorem q2163 : (Jvm.Cond.stringRef "SownByArgument$Tokens" (273 : Nat) "c") ∈ lw_tbl := lw_at lw_m9 109 rfl
theorem q2164 : (Jvm.Cond.stringRef "SownByArgument$Tokens" (275 : Nat) "d") ∈ lw_tbl := lw_at lw_m9 110 rfl
theorem q2165 : (Jvm.Cond.stringRef "SownByArgument$Tokens" (277 : Nat) "field") ∈ lw_tbl := lw_at lw_m9 111 rfl
theorem q2166 : (Jvm.Cond.stringRef "SownByArgument$Tokens" (279 : Nat) "tongue") ∈ lw_tbl := lw_at lw_m9 112 rfl
theorem in_X3 : ∀ w ∈ wsX30, w ∈ lw_all := lw_in wsX30 [336, 338, 340, 342, 344, 346, 348, 350] (by decide +kernel) (by decide +kernel)
