/-! SownByArgument -/
set_option maxRecDepth 100000
def RX0 : String := "SownByArgument"
def TX0 : u_T := fun k => match k with
  | 0 => ("SownByArgument", "now", "LSownByArgument$State;", true)
  | 1 => ("SownByArgument", "image", "LSownByArgument$State;", true)
  | 2 => ("SownByArgument", "tape", "[B", true)
  | 3 => ("SownByArgument", "taped", "I", false)
  | 4 => ("SownByArgument", "fault", "I", false)
  | 5 => ("SownByArgument", "faultAt", "I", false)
  | 6 => ("SownByArgument", "names", "[I", true)
  | 7 => ("SownByArgument", "saying", "[I", true)
  | 8 => ("SownByArgument", "line", "[I", true)
  | 9 => ("SownByArgument", "tried", "[I", true)
  | 10 => ("SownByArgument", "wins", "[Z", true)
  | 11 => ("SownByArgument", "gets", "[I", true)
  | _ => ("SownByArgument", "price", "[I", true)
def tyX0 : Nat → FieldType := fun k => match k with
  | 0 => .object "SownByArgument$State"
  | 1 => .object "SownByArgument$State"
  | 2 => .array .byte
  | 3 => .int
  | 4 => .int
  | 5 => .int
  | 6 => .array .int
  | 7 => .array .int
  | 8 => .array .int
  | 9 => .array .int
  | 10 => .array .boolean
  | 11 => .array .int
  | _ => .array .int
abbrev wsX00 : List Cond := u_ws RX0 TX0 13
set_option maxRecDepth 100000 in
theorem nmX0 : ∀ a, a < 13 → ∀ b, b < 13 → a ≠ b → (TX0 a).2.1 ≠ (TX0 b).2.1 := by decide +kernel
set_option maxRecDepth 100000 in
theorem tyX0_ok : ∀ k, k < 13 → parseFieldDescriptor (TX0 k).2.2.1 = some (tyX0 k) := by decide +kernel
abbrev cX0_init : ByteArray := prog_1_method_4_code
def yX0_init : MethodName := ⟨RX0, "<init>", "()V"⟩
def dkwX0_init_4 : List UInt8 := [188, 10, 181, 0, 59, 42, 180, 0, 25, 42, 180, 0, 21, 182, 0, 62, 177]
abbrev dktX0_init_4 : List UInt8 := dkwX0_init_4 ++ []
def dkwX0_init_3 : List UInt8 := [188, 10, 181, 0, 49, 42, 17, 1, 0, 188, 4, 181, 0, 52, 42, 8, 188, 10, 181, 0, 56, 42, 8]
abbrev dktX0_init_3 : List UInt8 := dkwX0_init_3 ++ dktX0_init_4
def dkwX0_init_2 : List UInt8 := [16, 18, 188, 10, 181, 0, 39, 42, 8, 188, 10, 181, 0, 43, 42, 8, 188, 10, 181, 0, 46, 42, 16, 122]
abbrev dktX0_init_2 : List UInt8 := dkwX0_init_2 ++ dktX0_init_3
def dkwX0_init_1 : List UInt8 := [181, 0, 25, 42, 17, 1, 44, 188, 8, 181, 0, 28, 42, 2, 181, 0, 32, 42, 2, 181, 0, 36, 42]
abbrev dktX0_init_1 : List UInt8 := dkwX0_init_1 ++ dktX0_init_2
def dkwX0_init_0 : List UInt8 := [42, 183, 0, 12, 42, 187, 0, 18, 89, 183, 0, 20, 181, 0, 21, 42, 187, 0, 18, 89, 183, 0, 20]
abbrev dktX0_init_0 : List UInt8 := dkwX0_init_0 ++ dktX0_init_1
theorem dksX0_init_0 : cX0_init.data.toList.drop 0 = dktX0_init_0 := by decide +kernel
theorem dksX0_init_1 : cX0_init.data.toList.drop 23 = dktX0_init_1 := dk_seg dksX0_init_0 23 rfl rfl
theorem dksX0_init_2 : cX0_init.data.toList.drop 46 = dktX0_init_2 := dk_seg dksX0_init_1 23 rfl rfl
theorem dksX0_init_3 : cX0_init.data.toList.drop 70 = dktX0_init_3 := dk_seg dksX0_init_2 24 rfl rfl
theorem dksX0_init_4 : cX0_init.data.toList.drop 93 = dktX0_init_4 := dk_seg dksX0_init_3 23 rfl rfl
theorem dX0_init_0 : decode cX0_init 0 = .ok (.aload_n 0, 1) := dk_42 (dk_at dksX0_init_0 0 rfl rfl)
theorem dX0_init_1 : decode cX0_init 1 = .ok (.invokespecial 12, 3) := dk_183 0 12 (dk_at dksX0_init_0 1 rfl rfl)
theorem dX0_init_4 : decode cX0_init 4 = .ok (.aload_n 0, 1) := dk_42 (dk_at dksX0_init_0 4 rfl rfl)
theorem dX0_init_5 : decode cX0_init 5 = .ok (.new 18, 3) := dk_187 0 18 (dk_at dksX0_init_0 5 rfl rfl)
theorem dX0_init_8 : decode cX0_init 8 = .ok (.dup, 1) := dk_89 (dk_at dksX0_init_0 8 rfl rfl)
theorem dX0_init_9 : decode cX0_init 9 = .ok (.invokespecial 20, 3) := dk_183 0 20 (dk_at dksX0_init_0 9 rfl rfl)
theorem dX0_init_12 : decode cX0_init 12 = .ok (.putfield 21, 3) := dk_181 0 21 (dk_at dksX0_init_0 12 rfl rfl)
theorem dX0_init_15 : decode cX0_init 15 = .ok (.aload_n 0, 1) := dk_42 (dk_at dksX0_init_0 15 rfl rfl)
theorem dX0_init_16 : decode cX0_init 16 = .ok (.new 18, 3) := dk_187 0 18 (dk_at dksX0_init_0 16 rfl rfl)
theorem dX0_init_19 : decode cX0_init 19 = .ok (.dup, 1) := dk_89 (dk_at dksX0_init_0 19 rfl rfl)
theorem dX0_init_20 : decode cX0_init 20 = .ok (.invokespecial 20, 3) := dk_183 0 20 (dk_at dksX0_init_0 20 rfl rfl)
theorem dX0_init_23 : decode cX0_init 23 = .ok (.putfield 25, 3) := dk_181 0 25 (dk_at dksX0_init_1 0 rfl rfl)
theorem dX0_init_26 : decode cX0_init 26 = .ok (.aload_n 0, 1) := dk_42 (dk_at dksX0_init_1 3 rfl rfl)
theorem dX0_init_27 : decode cX0_init 27 = .ok (.sipush 300, 3) := dk_17 1 44 (dk_at dksX0_init_1 4 rfl rfl)
theorem dX0_init_30 : decode cX0_init 30 = .ok (.newarray .byte, 2) := dk_188_8 (dk_at dksX0_init_1 7 rfl rfl)
theorem dX0_init_32 : decode cX0_init 32 = .ok (.putfield 28, 3) := dk_181 0 28 (dk_at dksX0_init_1 9 rfl rfl)
theorem dX0_init_35 : decode cX0_init 35 = .ok (.aload_n 0, 1) := dk_42 (dk_at dksX0_init_1 12 rfl rfl)
theorem dX0_init_36 : decode cX0_init 36 = .ok (.iconst (-1), 1) := dk_2 (dk_at dksX0_init_1 13 rfl rfl)
theorem dX0_init_37 : decode cX0_init 37 = .ok (.putfield 32, 3) := dk_181 0 32 (dk_at dksX0_init_1 14 rfl rfl)
theorem dX0_init_40 : decode cX0_init 40 = .ok (.aload_n 0, 1) := dk_42 (dk_at dksX0_init_1 17 rfl rfl)
theorem dX0_init_41 : decode cX0_init 41 = .ok (.iconst (-1), 1) := dk_2 (dk_at dksX0_init_1 18 rfl rfl)
theorem dX0_init_42 : decode cX0_init 42 = .ok (.putfield 36, 3) := dk_181 0 36 (dk_at dksX0_init_1 19 rfl rfl)
theorem dX0_init_45 : decode cX0_init 45 = .ok (.aload_n 0, 1) := dk_42 (dk_at dksX0_init_1 22 rfl rfl)
theorem dX0_init_46 : decode cX0_init 46 = .ok (.bipush 18, 2) := dk_16 18 (dk_at dksX0_init_2 0 rfl rfl)
theorem dX0_init_48 : decode cX0_init 48 = .ok (.newarray .int, 2) := dk_188_10 (dk_at dksX0_init_2 2 rfl rfl)
theorem dX0_init_50 : decode cX0_init 50 = .ok (.putfield 39, 3) := dk_181 0 39 (dk_at dksX0_init_2 4 rfl rfl)
theorem dX0_init_53 : decode cX0_init 53 = .ok (.aload_n 0, 1) := dk_42 (dk_at dksX0_init_2 7 rfl rfl)
theorem dX0_init_54 : decode cX0_init 54 = .ok (.iconst 5, 1) := dk_8 (dk_at dksX0_init_2 8 rfl rfl)
theorem dX0_init_55 : decode cX0_init 55 = .ok (.newarray .int, 2) := dk_188_10 (dk_at dksX0_init_2 9 rfl rfl)
theorem dX0_init_57 : decode cX0_init 57 = .ok (.putfield 43, 3) := dk_181 0 43 (dk_at dksX0_init_2 11 rfl rfl)
theorem dX0_init_60 : decode cX0_init 60 = .ok (.aload_n 0, 1) := dk_42 (dk_at dksX0_init_2 14 rfl rfl)
theorem dX0_init_61 : decode cX0_init 61 = .ok (.iconst 5, 1) := dk_8 (dk_at dksX0_init_2 15 rfl rfl)
theorem dX0_init_62 : decode cX0_init 62 = .ok (.newarray .int, 2) := dk_188_10 (dk_at dksX0_init_2 16 rfl rfl)
theorem dX0_init_64 : decode cX0_init 64 = .ok (.putfield 46, 3) := dk_181 0 46 (dk_at dksX0_init_2 18 rfl rfl)
theorem dX0_init_67 : decode cX0_init 67 = .ok (.aload_n 0, 1) := dk_42 (dk_at dksX0_init_2 21 rfl rfl)
theorem dX0_init_68 : decode cX0_init 68 = .ok (.bipush 122, 2) := dk_16 122 (dk_at dksX0_init_2 22 rfl rfl)
theorem dX0_init_70 : decode cX0_init 70 = .ok (.newarray .int, 2) := dk_188_10 (dk_at dksX0_init_3 0 rfl rfl)
theorem dX0_init_72 : decode cX0_init 72 = .ok (.putfield 49, 3) := dk_181 0 49 (dk_at dksX0_init_3 2 rfl rfl)
theorem dX0_init_75 : decode cX0_init 75 = .ok (.aload_n 0, 1) := dk_42 (dk_at dksX0_init_3 5 rfl rfl)
theorem dX0_init_76 : decode cX0_init 76 = .ok (.sipush 256, 3) := dk_17 1 0 (dk_at dksX0_init_3 6 rfl rfl)
theorem dX0_init_79 : decode cX0_init 79 = .ok (.newarray .boolean, 2) := dk_188_4 (dk_at dksX0_init_3 9 rfl rfl)
theorem dX0_init_81 : decode cX0_init 81 = .ok (.putfield 52, 3) := dk_181 0 52 (dk_at dksX0_init_3 11 rfl rfl)
theorem dX0_init_84 : decode cX0_init 84 = .ok (.aload_n 0, 1) := dk_42 (dk_at dksX0_init_3 14 rfl rfl)
theorem dX0_init_85 : decode cX0_init 85 = .ok (.iconst 5, 1) := dk_8 (dk_at dksX0_init_3 15 rfl rfl)
theorem dX0_init_86 : decode cX0_init 86 = .ok (.newarray .int, 2) := dk_188_10 (dk_at dksX0_init_3 16 rfl rfl)
theorem dX0_init_88 : decode cX0_init 88 = .ok (.putfield 56, 3) := dk_181 0 56 (dk_at dksX0_init_3 18 rfl rfl)
theorem dX0_init_91 : decode cX0_init 91 = .ok (.aload_n 0, 1) := dk_42 (dk_at dksX0_init_3 21 rfl rfl)
theorem dX0_init_92 : decode cX0_init 92 = .ok (.iconst 5, 1) := dk_8 (dk_at dksX0_init_3 22 rfl rfl)
theorem dX0_init_93 : decode cX0_init 93 = .ok (.newarray .int, 2) := dk_188_10 (dk_at dksX0_init_4 0 rfl rfl)
theorem dX0_init_95 : decode cX0_init 95 = .ok (.putfield 59, 3) := dk_181 0 59 (dk_at dksX0_init_4 2 rfl rfl)
theorem dX0_init_98 : decode cX0_init 98 = .ok (.aload_n 0, 1) := dk_42 (dk_at dksX0_init_4 5 rfl rfl)
theorem dX0_init_99 : decode cX0_init 99 = .ok (.getfield 25, 3) := dk_180 0 25 (dk_at dksX0_init_4 6 rfl rfl)
theorem dX0_init_102 : decode cX0_init 102 = .ok (.aload_n 0, 1) := dk_42 (dk_at dksX0_init_4 9 rfl rfl)
theorem dX0_init_103 : decode cX0_init 103 = .ok (.getfield 21, 3) := dk_180 0 21 (dk_at dksX0_init_4 10 rfl rfl)
theorem dX0_init_106 : decode cX0_init 106 = .ok (.invokevirtual 62, 3) := dk_182 0 62 (dk_at dksX0_init_4 13 rfl rfl)
theorem dX0_init_109 : decode cX0_init 109 = .ok (.return_, 1) := dk_177 (dk_at dksX0_init_4 16 rfl rfl)
abbrev cX0_farmer : ByteArray := prog_1_method_8_code
def yX0_farmer : MethodName := ⟨RX0, "farmer", "(I)I"⟩
def dkwX0_farmer_1 : List UInt8 := [180, 0, 21, 180, 0, 77, 28, 27, 79, 42, 180, 0, 21, 180, 0, 66, 3, 92, 46, 4, 96, 79, 28, 172]
abbrev dktX0_farmer_1 : List UInt8 := dkwX0_farmer_1 ++ []
def dkwX0_farmer_0 : List UInt8 := [42, 182, 0, 69, 61, 27, 4, 16, 9, 184, 0, 73, 153, 0, 8, 28, 8, 160, 0, 5, 2, 172, 42]
abbrev dktX0_farmer_0 : List UInt8 := dkwX0_farmer_0 ++ dktX0_farmer_1
theorem dksX0_farmer_0 : cX0_farmer.data.toList.drop 0 = dktX0_farmer_0 := by decide +kernel
theorem dksX0_farmer_1 : cX0_farmer.data.toList.drop 23 = dktX0_farmer_1 := dk_seg dksX0_farmer_0 23 rfl rfl
theorem dX0_farmer_0 : decode cX0_farmer 0 = .ok (.aload_n 0, 1) := dk_42 (dk_at dksX0_farmer_0 0 rfl rfl)
theorem dX0_farmer_1 : decode cX0_farmer 1 = .ok (.invokevirtual 69, 3) := dk_182 0 69 (dk_at dksX0_farmer_0 1 rfl rfl)
theorem dX0_farmer_4 : decode cX0_farmer 4 = .ok (.istore_n 2, 1) := dk_61 (dk_at dksX0_farmer_0 4 rfl rfl)
theorem dX0_farmer_5 : decode cX0_farmer 5 = .ok (.iload_n 1, 1) := dk_27 (dk_at dksX0_farmer_0 5 rfl rfl)
theorem dX0_farmer_6 : decode cX0_farmer 6 = .ok (.iconst 1, 1) := dk_4 (dk_at dksX0_farmer_0 6 rfl rfl)
theorem dX0_farmer_7 : decode cX0_farmer 7 = .ok (.bipush 9, 2) := dk_16 9 (dk_at dksX0_farmer_0 7 rfl rfl)
theorem dX0_farmer_9 : decode cX0_farmer 9 = .ok (.invokestatic 73, 3) := dk_184 0 73 (dk_at dksX0_farmer_0 9 rfl rfl)
theorem dX0_farmer_12 : decode cX0_farmer 12 = .ok (.ifCond .eq 8, 3) := dk_153 0 8 (dk_at dksX0_farmer_0 12 rfl rfl)
theorem dX0_farmer_15 : decode cX0_farmer 15 = .ok (.iload_n 2, 1) := dk_28 (dk_at dksX0_farmer_0 15 rfl rfl)
theorem dX0_farmer_16 : decode cX0_farmer 16 = .ok (.iconst 5, 1) := dk_8 (dk_at dksX0_farmer_0 16 rfl rfl)
theorem dX0_farmer_17 : decode cX0_farmer 17 = .ok (.if_icmp .ne 5, 3) := dk_160 0 5 (dk_at dksX0_farmer_0 17 rfl rfl)
theorem dX0_farmer_20 : decode cX0_farmer 20 = .ok (.iconst (-1), 1) := dk_2 (dk_at dksX0_farmer_0 20 rfl rfl)
theorem dX0_farmer_21 : decode cX0_farmer 21 = .ok (.ireturn, 1) := dk_172 (dk_at dksX0_farmer_0 21 rfl rfl)
theorem dX0_farmer_22 : decode cX0_farmer 22 = .ok (.aload_n 0, 1) := dk_42 (dk_at dksX0_farmer_0 22 rfl rfl)
theorem dX0_farmer_23 : decode cX0_farmer 23 = .ok (.getfield 21, 3) := dk_180 0 21 (dk_at dksX0_farmer_1 0 rfl rfl)
theorem dX0_farmer_26 : decode cX0_farmer 26 = .ok (.getfield 77, 3) := dk_180 0 77 (dk_at dksX0_farmer_1 3 rfl rfl)
theorem dX0_farmer_29 : decode cX0_farmer 29 = .ok (.iload_n 2, 1) := dk_28 (dk_at dksX0_farmer_1 6 rfl rfl)
theorem dX0_farmer_30 : decode cX0_farmer 30 = .ok (.iload_n 1, 1) := dk_27 (dk_at dksX0_farmer_1 7 rfl rfl)
theorem dX0_farmer_31 : decode cX0_farmer 31 = .ok (.iastore, 1) := dk_79 (dk_at dksX0_farmer_1 8 rfl rfl)
theorem dX0_farmer_32 : decode cX0_farmer 32 = .ok (.aload_n 0, 1) := dk_42 (dk_at dksX0_farmer_1 9 rfl rfl)
theorem dX0_farmer_33 : decode cX0_farmer 33 = .ok (.getfield 21, 3) := dk_180 0 21 (dk_at dksX0_farmer_1 10 rfl rfl)
theorem dX0_farmer_36 : decode cX0_farmer 36 = .ok (.getfield 66, 3) := dk_180 0 66 (dk_at dksX0_farmer_1 13 rfl rfl)
theorem dX0_farmer_39 : decode cX0_farmer 39 = .ok (.iconst 0, 1) := dk_3 (dk_at dksX0_farmer_1 16 rfl rfl)
theorem dX0_farmer_40 : decode cX0_farmer 40 = .ok (.dup2, 1) := dk_92 (dk_at dksX0_farmer_1 17 rfl rfl)
theorem dX0_farmer_41 : decode cX0_farmer 41 = .ok (.iaload, 1) := dk_46 (dk_at dksX0_farmer_1 18 rfl rfl)
theorem dX0_farmer_42 : decode cX0_farmer 42 = .ok (.iconst 1, 1) := dk_4 (dk_at dksX0_farmer_1 19 rfl rfl)
theorem dX0_farmer_43 : decode cX0_farmer 43 = .ok (.iadd, 1) := dk_96 (dk_at dksX0_farmer_1 20 rfl rfl)
theorem dX0_farmer_44 : decode cX0_farmer 44 = .ok (.iastore, 1) := dk_79 (dk_at dksX0_farmer_1 21 rfl rfl)
theorem dX0_farmer_45 : decode cX0_farmer 45 = .ok (.iload_n 2, 1) := dk_28 (dk_at dksX0_farmer_1 22 rfl rfl)
theorem dX0_farmer_46 : decode cX0_farmer 46 = .ok (.ireturn, 1) := dk_172 (dk_at dksX0_farmer_1 23 rfl rfl)
abbrev cX0_farmers : ByteArray := prog_1_method_5_code
def yX0_farmers : MethodName := ⟨RX0, "farmers", "()I"⟩
def dkwX0_farmers_0 : List UInt8 := [42, 180, 0, 21, 180, 0, 66, 3, 46, 172]
abbrev dktX0_farmers_0 : List UInt8 := dkwX0_farmers_0 ++ []
theorem dksX0_farmers_0 : cX0_farmers.data.toList.drop 0 = dktX0_farmers_0 := by decide +kernel
theorem dX0_farmers_0 : decode cX0_farmers 0 = .ok (.aload_n 0, 1) := dk_42 (dk_at dksX0_farmers_0 0 rfl rfl)
theorem dX0_farmers_1 : decode cX0_farmers 1 = .ok (.getfield 21, 3) := dk_180 0 21 (dk_at dksX0_farmers_0 1 rfl rfl)
theorem dX0_farmers_4 : decode cX0_farmers 4 = .ok (.getfield 66, 3) := dk_180 0 66 (dk_at dksX0_farmers_0 4 rfl rfl)
theorem dX0_farmers_7 : decode cX0_farmers 7 = .ok (.iconst 0, 1) := dk_3 (dk_at dksX0_farmers_0 7 rfl rfl)
theorem dX0_farmers_8 : decode cX0_farmers 8 = .ok (.iaload, 1) := dk_46 (dk_at dksX0_farmers_0 8 rfl rfl)
theorem dX0_farmers_9 : decode cX0_farmers 9 = .ok (.ireturn, 1) := dk_172 (dk_at dksX0_farmers_0 9 rfl rfl)
abbrev cX0_in : ByteArray := prog_1_method_1_code
def yX0_in : MethodName := ⟨RX0, "in", "(III)Z"⟩
def dkwX0_in_0 : List UInt8 := [26, 27, 161, 0, 12, 26, 28, 163, 0, 7, 4, 167, 0, 4, 3, 172]
abbrev dktX0_in_0 : List UInt8 := dkwX0_in_0 ++ []
theorem dksX0_in_0 : cX0_in.data.toList.drop 0 = dktX0_in_0 := by decide +kernel
theorem dX0_in_0 : decode cX0_in 0 = .ok (.iload_n 0, 1) := dk_26 (dk_at dksX0_in_0 0 rfl rfl)
theorem dX0_in_1 : decode cX0_in 1 = .ok (.iload_n 1, 1) := dk_27 (dk_at dksX0_in_0 1 rfl rfl)
theorem dX0_in_2 : decode cX0_in 2 = .ok (.if_icmp .lt 12, 3) := dk_161 0 12 (dk_at dksX0_in_0 2 rfl rfl)
theorem dX0_in_5 : decode cX0_in 5 = .ok (.iload_n 0, 1) := dk_26 (dk_at dksX0_in_0 5 rfl rfl)
theorem dX0_in_6 : decode cX0_in 6 = .ok (.iload_n 2, 1) := dk_28 (dk_at dksX0_in_0 6 rfl rfl)
theorem dX0_in_7 : decode cX0_in 7 = .ok (.if_icmp .gt 7, 3) := dk_163 0 7 (dk_at dksX0_in_0 7 rfl rfl)
theorem dX0_in_10 : decode cX0_in 10 = .ok (.iconst 1, 1) := dk_4 (dk_at dksX0_in_0 10 rfl rfl)
theorem dX0_in_11 : decode cX0_in 11 = .ok (.goto 4, 3) := dk_167 0 4 (dk_at dksX0_in_0 11 rfl rfl)
theorem dX0_in_14 : decode cX0_in 14 = .ok (.iconst 0, 1) := dk_3 (dk_at dksX0_in_0 14 rfl rfl)
theorem dX0_in_15 : decode cX0_in 15 = .ok (.ireturn, 1) := dk_172 (dk_at dksX0_in_0 15 rfl rfl)
abbrev cX0_soil : ByteArray := prog_1_method_9_code
def yX0_soil : MethodName := ⟨RX0, "soil", "(II)Z"⟩
def dkwX0_soil_1 : List UInt8 := [180, 0, 84, 27, 28, 79, 4, 172]
abbrev dktX0_soil_1 : List UInt8 := dkwX0_soil_1 ++ []
def dkwX0_soil_0 : List UInt8 := [27, 184, 0, 80, 153, 0, 13, 28, 3, 16, 20, 184, 0, 73, 154, 0, 5, 3, 172, 42, 180, 0, 21]
abbrev dktX0_soil_0 : List UInt8 := dkwX0_soil_0 ++ dktX0_soil_1
theorem dksX0_soil_0 : cX0_soil.data.toList.drop 0 = dktX0_soil_0 := by decide +kernel
theorem dksX0_soil_1 : cX0_soil.data.toList.drop 23 = dktX0_soil_1 := dk_seg dksX0_soil_0 23 rfl rfl
theorem dX0_soil_0 : decode cX0_soil 0 = .ok (.iload_n 1, 1) := dk_27 (dk_at dksX0_soil_0 0 rfl rfl)
theorem dX0_soil_1 : decode cX0_soil 1 = .ok (.invokestatic 80, 3) := dk_184 0 80 (dk_at dksX0_soil_0 1 rfl rfl)
theorem dX0_soil_4 : decode cX0_soil 4 = .ok (.ifCond .eq 13, 3) := dk_153 0 13 (dk_at dksX0_soil_0 4 rfl rfl)
theorem dX0_soil_7 : decode cX0_soil 7 = .ok (.iload_n 2, 1) := dk_28 (dk_at dksX0_soil_0 7 rfl rfl)
theorem dX0_soil_8 : decode cX0_soil 8 = .ok (.iconst 0, 1) := dk_3 (dk_at dksX0_soil_0 8 rfl rfl)
theorem dX0_soil_9 : decode cX0_soil 9 = .ok (.bipush 20, 2) := dk_16 20 (dk_at dksX0_soil_0 9 rfl rfl)
theorem dX0_soil_11 : decode cX0_soil 11 = .ok (.invokestatic 73, 3) := dk_184 0 73 (dk_at dksX0_soil_0 11 rfl rfl)
theorem dX0_soil_14 : decode cX0_soil 14 = .ok (.ifCond .ne 5, 3) := dk_154 0 5 (dk_at dksX0_soil_0 14 rfl rfl)
theorem dX0_soil_17 : decode cX0_soil 17 = .ok (.iconst 0, 1) := dk_3 (dk_at dksX0_soil_0 17 rfl rfl)
theorem dX0_soil_18 : decode cX0_soil 18 = .ok (.ireturn, 1) := dk_172 (dk_at dksX0_soil_0 18 rfl rfl)
theorem dX0_soil_19 : decode cX0_soil 19 = .ok (.aload_n 0, 1) := dk_42 (dk_at dksX0_soil_0 19 rfl rfl)
theorem dX0_soil_20 : decode cX0_soil 20 = .ok (.getfield 21, 3) := dk_180 0 21 (dk_at dksX0_soil_0 20 rfl rfl)
theorem dX0_soil_23 : decode cX0_soil 23 = .ok (.getfield 84, 3) := dk_180 0 84 (dk_at dksX0_soil_1 0 rfl rfl)
theorem dX0_soil_26 : decode cX0_soil 26 = .ok (.iload_n 1, 1) := dk_27 (dk_at dksX0_soil_1 3 rfl rfl)
theorem dX0_soil_27 : decode cX0_soil 27 = .ok (.iload_n 2, 1) := dk_28 (dk_at dksX0_soil_1 4 rfl rfl)
theorem dX0_soil_28 : decode cX0_soil 28 = .ok (.iastore, 1) := dk_79 (dk_at dksX0_soil_1 5 rfl rfl)
theorem dX0_soil_29 : decode cX0_soil 29 = .ok (.iconst 1, 1) := dk_4 (dk_at dksX0_soil_1 6 rfl rfl)
theorem dX0_soil_30 : decode cX0_soil 30 = .ok (.ireturn, 1) := dk_172 (dk_at dksX0_soil_1 7 rfl rfl)
abbrev cX0_isField : ByteArray := prog_1_method_7_code
def yX0_isField : MethodName := ⟨RX0, "isField", "(I)Z"⟩
def dkwX0_isField_0 : List UInt8 := [26, 3, 7, 184, 0, 73, 172]
abbrev dktX0_isField_0 : List UInt8 := dkwX0_isField_0 ++ []
theorem dksX0_isField_0 : cX0_isField.data.toList.drop 0 = dktX0_isField_0 := by decide +kernel
theorem dX0_isField_0 : decode cX0_isField 0 = .ok (.iload_n 0, 1) := dk_26 (dk_at dksX0_isField_0 0 rfl rfl)
theorem dX0_isField_1 : decode cX0_isField 1 = .ok (.iconst 0, 1) := dk_3 (dk_at dksX0_isField_0 1 rfl rfl)
theorem dX0_isField_2 : decode cX0_isField 2 = .ok (.iconst 4, 1) := dk_7 (dk_at dksX0_isField_0 2 rfl rfl)
theorem dX0_isField_3 : decode cX0_isField 3 = .ok (.invokestatic 73, 3) := dk_184 0 73 (dk_at dksX0_isField_0 3 rfl rfl)
theorem dX0_isField_6 : decode cX0_isField 6 = .ok (.ireturn, 1) := dk_172 (dk_at dksX0_isField_0 6 rfl rfl)
abbrev cX0_wants : ByteArray := prog_1_method_10_code
def yX0_wants : MethodName := ⟨RX0, "wants", "(III)Z"⟩
def dkwX0_wants_1 : List UInt8 := [154, 0, 5, 3, 172, 42, 180, 0, 21, 180, 0, 87, 27, 50, 28, 29, 79, 4, 172]
abbrev dktX0_wants_1 : List UInt8 := dkwX0_wants_1 ++ []
def dkwX0_wants_0 : List UInt8 := [27, 3, 7, 184, 0, 73, 153, 0, 20, 28, 184, 0, 80, 153, 0, 13, 29, 3, 16, 20, 184, 0, 73]
abbrev dktX0_wants_0 : List UInt8 := dkwX0_wants_0 ++ dktX0_wants_1
theorem dksX0_wants_0 : cX0_wants.data.toList.drop 0 = dktX0_wants_0 := by decide +kernel
theorem dksX0_wants_1 : cX0_wants.data.toList.drop 23 = dktX0_wants_1 := dk_seg dksX0_wants_0 23 rfl rfl
theorem dX0_wants_0 : decode cX0_wants 0 = .ok (.iload_n 1, 1) := dk_27 (dk_at dksX0_wants_0 0 rfl rfl)
theorem dX0_wants_1 : decode cX0_wants 1 = .ok (.iconst 0, 1) := dk_3 (dk_at dksX0_wants_0 1 rfl rfl)
theorem dX0_wants_2 : decode cX0_wants 2 = .ok (.iconst 4, 1) := dk_7 (dk_at dksX0_wants_0 2 rfl rfl)
theorem dX0_wants_3 : decode cX0_wants 3 = .ok (.invokestatic 73, 3) := dk_184 0 73 (dk_at dksX0_wants_0 3 rfl rfl)
theorem dX0_wants_6 : decode cX0_wants 6 = .ok (.ifCond .eq 20, 3) := dk_153 0 20 (dk_at dksX0_wants_0 6 rfl rfl)
theorem dX0_wants_9 : decode cX0_wants 9 = .ok (.iload_n 2, 1) := dk_28 (dk_at dksX0_wants_0 9 rfl rfl)
theorem dX0_wants_10 : decode cX0_wants 10 = .ok (.invokestatic 80, 3) := dk_184 0 80 (dk_at dksX0_wants_0 10 rfl rfl)
theorem dX0_wants_13 : decode cX0_wants 13 = .ok (.ifCond .eq 13, 3) := dk_153 0 13 (dk_at dksX0_wants_0 13 rfl rfl)
theorem dX0_wants_16 : decode cX0_wants 16 = .ok (.iload_n 3, 1) := dk_29 (dk_at dksX0_wants_0 16 rfl rfl)
theorem dX0_wants_17 : decode cX0_wants 17 = .ok (.iconst 0, 1) := dk_3 (dk_at dksX0_wants_0 17 rfl rfl)
theorem dX0_wants_18 : decode cX0_wants 18 = .ok (.bipush 20, 2) := dk_16 20 (dk_at dksX0_wants_0 18 rfl rfl)
theorem dX0_wants_20 : decode cX0_wants 20 = .ok (.invokestatic 73, 3) := dk_184 0 73 (dk_at dksX0_wants_0 20 rfl rfl)
theorem dX0_wants_23 : decode cX0_wants 23 = .ok (.ifCond .ne 5, 3) := dk_154 0 5 (dk_at dksX0_wants_1 0 rfl rfl)
theorem dX0_wants_26 : decode cX0_wants 26 = .ok (.iconst 0, 1) := dk_3 (dk_at dksX0_wants_1 3 rfl rfl)
theorem dX0_wants_27 : decode cX0_wants 27 = .ok (.ireturn, 1) := dk_172 (dk_at dksX0_wants_1 4 rfl rfl)
theorem dX0_wants_28 : decode cX0_wants 28 = .ok (.aload_n 0, 1) := dk_42 (dk_at dksX0_wants_1 5 rfl rfl)
theorem dX0_wants_29 : decode cX0_wants 29 = .ok (.getfield 21, 3) := dk_180 0 21 (dk_at dksX0_wants_1 6 rfl rfl)
theorem dX0_wants_32 : decode cX0_wants 32 = .ok (.getfield 87, 3) := dk_180 0 87 (dk_at dksX0_wants_1 9 rfl rfl)
theorem dX0_wants_35 : decode cX0_wants 35 = .ok (.iload_n 1, 1) := dk_27 (dk_at dksX0_wants_1 12 rfl rfl)
theorem dX0_wants_36 : decode cX0_wants 36 = .ok (.aaload, 1) := dk_50 (dk_at dksX0_wants_1 13 rfl rfl)
theorem dX0_wants_37 : decode cX0_wants 37 = .ok (.iload_n 2, 1) := dk_28 (dk_at dksX0_wants_1 14 rfl rfl)
theorem dX0_wants_38 : decode cX0_wants 38 = .ok (.iload_n 3, 1) := dk_29 (dk_at dksX0_wants_1 15 rfl rfl)
theorem dX0_wants_39 : decode cX0_wants 39 = .ok (.iastore, 1) := dk_79 (dk_at dksX0_wants_1 16 rfl rfl)
theorem dX0_wants_40 : decode cX0_wants 40 = .ok (.iconst 1, 1) := dk_4 (dk_at dksX0_wants_1 17 rfl rfl)
theorem dX0_wants_41 : decode cX0_wants 41 = .ok (.ireturn, 1) := dk_172 (dk_at dksX0_wants_1 18 rfl rfl)
abbrev cX0_feed : ByteArray := prog_1_method_12_code
def yX0_feed : MethodName := ⟨RX0, "feed", "(IIIII)I"⟩
def dkwX0_feed_2 : List UInt8 := [172]
abbrev dktX0_feed_2 : List UInt8 := dkwX0_feed_2 ++ []
def dkwX0_feed_1 : List UInt8 := [182, 0, 94, 42, 29, 182, 0, 94, 42, 21, 4, 182, 0, 94, 42, 21, 5, 182, 0, 94, 42, 180, 0, 91]
abbrev dktX0_feed_1 : List UInt8 := dkwX0_feed_1 ++ dktX0_feed_2
def dkwX0_feed_0 : List UInt8 := [42, 180, 0, 91, 16, 20, 96, 17, 1, 44, 164, 0, 5, 2, 172, 42, 27, 182, 0, 94, 42, 28]
abbrev dktX0_feed_0 : List UInt8 := dkwX0_feed_0 ++ dktX0_feed_1
theorem dksX0_feed_0 : cX0_feed.data.toList.drop 0 = dktX0_feed_0 := by decide +kernel
theorem dksX0_feed_1 : cX0_feed.data.toList.drop 22 = dktX0_feed_1 := dk_seg dksX0_feed_0 22 rfl rfl
theorem dksX0_feed_2 : cX0_feed.data.toList.drop 46 = dktX0_feed_2 := dk_seg dksX0_feed_1 24 rfl rfl
theorem dX0_feed_0 : decode cX0_feed 0 = .ok (.aload_n 0, 1) := dk_42 (dk_at dksX0_feed_0 0 rfl rfl)
theorem dX0_feed_1 : decode cX0_feed 1 = .ok (.getfield 91, 3) := dk_180 0 91 (dk_at dksX0_feed_0 1 rfl rfl)
theorem dX0_feed_4 : decode cX0_feed 4 = .ok (.bipush 20, 2) := dk_16 20 (dk_at dksX0_feed_0 4 rfl rfl)
theorem dX0_feed_6 : decode cX0_feed 6 = .ok (.iadd, 1) := dk_96 (dk_at dksX0_feed_0 6 rfl rfl)
theorem dX0_feed_7 : decode cX0_feed 7 = .ok (.sipush 300, 3) := dk_17 1 44 (dk_at dksX0_feed_0 7 rfl rfl)
theorem dX0_feed_10 : decode cX0_feed 10 = .ok (.if_icmp .le 5, 3) := dk_164 0 5 (dk_at dksX0_feed_0 10 rfl rfl)
theorem dX0_feed_13 : decode cX0_feed 13 = .ok (.iconst (-1), 1) := dk_2 (dk_at dksX0_feed_0 13 rfl rfl)
theorem dX0_feed_14 : decode cX0_feed 14 = .ok (.ireturn, 1) := dk_172 (dk_at dksX0_feed_0 14 rfl rfl)
theorem dX0_feed_15 : decode cX0_feed 15 = .ok (.aload_n 0, 1) := dk_42 (dk_at dksX0_feed_0 15 rfl rfl)
theorem dX0_feed_16 : decode cX0_feed 16 = .ok (.iload_n 1, 1) := dk_27 (dk_at dksX0_feed_0 16 rfl rfl)
theorem dX0_feed_17 : decode cX0_feed 17 = .ok (.invokevirtual 94, 3) := dk_182 0 94 (dk_at dksX0_feed_0 17 rfl rfl)
theorem dX0_feed_20 : decode cX0_feed 20 = .ok (.aload_n 0, 1) := dk_42 (dk_at dksX0_feed_0 20 rfl rfl)
theorem dX0_feed_21 : decode cX0_feed 21 = .ok (.iload_n 2, 1) := dk_28 (dk_at dksX0_feed_0 21 rfl rfl)
theorem dX0_feed_22 : decode cX0_feed 22 = .ok (.invokevirtual 94, 3) := dk_182 0 94 (dk_at dksX0_feed_1 0 rfl rfl)
theorem dX0_feed_25 : decode cX0_feed 25 = .ok (.aload_n 0, 1) := dk_42 (dk_at dksX0_feed_1 3 rfl rfl)
theorem dX0_feed_26 : decode cX0_feed 26 = .ok (.iload_n 3, 1) := dk_29 (dk_at dksX0_feed_1 4 rfl rfl)
theorem dX0_feed_27 : decode cX0_feed 27 = .ok (.invokevirtual 94, 3) := dk_182 0 94 (dk_at dksX0_feed_1 5 rfl rfl)
theorem dX0_feed_30 : decode cX0_feed 30 = .ok (.aload_n 0, 1) := dk_42 (dk_at dksX0_feed_1 8 rfl rfl)
theorem dX0_feed_31 : decode cX0_feed 31 = .ok (.iload 4, 2) := dk_21 4 (dk_at dksX0_feed_1 9 rfl rfl)
theorem dX0_feed_33 : decode cX0_feed 33 = .ok (.invokevirtual 94, 3) := dk_182 0 94 (dk_at dksX0_feed_1 11 rfl rfl)
theorem dX0_feed_36 : decode cX0_feed 36 = .ok (.aload_n 0, 1) := dk_42 (dk_at dksX0_feed_1 14 rfl rfl)
theorem dX0_feed_37 : decode cX0_feed 37 = .ok (.iload 5, 2) := dk_21 5 (dk_at dksX0_feed_1 15 rfl rfl)
theorem dX0_feed_39 : decode cX0_feed 39 = .ok (.invokevirtual 94, 3) := dk_182 0 94 (dk_at dksX0_feed_1 17 rfl rfl)
theorem dX0_feed_42 : decode cX0_feed 42 = .ok (.aload_n 0, 1) := dk_42 (dk_at dksX0_feed_1 20 rfl rfl)
theorem dX0_feed_43 : decode cX0_feed 43 = .ok (.getfield 91, 3) := dk_180 0 91 (dk_at dksX0_feed_1 21 rfl rfl)
theorem dX0_feed_46 : decode cX0_feed 46 = .ok (.ireturn, 1) := dk_172 (dk_at dksX0_feed_2 0 rfl rfl)
abbrev cX0_put : ByteArray := prog_1_method_11_code
def yX0_put : MethodName := ⟨RX0, "put", "(I)V"⟩
def dkwX0_put_1 : List UInt8 := [180, 0, 91, 4, 96, 181, 0, 91, 132, 2, 248, 167, 255, 226, 177]
abbrev dktX0_put_1 : List UInt8 := dkwX0_put_1 ++ []
def dkwX0_put_0 : List UInt8 := [16, 24, 61, 28, 155, 0, 32, 42, 180, 0, 28, 42, 180, 0, 91, 27, 28, 122, 145, 84, 42, 89]
abbrev dktX0_put_0 : List UInt8 := dkwX0_put_0 ++ dktX0_put_1
theorem dksX0_put_0 : cX0_put.data.toList.drop 0 = dktX0_put_0 := by decide +kernel
theorem dksX0_put_1 : cX0_put.data.toList.drop 22 = dktX0_put_1 := dk_seg dksX0_put_0 22 rfl rfl
theorem dX0_put_0 : decode cX0_put 0 = .ok (.bipush 24, 2) := dk_16 24 (dk_at dksX0_put_0 0 rfl rfl)
theorem dX0_put_2 : decode cX0_put 2 = .ok (.istore_n 2, 1) := dk_61 (dk_at dksX0_put_0 2 rfl rfl)
theorem dX0_put_3 : decode cX0_put 3 = .ok (.iload_n 2, 1) := dk_28 (dk_at dksX0_put_0 3 rfl rfl)
theorem dX0_put_4 : decode cX0_put 4 = .ok (.ifCond .lt 32, 3) := dk_155 0 32 (dk_at dksX0_put_0 4 rfl rfl)
theorem dX0_put_7 : decode cX0_put 7 = .ok (.aload_n 0, 1) := dk_42 (dk_at dksX0_put_0 7 rfl rfl)
theorem dX0_put_8 : decode cX0_put 8 = .ok (.getfield 28, 3) := dk_180 0 28 (dk_at dksX0_put_0 8 rfl rfl)
theorem dX0_put_11 : decode cX0_put 11 = .ok (.aload_n 0, 1) := dk_42 (dk_at dksX0_put_0 11 rfl rfl)
theorem dX0_put_12 : decode cX0_put 12 = .ok (.getfield 91, 3) := dk_180 0 91 (dk_at dksX0_put_0 12 rfl rfl)
theorem dX0_put_15 : decode cX0_put 15 = .ok (.iload_n 1, 1) := dk_27 (dk_at dksX0_put_0 15 rfl rfl)
theorem dX0_put_16 : decode cX0_put 16 = .ok (.iload_n 2, 1) := dk_28 (dk_at dksX0_put_0 16 rfl rfl)
theorem dX0_put_17 : decode cX0_put 17 = .ok (.ishr, 1) := dk_122 (dk_at dksX0_put_0 17 rfl rfl)
theorem dX0_put_18 : decode cX0_put 18 = .ok (.i2b, 1) := dk_145 (dk_at dksX0_put_0 18 rfl rfl)
theorem dX0_put_19 : decode cX0_put 19 = .ok (.bastore, 1) := dk_84 (dk_at dksX0_put_0 19 rfl rfl)
theorem dX0_put_20 : decode cX0_put 20 = .ok (.aload_n 0, 1) := dk_42 (dk_at dksX0_put_0 20 rfl rfl)
theorem dX0_put_21 : decode cX0_put 21 = .ok (.dup, 1) := dk_89 (dk_at dksX0_put_0 21 rfl rfl)
theorem dX0_put_22 : decode cX0_put 22 = .ok (.getfield 91, 3) := dk_180 0 91 (dk_at dksX0_put_1 0 rfl rfl)
theorem dX0_put_25 : decode cX0_put 25 = .ok (.iconst 1, 1) := dk_4 (dk_at dksX0_put_1 3 rfl rfl)
theorem dX0_put_26 : decode cX0_put 26 = .ok (.iadd, 1) := dk_96 (dk_at dksX0_put_1 4 rfl rfl)
theorem dX0_put_27 : decode cX0_put 27 = .ok (.putfield 91, 3) := dk_181 0 91 (dk_at dksX0_put_1 5 rfl rfl)
theorem dX0_put_30 : decode cX0_put 30 = .ok (.iinc 2 (-8), 3) := dk_132 2 248 (dk_at dksX0_put_1 8 rfl rfl)
theorem dX0_put_33 : decode cX0_put 33 = .ok (.goto (-30), 3) := dk_167 255 226 (dk_at dksX0_put_1 11 rfl rfl)
theorem dX0_put_36 : decode cX0_put 36 = .ok (.return_, 1) := dk_177 (dk_at dksX0_put_1 14 rfl rfl)
abbrev cX0_end : ByteArray := prog_1_method_13_code
def yX0_end : MethodName := ⟨RX0, "end", "(I)I"⟩
def dkwX0_end_0 : List UInt8 := [27, 3, 42, 180, 0, 91, 184, 0, 73, 154, 0, 5, 2, 172, 42, 27, 181, 0, 91, 27, 172]
abbrev dktX0_end_0 : List UInt8 := dkwX0_end_0 ++ []
theorem dksX0_end_0 : cX0_end.data.toList.drop 0 = dktX0_end_0 := by decide +kernel
theorem dX0_end_0 : decode cX0_end 0 = .ok (.iload_n 1, 1) := dk_27 (dk_at dksX0_end_0 0 rfl rfl)
theorem dX0_end_1 : decode cX0_end 1 = .ok (.iconst 0, 1) := dk_3 (dk_at dksX0_end_0 1 rfl rfl)
theorem dX0_end_2 : decode cX0_end 2 = .ok (.aload_n 0, 1) := dk_42 (dk_at dksX0_end_0 2 rfl rfl)
theorem dX0_end_3 : decode cX0_end 3 = .ok (.getfield 91, 3) := dk_180 0 91 (dk_at dksX0_end_0 3 rfl rfl)
theorem dX0_end_6 : decode cX0_end 6 = .ok (.invokestatic 73, 3) := dk_184 0 73 (dk_at dksX0_end_0 6 rfl rfl)
theorem dX0_end_9 : decode cX0_end 9 = .ok (.ifCond .ne 5, 3) := dk_154 0 5 (dk_at dksX0_end_0 9 rfl rfl)
theorem dX0_end_12 : decode cX0_end 12 = .ok (.iconst (-1), 1) := dk_2 (dk_at dksX0_end_0 12 rfl rfl)
theorem dX0_end_13 : decode cX0_end 13 = .ok (.ireturn, 1) := dk_172 (dk_at dksX0_end_0 13 rfl rfl)
theorem dX0_end_14 : decode cX0_end 14 = .ok (.aload_n 0, 1) := dk_42 (dk_at dksX0_end_0 14 rfl rfl)
theorem dX0_end_15 : decode cX0_end 15 = .ok (.iload_n 1, 1) := dk_27 (dk_at dksX0_end_0 15 rfl rfl)
theorem dX0_end_16 : decode cX0_end 16 = .ok (.putfield 91, 3) := dk_181 0 91 (dk_at dksX0_end_0 16 rfl rfl)
theorem dX0_end_19 : decode cX0_end 19 = .ok (.iload_n 1, 1) := dk_27 (dk_at dksX0_end_0 19 rfl rfl)
theorem dX0_end_20 : decode cX0_end 20 = .ok (.ireturn, 1) := dk_172 (dk_at dksX0_end_0 20 rfl rfl)
abbrev cX0_text : ByteArray := prog_1_method_14_code
def yX0_text : MethodName := ⟨RX0, "text", "()I"⟩
def dkwX0_text_5 : List UInt8 := [79, 42, 180, 0, 21, 180, 0, 66, 4, 46, 4, 100, 172]
abbrev dktX0_text_5 : List UInt8 := dkwX0_text_5 ++ []
def dkwX0_text_4 : List UInt8 := [29, 172, 58, 4, 42, 3, 181, 0, 91, 25, 4, 191, 42, 180, 0, 21, 180, 0, 66, 4, 92, 46, 4, 96]
abbrev dktX0_text_4 : List UInt8 := dkwX0_text_4 ++ dktX0_text_5
def dkwX0_text_3 : List UInt8 := [77, 42, 44, 180, 0, 113, 181, 0, 32, 42, 44, 180, 0, 114, 181, 0, 36, 2, 62, 42, 3, 181, 0, 91]
abbrev dktX0_text_3 : List UInt8 := dkwX0_text_3 ++ dktX0_text_4
def dkwX0_text_2 : List UInt8 := [187, 0, 102, 89, 42, 180, 0, 28, 27, 183, 0, 104, 182, 0, 107, 83, 42, 3, 181, 0, 91, 167, 0, 39]
abbrev dktX0_text_2 : List UInt8 := dkwX0_text_2 ++ dktX0_text_3
def dkwX0_text_1 : List UInt8 := [181, 0, 32, 42, 2, 181, 0, 36, 42, 180, 0, 21, 180, 0, 98, 42, 180, 0, 21, 180, 0, 66, 4, 46]
abbrev dktX0_text_1 : List UInt8 := dkwX0_text_1 ++ dktX0_text_2
def dkwX0_text_0 : List UInt8 := [42, 180, 0, 21, 180, 0, 66, 4, 46, 7, 160, 0, 5, 2, 172, 42, 180, 0, 91, 60, 42, 3]
abbrev dktX0_text_0 : List UInt8 := dkwX0_text_0 ++ dktX0_text_1
theorem dksX0_text_0 : cX0_text.data.toList.drop 0 = dktX0_text_0 := by decide +kernel
theorem dksX0_text_1 : cX0_text.data.toList.drop 22 = dktX0_text_1 := dk_seg dksX0_text_0 22 rfl rfl
theorem dksX0_text_2 : cX0_text.data.toList.drop 46 = dktX0_text_2 := dk_seg dksX0_text_1 24 rfl rfl
theorem dksX0_text_3 : cX0_text.data.toList.drop 70 = dktX0_text_3 := dk_seg dksX0_text_2 24 rfl rfl
theorem dksX0_text_4 : cX0_text.data.toList.drop 94 = dktX0_text_4 := dk_seg dksX0_text_3 24 rfl rfl
theorem dksX0_text_5 : cX0_text.data.toList.drop 118 = dktX0_text_5 := dk_seg dksX0_text_4 24 rfl rfl
theorem dX0_text_0 : decode cX0_text 0 = .ok (.aload_n 0, 1) := dk_42 (dk_at dksX0_text_0 0 rfl rfl)
theorem dX0_text_1 : decode cX0_text 1 = .ok (.getfield 21, 3) := dk_180 0 21 (dk_at dksX0_text_0 1 rfl rfl)
theorem dX0_text_4 : decode cX0_text 4 = .ok (.getfield 66, 3) := dk_180 0 66 (dk_at dksX0_text_0 4 rfl rfl)
theorem dX0_text_7 : decode cX0_text 7 = .ok (.iconst 1, 1) := dk_4 (dk_at dksX0_text_0 7 rfl rfl)
theorem dX0_text_8 : decode cX0_text 8 = .ok (.iaload, 1) := dk_46 (dk_at dksX0_text_0 8 rfl rfl)
theorem dX0_text_9 : decode cX0_text 9 = .ok (.iconst 4, 1) := dk_7 (dk_at dksX0_text_0 9 rfl rfl)
theorem dX0_text_10 : decode cX0_text 10 = .ok (.if_icmp .ne 5, 3) := dk_160 0 5 (dk_at dksX0_text_0 10 rfl rfl)
theorem dX0_text_13 : decode cX0_text 13 = .ok (.iconst (-1), 1) := dk_2 (dk_at dksX0_text_0 13 rfl rfl)
theorem dX0_text_14 : decode cX0_text 14 = .ok (.ireturn, 1) := dk_172 (dk_at dksX0_text_0 14 rfl rfl)
theorem dX0_text_15 : decode cX0_text 15 = .ok (.aload_n 0, 1) := dk_42 (dk_at dksX0_text_0 15 rfl rfl)
theorem dX0_text_16 : decode cX0_text 16 = .ok (.getfield 91, 3) := dk_180 0 91 (dk_at dksX0_text_0 16 rfl rfl)
theorem dX0_text_19 : decode cX0_text 19 = .ok (.istore_n 1, 1) := dk_60 (dk_at dksX0_text_0 19 rfl rfl)
theorem dX0_text_20 : decode cX0_text 20 = .ok (.aload_n 0, 1) := dk_42 (dk_at dksX0_text_0 20 rfl rfl)
theorem dX0_text_21 : decode cX0_text 21 = .ok (.iconst 0, 1) := dk_3 (dk_at dksX0_text_0 21 rfl rfl)
theorem dX0_text_22 : decode cX0_text 22 = .ok (.putfield 32, 3) := dk_181 0 32 (dk_at dksX0_text_1 0 rfl rfl)
theorem dX0_text_25 : decode cX0_text 25 = .ok (.aload_n 0, 1) := dk_42 (dk_at dksX0_text_1 3 rfl rfl)
theorem dX0_text_26 : decode cX0_text 26 = .ok (.iconst (-1), 1) := dk_2 (dk_at dksX0_text_1 4 rfl rfl)
theorem dX0_text_27 : decode cX0_text 27 = .ok (.putfield 36, 3) := dk_181 0 36 (dk_at dksX0_text_1 5 rfl rfl)
theorem dX0_text_30 : decode cX0_text 30 = .ok (.aload_n 0, 1) := dk_42 (dk_at dksX0_text_1 8 rfl rfl)
theorem dX0_text_31 : decode cX0_text 31 = .ok (.getfield 21, 3) := dk_180 0 21 (dk_at dksX0_text_1 9 rfl rfl)
theorem dX0_text_34 : decode cX0_text 34 = .ok (.getfield 98, 3) := dk_180 0 98 (dk_at dksX0_text_1 12 rfl rfl)
theorem dX0_text_37 : decode cX0_text 37 = .ok (.aload_n 0, 1) := dk_42 (dk_at dksX0_text_1 15 rfl rfl)
theorem dX0_text_38 : decode cX0_text 38 = .ok (.getfield 21, 3) := dk_180 0 21 (dk_at dksX0_text_1 16 rfl rfl)
theorem dX0_text_41 : decode cX0_text 41 = .ok (.getfield 66, 3) := dk_180 0 66 (dk_at dksX0_text_1 19 rfl rfl)
theorem dX0_text_44 : decode cX0_text 44 = .ok (.iconst 1, 1) := dk_4 (dk_at dksX0_text_1 22 rfl rfl)
theorem dX0_text_45 : decode cX0_text 45 = .ok (.iaload, 1) := dk_46 (dk_at dksX0_text_1 23 rfl rfl)
theorem dX0_text_46 : decode cX0_text 46 = .ok (.new 102, 3) := dk_187 0 102 (dk_at dksX0_text_2 0 rfl rfl)
theorem dX0_text_49 : decode cX0_text 49 = .ok (.dup, 1) := dk_89 (dk_at dksX0_text_2 3 rfl rfl)
theorem dX0_text_50 : decode cX0_text 50 = .ok (.aload_n 0, 1) := dk_42 (dk_at dksX0_text_2 4 rfl rfl)
theorem dX0_text_51 : decode cX0_text 51 = .ok (.getfield 28, 3) := dk_180 0 28 (dk_at dksX0_text_2 5 rfl rfl)
theorem dX0_text_54 : decode cX0_text 54 = .ok (.iload_n 1, 1) := dk_27 (dk_at dksX0_text_2 8 rfl rfl)
theorem dX0_text_55 : decode cX0_text 55 = .ok (.invokespecial 104, 3) := dk_183 0 104 (dk_at dksX0_text_2 9 rfl rfl)
theorem dX0_text_58 : decode cX0_text 58 = .ok (.invokevirtual 107, 3) := dk_182 0 107 (dk_at dksX0_text_2 12 rfl rfl)
theorem dX0_text_61 : decode cX0_text 61 = .ok (.aastore, 1) := dk_83 (dk_at dksX0_text_2 15 rfl rfl)
theorem dX0_text_62 : decode cX0_text 62 = .ok (.aload_n 0, 1) := dk_42 (dk_at dksX0_text_2 16 rfl rfl)
theorem dX0_text_63 : decode cX0_text 63 = .ok (.iconst 0, 1) := dk_3 (dk_at dksX0_text_2 17 rfl rfl)
theorem dX0_text_64 : decode cX0_text 64 = .ok (.putfield 91, 3) := dk_181 0 91 (dk_at dksX0_text_2 18 rfl rfl)
theorem dX0_text_67 : decode cX0_text 67 = .ok (.goto 39, 3) := dk_167 0 39 (dk_at dksX0_text_2 21 rfl rfl)
theorem dX0_text_70 : decode cX0_text 70 = .ok (.astore_n 2, 1) := dk_77 (dk_at dksX0_text_3 0 rfl rfl)
theorem dX0_text_71 : decode cX0_text 71 = .ok (.aload_n 0, 1) := dk_42 (dk_at dksX0_text_3 1 rfl rfl)
theorem dX0_text_72 : decode cX0_text 72 = .ok (.aload_n 2, 1) := dk_44 (dk_at dksX0_text_3 2 rfl rfl)
theorem dX0_text_73 : decode cX0_text 73 = .ok (.getfield 113, 3) := dk_180 0 113 (dk_at dksX0_text_3 3 rfl rfl)
theorem dX0_text_76 : decode cX0_text 76 = .ok (.putfield 32, 3) := dk_181 0 32 (dk_at dksX0_text_3 6 rfl rfl)
theorem dX0_text_79 : decode cX0_text 79 = .ok (.aload_n 0, 1) := dk_42 (dk_at dksX0_text_3 9 rfl rfl)
theorem dX0_text_80 : decode cX0_text 80 = .ok (.aload_n 2, 1) := dk_44 (dk_at dksX0_text_3 10 rfl rfl)
theorem dX0_text_81 : decode cX0_text 81 = .ok (.getfield 114, 3) := dk_180 0 114 (dk_at dksX0_text_3 11 rfl rfl)
theorem dX0_text_84 : decode cX0_text 84 = .ok (.putfield 36, 3) := dk_181 0 36 (dk_at dksX0_text_3 14 rfl rfl)
theorem dX0_text_87 : decode cX0_text 87 = .ok (.iconst (-1), 1) := dk_2 (dk_at dksX0_text_3 17 rfl rfl)
theorem dX0_text_88 : decode cX0_text 88 = .ok (.istore_n 3, 1) := dk_62 (dk_at dksX0_text_3 18 rfl rfl)
theorem dX0_text_89 : decode cX0_text 89 = .ok (.aload_n 0, 1) := dk_42 (dk_at dksX0_text_3 19 rfl rfl)
theorem dX0_text_90 : decode cX0_text 90 = .ok (.iconst 0, 1) := dk_3 (dk_at dksX0_text_3 20 rfl rfl)
theorem dX0_text_91 : decode cX0_text 91 = .ok (.putfield 91, 3) := dk_181 0 91 (dk_at dksX0_text_3 21 rfl rfl)
theorem dX0_text_94 : decode cX0_text 94 = .ok (.iload_n 3, 1) := dk_29 (dk_at dksX0_text_4 0 rfl rfl)
theorem dX0_text_95 : decode cX0_text 95 = .ok (.ireturn, 1) := dk_172 (dk_at dksX0_text_4 1 rfl rfl)
theorem dX0_text_96 : decode cX0_text 96 = .ok (.astore 4, 2) := dk_58 4 (dk_at dksX0_text_4 2 rfl rfl)
theorem dX0_text_98 : decode cX0_text 98 = .ok (.aload_n 0, 1) := dk_42 (dk_at dksX0_text_4 4 rfl rfl)
theorem dX0_text_99 : decode cX0_text 99 = .ok (.iconst 0, 1) := dk_3 (dk_at dksX0_text_4 5 rfl rfl)
theorem dX0_text_100 : decode cX0_text 100 = .ok (.putfield 91, 3) := dk_181 0 91 (dk_at dksX0_text_4 6 rfl rfl)
theorem dX0_text_103 : decode cX0_text 103 = .ok (.aload 4, 2) := dk_25 4 (dk_at dksX0_text_4 9 rfl rfl)
theorem dX0_text_105 : decode cX0_text 105 = .ok (.athrow, 1) := dk_191 (dk_at dksX0_text_4 11 rfl rfl)
theorem dX0_text_106 : decode cX0_text 106 = .ok (.aload_n 0, 1) := dk_42 (dk_at dksX0_text_4 12 rfl rfl)
theorem dX0_text_107 : decode cX0_text 107 = .ok (.getfield 21, 3) := dk_180 0 21 (dk_at dksX0_text_4 13 rfl rfl)
theorem dX0_text_110 : decode cX0_text 110 = .ok (.getfield 66, 3) := dk_180 0 66 (dk_at dksX0_text_4 16 rfl rfl)
theorem dX0_text_113 : decode cX0_text 113 = .ok (.iconst 1, 1) := dk_4 (dk_at dksX0_text_4 19 rfl rfl)
theorem dX0_text_114 : decode cX0_text 114 = .ok (.dup2, 1) := dk_92 (dk_at dksX0_text_4 20 rfl rfl)
theorem dX0_text_115 : decode cX0_text 115 = .ok (.iaload, 1) := dk_46 (dk_at dksX0_text_4 21 rfl rfl)
theorem dX0_text_116 : decode cX0_text 116 = .ok (.iconst 1, 1) := dk_4 (dk_at dksX0_text_4 22 rfl rfl)
theorem dX0_text_117 : decode cX0_text 117 = .ok (.iadd, 1) := dk_96 (dk_at dksX0_text_4 23 rfl rfl)
theorem dX0_text_118 : decode cX0_text 118 = .ok (.iastore, 1) := dk_79 (dk_at dksX0_text_5 0 rfl rfl)
theorem dX0_text_119 : decode cX0_text 119 = .ok (.aload_n 0, 1) := dk_42 (dk_at dksX0_text_5 1 rfl rfl)
theorem dX0_text_120 : decode cX0_text 120 = .ok (.getfield 21, 3) := dk_180 0 21 (dk_at dksX0_text_5 2 rfl rfl)
theorem dX0_text_123 : decode cX0_text 123 = .ok (.getfield 66, 3) := dk_180 0 66 (dk_at dksX0_text_5 5 rfl rfl)
theorem dX0_text_126 : decode cX0_text 126 = .ok (.iconst 1, 1) := dk_4 (dk_at dksX0_text_5 8 rfl rfl)
theorem dX0_text_127 : decode cX0_text 127 = .ok (.iaload, 1) := dk_46 (dk_at dksX0_text_5 9 rfl rfl)
theorem dX0_text_128 : decode cX0_text 128 = .ok (.iconst 1, 1) := dk_4 (dk_at dksX0_text_5 10 rfl rfl)
theorem dX0_text_129 : decode cX0_text 129 = .ok (.isub, 1) := dk_100 (dk_at dksX0_text_5 11 rfl rfl)
theorem dX0_text_130 : decode cX0_text 130 = .ok (.ireturn, 1) := dk_172 (dk_at dksX0_text_5 12 rfl rfl)
abbrev cX0_fault : ByteArray := prog_1_method_15_code
def yX0_fault : MethodName := ⟨RX0, "fault", "(I)I"⟩
def dkwX0_fault_1 : List UInt8 := [172]
abbrev dktX0_fault_1 : List UInt8 := dkwX0_fault_1 ++ []
def dkwX0_fault_0 : List UInt8 := [27, 154, 0, 10, 42, 180, 0, 32, 167, 0, 16, 27, 4, 160, 0, 10, 42, 180, 0, 36, 167, 0, 4, 2]
abbrev dktX0_fault_0 : List UInt8 := dkwX0_fault_0 ++ dktX0_fault_1
theorem dksX0_fault_0 : cX0_fault.data.toList.drop 0 = dktX0_fault_0 := by decide +kernel
theorem dksX0_fault_1 : cX0_fault.data.toList.drop 24 = dktX0_fault_1 := dk_seg dksX0_fault_0 24 rfl rfl
theorem dX0_fault_0 : decode cX0_fault 0 = .ok (.iload_n 1, 1) := dk_27 (dk_at dksX0_fault_0 0 rfl rfl)
theorem dX0_fault_1 : decode cX0_fault 1 = .ok (.ifCond .ne 10, 3) := dk_154 0 10 (dk_at dksX0_fault_0 1 rfl rfl)
theorem dX0_fault_4 : decode cX0_fault 4 = .ok (.aload_n 0, 1) := dk_42 (dk_at dksX0_fault_0 4 rfl rfl)
theorem dX0_fault_5 : decode cX0_fault 5 = .ok (.getfield 32, 3) := dk_180 0 32 (dk_at dksX0_fault_0 5 rfl rfl)
theorem dX0_fault_8 : decode cX0_fault 8 = .ok (.goto 16, 3) := dk_167 0 16 (dk_at dksX0_fault_0 8 rfl rfl)
theorem dX0_fault_11 : decode cX0_fault 11 = .ok (.iload_n 1, 1) := dk_27 (dk_at dksX0_fault_0 11 rfl rfl)
theorem dX0_fault_12 : decode cX0_fault 12 = .ok (.iconst 1, 1) := dk_4 (dk_at dksX0_fault_0 12 rfl rfl)
theorem dX0_fault_13 : decode cX0_fault 13 = .ok (.if_icmp .ne 10, 3) := dk_160 0 10 (dk_at dksX0_fault_0 13 rfl rfl)
theorem dX0_fault_16 : decode cX0_fault 16 = .ok (.aload_n 0, 1) := dk_42 (dk_at dksX0_fault_0 16 rfl rfl)
theorem dX0_fault_17 : decode cX0_fault 17 = .ok (.getfield 36, 3) := dk_180 0 36 (dk_at dksX0_fault_0 17 rfl rfl)
theorem dX0_fault_20 : decode cX0_fault 20 = .ok (.goto 4, 3) := dk_167 0 4 (dk_at dksX0_fault_0 20 rfl rfl)
theorem dX0_fault_23 : decode cX0_fault 23 = .ok (.iconst (-1), 1) := dk_2 (dk_at dksX0_fault_0 23 rfl rfl)
theorem dX0_fault_24 : decode cX0_fault 24 = .ok (.ireturn, 1) := dk_172 (dk_at dksX0_fault_1 0 rfl rfl)
abbrev cX0_by : ByteArray := prog_1_method_17_code
def yX0_by : MethodName := ⟨RX0, "by", "(I)Z"⟩
def dkwX0_by_1 : List UInt8 := [79, 4, 172]
abbrev dktX0_by_1 : List UInt8 := dkwX0_by_1 ++ []
def dkwX0_by_0 : List UInt8 := [27, 2, 159, 0, 13, 42, 27, 182, 0, 117, 154, 0, 5, 3, 172, 42, 180, 0, 21, 180, 0, 66, 5, 27]
abbrev dktX0_by_0 : List UInt8 := dkwX0_by_0 ++ dktX0_by_1
theorem dksX0_by_0 : cX0_by.data.toList.drop 0 = dktX0_by_0 := by decide +kernel
theorem dksX0_by_1 : cX0_by.data.toList.drop 24 = dktX0_by_1 := dk_seg dksX0_by_0 24 rfl rfl
theorem dX0_by_0 : decode cX0_by 0 = .ok (.iload_n 1, 1) := dk_27 (dk_at dksX0_by_0 0 rfl rfl)
theorem dX0_by_1 : decode cX0_by 1 = .ok (.iconst (-1), 1) := dk_2 (dk_at dksX0_by_0 1 rfl rfl)
theorem dX0_by_2 : decode cX0_by 2 = .ok (.if_icmp .eq 13, 3) := dk_159 0 13 (dk_at dksX0_by_0 2 rfl rfl)
theorem dX0_by_5 : decode cX0_by 5 = .ok (.aload_n 0, 1) := dk_42 (dk_at dksX0_by_0 5 rfl rfl)
theorem dX0_by_6 : decode cX0_by 6 = .ok (.iload_n 1, 1) := dk_27 (dk_at dksX0_by_0 6 rfl rfl)
theorem dX0_by_7 : decode cX0_by 7 = .ok (.invokevirtual 117, 3) := dk_182 0 117 (dk_at dksX0_by_0 7 rfl rfl)
theorem dX0_by_10 : decode cX0_by 10 = .ok (.ifCond .ne 5, 3) := dk_154 0 5 (dk_at dksX0_by_0 10 rfl rfl)
theorem dX0_by_13 : decode cX0_by 13 = .ok (.iconst 0, 1) := dk_3 (dk_at dksX0_by_0 13 rfl rfl)
theorem dX0_by_14 : decode cX0_by 14 = .ok (.ireturn, 1) := dk_172 (dk_at dksX0_by_0 14 rfl rfl)
theorem dX0_by_15 : decode cX0_by 15 = .ok (.aload_n 0, 1) := dk_42 (dk_at dksX0_by_0 15 rfl rfl)
theorem dX0_by_16 : decode cX0_by 16 = .ok (.getfield 21, 3) := dk_180 0 21 (dk_at dksX0_by_0 16 rfl rfl)
theorem dX0_by_19 : decode cX0_by 19 = .ok (.getfield 66, 3) := dk_180 0 66 (dk_at dksX0_by_0 19 rfl rfl)
theorem dX0_by_22 : decode cX0_by 22 = .ok (.iconst 2, 1) := dk_5 (dk_at dksX0_by_0 22 rfl rfl)
theorem dX0_by_23 : decode cX0_by 23 = .ok (.iload_n 1, 1) := dk_27 (dk_at dksX0_by_0 23 rfl rfl)
theorem dX0_by_24 : decode cX0_by 24 = .ok (.iastore, 1) := dk_79 (dk_at dksX0_by_1 0 rfl rfl)
theorem dX0_by_25 : decode cX0_by 25 = .ok (.iconst 1, 1) := dk_4 (dk_at dksX0_by_1 1 rfl rfl)
theorem dX0_by_26 : decode cX0_by 26 = .ok (.ireturn, 1) := dk_172 (dk_at dksX0_by_1 2 rfl rfl)
abbrev cX0_isText : ByteArray := prog_1_method_16_code
def yX0_isText : MethodName := ⟨RX0, "isText", "(I)Z"⟩
def dkwX0_isText_0 : List UInt8 := [27, 3, 42, 180, 0, 21, 180, 0, 66, 4, 46, 4, 100, 184, 0, 73, 172]
abbrev dktX0_isText_0 : List UInt8 := dkwX0_isText_0 ++ []
theorem dksX0_isText_0 : cX0_isText.data.toList.drop 0 = dktX0_isText_0 := by decide +kernel
theorem dX0_isText_0 : decode cX0_isText 0 = .ok (.iload_n 1, 1) := dk_27 (dk_at dksX0_isText_0 0 rfl rfl)
theorem dX0_isText_1 : decode cX0_isText 1 = .ok (.iconst 0, 1) := dk_3 (dk_at dksX0_isText_0 1 rfl rfl)
theorem dX0_isText_2 : decode cX0_isText 2 = .ok (.aload_n 0, 1) := dk_42 (dk_at dksX0_isText_0 2 rfl rfl)
theorem dX0_isText_3 : decode cX0_isText 3 = .ok (.getfield 21, 3) := dk_180 0 21 (dk_at dksX0_isText_0 3 rfl rfl)
theorem dX0_isText_6 : decode cX0_isText 6 = .ok (.getfield 66, 3) := dk_180 0 66 (dk_at dksX0_isText_0 6 rfl rfl)
theorem dX0_isText_9 : decode cX0_isText 9 = .ok (.iconst 1, 1) := dk_4 (dk_at dksX0_isText_0 9 rfl rfl)
theorem dX0_isText_10 : decode cX0_isText 10 = .ok (.iaload, 1) := dk_46 (dk_at dksX0_isText_0 10 rfl rfl)
theorem dX0_isText_11 : decode cX0_isText 11 = .ok (.iconst 1, 1) := dk_4 (dk_at dksX0_isText_0 11 rfl rfl)
theorem dX0_isText_12 : decode cX0_isText 12 = .ok (.isub, 1) := dk_100 (dk_at dksX0_isText_0 12 rfl rfl)
theorem dX0_isText_13 : decode cX0_isText 13 = .ok (.invokestatic 73, 3) := dk_184 0 73 (dk_at dksX0_isText_0 13 rfl rfl)
theorem dX0_isText_16 : decode cX0_isText 16 = .ok (.ireturn, 1) := dk_172 (dk_at dksX0_isText_0 16 rfl rfl)
abbrev cX0_spring : ByteArray := prog_1_method_32_code
def yX0_spring : MethodName := ⟨RX0, "spring", "(I)I"⟩
def dkwX0_spring_2 : List UInt8 := [180, 0, 21, 180, 0, 199, 182, 0, 205, 184, 0, 208, 96, 61, 132, 3, 1, 167, 255, 224, 28, 172]
abbrev dktX0_spring_2 : List UInt8 := dkwX0_spring_2 ++ []
def dkwX0_spring_1 : List UInt8 := [164, 0, 5, 2, 172, 3, 61, 3, 62, 29, 27, 162, 0, 33, 42, 180, 0, 21, 182, 0, 202, 28, 42, 42]
abbrev dktX0_spring_1 : List UInt8 := dkwX0_spring_1 ++ dktX0_spring_2
def dkwX0_spring_0 : List UInt8 := [27, 4, 16, 60, 184, 0, 73, 153, 0, 20, 42, 180, 0, 21, 180, 0, 199, 3, 46, 27, 96, 17, 39, 15]
abbrev dktX0_spring_0 : List UInt8 := dkwX0_spring_0 ++ dktX0_spring_1
theorem dksX0_spring_0 : cX0_spring.data.toList.drop 0 = dktX0_spring_0 := by decide +kernel
theorem dksX0_spring_1 : cX0_spring.data.toList.drop 24 = dktX0_spring_1 := dk_seg dksX0_spring_0 24 rfl rfl
theorem dksX0_spring_2 : cX0_spring.data.toList.drop 48 = dktX0_spring_2 := dk_seg dksX0_spring_1 24 rfl rfl
theorem dX0_spring_0 : decode cX0_spring 0 = .ok (.iload_n 1, 1) := dk_27 (dk_at dksX0_spring_0 0 rfl rfl)
theorem dX0_spring_1 : decode cX0_spring 1 = .ok (.iconst 1, 1) := dk_4 (dk_at dksX0_spring_0 1 rfl rfl)
theorem dX0_spring_2 : decode cX0_spring 2 = .ok (.bipush 60, 2) := dk_16 60 (dk_at dksX0_spring_0 2 rfl rfl)
theorem dX0_spring_4 : decode cX0_spring 4 = .ok (.invokestatic 73, 3) := dk_184 0 73 (dk_at dksX0_spring_0 4 rfl rfl)
theorem dX0_spring_7 : decode cX0_spring 7 = .ok (.ifCond .eq 20, 3) := dk_153 0 20 (dk_at dksX0_spring_0 7 rfl rfl)
theorem dX0_spring_10 : decode cX0_spring 10 = .ok (.aload_n 0, 1) := dk_42 (dk_at dksX0_spring_0 10 rfl rfl)
theorem dX0_spring_11 : decode cX0_spring 11 = .ok (.getfield 21, 3) := dk_180 0 21 (dk_at dksX0_spring_0 11 rfl rfl)
theorem dX0_spring_14 : decode cX0_spring 14 = .ok (.getfield 199, 3) := dk_180 0 199 (dk_at dksX0_spring_0 14 rfl rfl)
theorem dX0_spring_17 : decode cX0_spring 17 = .ok (.iconst 0, 1) := dk_3 (dk_at dksX0_spring_0 17 rfl rfl)
theorem dX0_spring_18 : decode cX0_spring 18 = .ok (.iaload, 1) := dk_46 (dk_at dksX0_spring_0 18 rfl rfl)
theorem dX0_spring_19 : decode cX0_spring 19 = .ok (.iload_n 1, 1) := dk_27 (dk_at dksX0_spring_0 19 rfl rfl)
theorem dX0_spring_20 : decode cX0_spring 20 = .ok (.iadd, 1) := dk_96 (dk_at dksX0_spring_0 20 rfl rfl)
theorem dX0_spring_21 : decode cX0_spring 21 = .ok (.sipush 9999, 3) := dk_17 39 15 (dk_at dksX0_spring_0 21 rfl rfl)
theorem dX0_spring_24 : decode cX0_spring 24 = .ok (.if_icmp .le 5, 3) := dk_164 0 5 (dk_at dksX0_spring_1 0 rfl rfl)
theorem dX0_spring_27 : decode cX0_spring 27 = .ok (.iconst (-1), 1) := dk_2 (dk_at dksX0_spring_1 3 rfl rfl)
theorem dX0_spring_28 : decode cX0_spring 28 = .ok (.ireturn, 1) := dk_172 (dk_at dksX0_spring_1 4 rfl rfl)
theorem dX0_spring_29 : decode cX0_spring 29 = .ok (.iconst 0, 1) := dk_3 (dk_at dksX0_spring_1 5 rfl rfl)
theorem dX0_spring_30 : decode cX0_spring 30 = .ok (.istore_n 2, 1) := dk_61 (dk_at dksX0_spring_1 6 rfl rfl)
theorem dX0_spring_31 : decode cX0_spring 31 = .ok (.iconst 0, 1) := dk_3 (dk_at dksX0_spring_1 7 rfl rfl)
theorem dX0_spring_32 : decode cX0_spring 32 = .ok (.istore_n 3, 1) := dk_62 (dk_at dksX0_spring_1 8 rfl rfl)
theorem dX0_spring_33 : decode cX0_spring 33 = .ok (.iload_n 3, 1) := dk_29 (dk_at dksX0_spring_1 9 rfl rfl)
theorem dX0_spring_34 : decode cX0_spring 34 = .ok (.iload_n 1, 1) := dk_27 (dk_at dksX0_spring_1 10 rfl rfl)
theorem dX0_spring_35 : decode cX0_spring 35 = .ok (.if_icmp .ge 33, 3) := dk_162 0 33 (dk_at dksX0_spring_1 11 rfl rfl)
theorem dX0_spring_38 : decode cX0_spring 38 = .ok (.aload_n 0, 1) := dk_42 (dk_at dksX0_spring_1 14 rfl rfl)
theorem dX0_spring_39 : decode cX0_spring 39 = .ok (.getfield 21, 3) := dk_180 0 21 (dk_at dksX0_spring_1 15 rfl rfl)
theorem dX0_spring_42 : decode cX0_spring 42 = .ok (.invokevirtual 202, 3) := dk_182 0 202 (dk_at dksX0_spring_1 18 rfl rfl)
theorem dX0_spring_45 : decode cX0_spring 45 = .ok (.iload_n 2, 1) := dk_28 (dk_at dksX0_spring_1 21 rfl rfl)
theorem dX0_spring_46 : decode cX0_spring 46 = .ok (.aload_n 0, 1) := dk_42 (dk_at dksX0_spring_1 22 rfl rfl)
theorem dX0_spring_47 : decode cX0_spring 47 = .ok (.aload_n 0, 1) := dk_42 (dk_at dksX0_spring_1 23 rfl rfl)
theorem dX0_spring_48 : decode cX0_spring 48 = .ok (.getfield 21, 3) := dk_180 0 21 (dk_at dksX0_spring_2 0 rfl rfl)
theorem dX0_spring_51 : decode cX0_spring 51 = .ok (.getfield 199, 3) := dk_180 0 199 (dk_at dksX0_spring_2 3 rfl rfl)
theorem dX0_spring_54 : decode cX0_spring 54 = .ok (.invokevirtual 205, 3) := dk_182 0 205 (dk_at dksX0_spring_2 6 rfl rfl)
theorem dX0_spring_57 : decode cX0_spring 57 = .ok (.invokestatic 208, 3) := dk_184 0 208 (dk_at dksX0_spring_2 9 rfl rfl)
theorem dX0_spring_60 : decode cX0_spring 60 = .ok (.iadd, 1) := dk_96 (dk_at dksX0_spring_2 12 rfl rfl)
theorem dX0_spring_61 : decode cX0_spring 61 = .ok (.istore_n 2, 1) := dk_61 (dk_at dksX0_spring_2 13 rfl rfl)
theorem dX0_spring_62 : decode cX0_spring 62 = .ok (.iinc 3 1, 3) := dk_132 3 1 (dk_at dksX0_spring_2 14 rfl rfl)
theorem dX0_spring_65 : decode cX0_spring 65 = .ok (.goto (-32), 3) := dk_167 255 224 (dk_at dksX0_spring_2 17 rfl rfl)
theorem dX0_spring_68 : decode cX0_spring 68 = .ok (.iload_n 2, 1) := dk_28 (dk_at dksX0_spring_2 20 rfl rfl)
theorem dX0_spring_69 : decode cX0_spring 69 = .ok (.ireturn, 1) := dk_172 (dk_at dksX0_spring_2 21 rfl rfl)
abbrev cX0_passes : ByteArray := prog_1_method_31_code
def yX0_passes : MethodName := ⟨RX0, "passes", "([I)I"⟩
def dkwX0_passes_8 : List UInt8 := [132, 6, 1, 167, 255, 184, 43, 3, 92, 46, 4, 96, 79, 28, 172]
abbrev dktX0_passes_8 : List UInt8 := dkwX0_passes_8 ++ []
def dkwX0_passes_7 : List UInt8 := [2, 130, 126, 54, 5, 43, 21, 7, 42, 180, 0, 43, 21, 7, 46, 28, 21, 7, 184, 0, 138, 184, 0, 195]
abbrev dktX0_passes_7 : List UInt8 := dkwX0_passes_7 ++ dktX0_passes_8
def dkwX0_passes_6 : List UInt8 := [21, 7, 96, 42, 43, 21, 7, 21, 5, 182, 0, 191, 79, 21, 5, 4, 43, 16, 11, 21, 7, 96, 46, 120]
abbrev dktX0_passes_6 : List UInt8 := dkwX0_passes_6 ++ dktX0_passes_7
def dkwX0_passes_5 : List UInt8 := [3, 54, 6, 21, 6, 42, 182, 0, 69, 162, 0, 69, 42, 180, 0, 46, 21, 6, 46, 54, 7, 43, 16, 11]
abbrev dktX0_passes_5 : List UInt8 := dkwX0_passes_5 ++ dktX0_passes_6
def dkwX0_passes_4 : List UInt8 := [167, 0, 14, 42, 180, 0, 46, 29, 21, 5, 79, 132, 3, 1, 132, 5, 1, 167, 255, 201, 16, 31, 54, 5]
abbrev dktX0_passes_4 : List UInt8 := dkwX0_passes_4 ++ dktX0_passes_5
def dkwX0_passes_3 : List UInt8 := [153, 0, 25, 132, 4, 255, 42, 180, 0, 46, 21, 4, 21, 5, 79, 28, 4, 21, 5, 120, 128, 61]
abbrev dktX0_passes_3 : List UInt8 := dkwX0_passes_3 ++ dktX0_passes_4
def dkwX0_passes_2 : List UInt8 := [167, 255, 227, 3, 54, 5, 21, 5, 42, 182, 0, 69, 162, 0, 52, 42, 43, 21, 5, 182, 0, 188]
abbrev dktX0_passes_2 : List UInt8 := dkwX0_passes_2 ++ dktX0_passes_3
def dkwX0_passes_1 : List UInt8 := [43, 6, 21, 5, 96, 46, 43, 3, 46, 163, 0, 10, 43, 6, 21, 5, 96, 3, 79, 132, 5, 1]
abbrev dktX0_passes_1 : List UInt8 := dkwX0_passes_1 ++ dktX0_passes_2
def dkwX0_passes_0 : List UInt8 := [3, 61, 3, 62, 42, 182, 0, 69, 54, 4, 43, 5, 3, 79, 3, 54, 5, 21, 5, 16, 8, 162, 0, 28]
abbrev dktX0_passes_0 : List UInt8 := dkwX0_passes_0 ++ dktX0_passes_1
theorem dksX0_passes_0 : cX0_passes.data.toList.drop 0 = dktX0_passes_0 := by decide +kernel
theorem dksX0_passes_1 : cX0_passes.data.toList.drop 24 = dktX0_passes_1 := dk_seg dksX0_passes_0 24 rfl rfl
theorem dksX0_passes_2 : cX0_passes.data.toList.drop 46 = dktX0_passes_2 := dk_seg dksX0_passes_1 22 rfl rfl
theorem dksX0_passes_3 : cX0_passes.data.toList.drop 68 = dktX0_passes_3 := dk_seg dksX0_passes_2 22 rfl rfl
theorem dksX0_passes_4 : cX0_passes.data.toList.drop 90 = dktX0_passes_4 := dk_seg dksX0_passes_3 22 rfl rfl
theorem dksX0_passes_5 : cX0_passes.data.toList.drop 114 = dktX0_passes_5 := dk_seg dksX0_passes_4 24 rfl rfl
theorem dksX0_passes_6 : cX0_passes.data.toList.drop 138 = dktX0_passes_6 := dk_seg dksX0_passes_5 24 rfl rfl
theorem dksX0_passes_7 : cX0_passes.data.toList.drop 162 = dktX0_passes_7 := dk_seg dksX0_passes_6 24 rfl rfl
theorem dksX0_passes_8 : cX0_passes.data.toList.drop 186 = dktX0_passes_8 := dk_seg dksX0_passes_7 24 rfl rfl
theorem dX0_passes_0 : decode cX0_passes 0 = .ok (.iconst 0, 1) := dk_3 (dk_at dksX0_passes_0 0 rfl rfl)
theorem dX0_passes_1 : decode cX0_passes 1 = .ok (.istore_n 2, 1) := dk_61 (dk_at dksX0_passes_0 1 rfl rfl)
theorem dX0_passes_2 : decode cX0_passes 2 = .ok (.iconst 0, 1) := dk_3 (dk_at dksX0_passes_0 2 rfl rfl)
theorem dX0_passes_3 : decode cX0_passes 3 = .ok (.istore_n 3, 1) := dk_62 (dk_at dksX0_passes_0 3 rfl rfl)
theorem dX0_passes_4 : decode cX0_passes 4 = .ok (.aload_n 0, 1) := dk_42 (dk_at dksX0_passes_0 4 rfl rfl)
theorem dX0_passes_5 : decode cX0_passes 5 = .ok (.invokevirtual 69, 3) := dk_182 0 69 (dk_at dksX0_passes_0 5 rfl rfl)
theorem dX0_passes_8 : decode cX0_passes 8 = .ok (.istore 4, 2) := dk_54 4 (dk_at dksX0_passes_0 8 rfl rfl)
theorem dX0_passes_10 : decode cX0_passes 10 = .ok (.aload_n 1, 1) := dk_43 (dk_at dksX0_passes_0 10 rfl rfl)
theorem dX0_passes_11 : decode cX0_passes 11 = .ok (.iconst 2, 1) := dk_5 (dk_at dksX0_passes_0 11 rfl rfl)
theorem dX0_passes_12 : decode cX0_passes 12 = .ok (.iconst 0, 1) := dk_3 (dk_at dksX0_passes_0 12 rfl rfl)
theorem dX0_passes_13 : decode cX0_passes 13 = .ok (.iastore, 1) := dk_79 (dk_at dksX0_passes_0 13 rfl rfl)
theorem dX0_passes_14 : decode cX0_passes 14 = .ok (.iconst 0, 1) := dk_3 (dk_at dksX0_passes_0 14 rfl rfl)
theorem dX0_passes_15 : decode cX0_passes 15 = .ok (.istore 5, 2) := dk_54 5 (dk_at dksX0_passes_0 15 rfl rfl)
theorem dX0_passes_17 : decode cX0_passes 17 = .ok (.iload 5, 2) := dk_21 5 (dk_at dksX0_passes_0 17 rfl rfl)
theorem dX0_passes_19 : decode cX0_passes 19 = .ok (.bipush 8, 2) := dk_16 8 (dk_at dksX0_passes_0 19 rfl rfl)
theorem dX0_passes_21 : decode cX0_passes 21 = .ok (.if_icmp .ge 28, 3) := dk_162 0 28 (dk_at dksX0_passes_0 21 rfl rfl)
theorem dX0_passes_24 : decode cX0_passes 24 = .ok (.aload_n 1, 1) := dk_43 (dk_at dksX0_passes_1 0 rfl rfl)
theorem dX0_passes_25 : decode cX0_passes 25 = .ok (.iconst 3, 1) := dk_6 (dk_at dksX0_passes_1 1 rfl rfl)
theorem dX0_passes_26 : decode cX0_passes 26 = .ok (.iload 5, 2) := dk_21 5 (dk_at dksX0_passes_1 2 rfl rfl)
theorem dX0_passes_28 : decode cX0_passes 28 = .ok (.iadd, 1) := dk_96 (dk_at dksX0_passes_1 4 rfl rfl)
theorem dX0_passes_29 : decode cX0_passes 29 = .ok (.iaload, 1) := dk_46 (dk_at dksX0_passes_1 5 rfl rfl)
theorem dX0_passes_30 : decode cX0_passes 30 = .ok (.aload_n 1, 1) := dk_43 (dk_at dksX0_passes_1 6 rfl rfl)
theorem dX0_passes_31 : decode cX0_passes 31 = .ok (.iconst 0, 1) := dk_3 (dk_at dksX0_passes_1 7 rfl rfl)
theorem dX0_passes_32 : decode cX0_passes 32 = .ok (.iaload, 1) := dk_46 (dk_at dksX0_passes_1 8 rfl rfl)
theorem dX0_passes_33 : decode cX0_passes 33 = .ok (.if_icmp .gt 10, 3) := dk_163 0 10 (dk_at dksX0_passes_1 9 rfl rfl)
theorem dX0_passes_36 : decode cX0_passes 36 = .ok (.aload_n 1, 1) := dk_43 (dk_at dksX0_passes_1 12 rfl rfl)
theorem dX0_passes_37 : decode cX0_passes 37 = .ok (.iconst 3, 1) := dk_6 (dk_at dksX0_passes_1 13 rfl rfl)
theorem dX0_passes_38 : decode cX0_passes 38 = .ok (.iload 5, 2) := dk_21 5 (dk_at dksX0_passes_1 14 rfl rfl)
theorem dX0_passes_40 : decode cX0_passes 40 = .ok (.iadd, 1) := dk_96 (dk_at dksX0_passes_1 16 rfl rfl)
theorem dX0_passes_41 : decode cX0_passes 41 = .ok (.iconst 0, 1) := dk_3 (dk_at dksX0_passes_1 17 rfl rfl)
theorem dX0_passes_42 : decode cX0_passes 42 = .ok (.iastore, 1) := dk_79 (dk_at dksX0_passes_1 18 rfl rfl)
theorem dX0_passes_43 : decode cX0_passes 43 = .ok (.iinc 5 1, 3) := dk_132 5 1 (dk_at dksX0_passes_1 19 rfl rfl)
theorem dX0_passes_46 : decode cX0_passes 46 = .ok (.goto (-29), 3) := dk_167 255 227 (dk_at dksX0_passes_2 0 rfl rfl)
theorem dX0_passes_49 : decode cX0_passes 49 = .ok (.iconst 0, 1) := dk_3 (dk_at dksX0_passes_2 3 rfl rfl)
theorem dX0_passes_50 : decode cX0_passes 50 = .ok (.istore 5, 2) := dk_54 5 (dk_at dksX0_passes_2 4 rfl rfl)
theorem dX0_passes_52 : decode cX0_passes 52 = .ok (.iload 5, 2) := dk_21 5 (dk_at dksX0_passes_2 6 rfl rfl)
theorem dX0_passes_54 : decode cX0_passes 54 = .ok (.aload_n 0, 1) := dk_42 (dk_at dksX0_passes_2 8 rfl rfl)
theorem dX0_passes_55 : decode cX0_passes 55 = .ok (.invokevirtual 69, 3) := dk_182 0 69 (dk_at dksX0_passes_2 9 rfl rfl)
theorem dX0_passes_58 : decode cX0_passes 58 = .ok (.if_icmp .ge 52, 3) := dk_162 0 52 (dk_at dksX0_passes_2 12 rfl rfl)
theorem dX0_passes_61 : decode cX0_passes 61 = .ok (.aload_n 0, 1) := dk_42 (dk_at dksX0_passes_2 15 rfl rfl)
theorem dX0_passes_62 : decode cX0_passes 62 = .ok (.aload_n 1, 1) := dk_43 (dk_at dksX0_passes_2 16 rfl rfl)
theorem dX0_passes_63 : decode cX0_passes 63 = .ok (.iload 5, 2) := dk_21 5 (dk_at dksX0_passes_2 17 rfl rfl)
theorem dX0_passes_65 : decode cX0_passes 65 = .ok (.invokevirtual 188, 3) := dk_182 0 188 (dk_at dksX0_passes_2 19 rfl rfl)
theorem dX0_passes_68 : decode cX0_passes 68 = .ok (.ifCond .eq 25, 3) := dk_153 0 25 (dk_at dksX0_passes_3 0 rfl rfl)
theorem dX0_passes_71 : decode cX0_passes 71 = .ok (.iinc 4 (-1), 3) := dk_132 4 255 (dk_at dksX0_passes_3 3 rfl rfl)
theorem dX0_passes_74 : decode cX0_passes 74 = .ok (.aload_n 0, 1) := dk_42 (dk_at dksX0_passes_3 6 rfl rfl)
theorem dX0_passes_75 : decode cX0_passes 75 = .ok (.getfield 46, 3) := dk_180 0 46 (dk_at dksX0_passes_3 7 rfl rfl)
theorem dX0_passes_78 : decode cX0_passes 78 = .ok (.iload 4, 2) := dk_21 4 (dk_at dksX0_passes_3 10 rfl rfl)
theorem dX0_passes_80 : decode cX0_passes 80 = .ok (.iload 5, 2) := dk_21 5 (dk_at dksX0_passes_3 12 rfl rfl)
theorem dX0_passes_82 : decode cX0_passes 82 = .ok (.iastore, 1) := dk_79 (dk_at dksX0_passes_3 14 rfl rfl)
theorem dX0_passes_83 : decode cX0_passes 83 = .ok (.iload_n 2, 1) := dk_28 (dk_at dksX0_passes_3 15 rfl rfl)
theorem dX0_passes_84 : decode cX0_passes 84 = .ok (.iconst 1, 1) := dk_4 (dk_at dksX0_passes_3 16 rfl rfl)
theorem dX0_passes_85 : decode cX0_passes 85 = .ok (.iload 5, 2) := dk_21 5 (dk_at dksX0_passes_3 17 rfl rfl)
theorem dX0_passes_87 : decode cX0_passes 87 = .ok (.ishl, 1) := dk_120 (dk_at dksX0_passes_3 19 rfl rfl)
theorem dX0_passes_88 : decode cX0_passes 88 = .ok (.ior, 1) := dk_128 (dk_at dksX0_passes_3 20 rfl rfl)
theorem dX0_passes_89 : decode cX0_passes 89 = .ok (.istore_n 2, 1) := dk_61 (dk_at dksX0_passes_3 21 rfl rfl)
theorem dX0_passes_90 : decode cX0_passes 90 = .ok (.goto 14, 3) := dk_167 0 14 (dk_at dksX0_passes_4 0 rfl rfl)
theorem dX0_passes_93 : decode cX0_passes 93 = .ok (.aload_n 0, 1) := dk_42 (dk_at dksX0_passes_4 3 rfl rfl)
theorem dX0_passes_94 : decode cX0_passes 94 = .ok (.getfield 46, 3) := dk_180 0 46 (dk_at dksX0_passes_4 4 rfl rfl)
theorem dX0_passes_97 : decode cX0_passes 97 = .ok (.iload_n 3, 1) := dk_29 (dk_at dksX0_passes_4 7 rfl rfl)
theorem dX0_passes_98 : decode cX0_passes 98 = .ok (.iload 5, 2) := dk_21 5 (dk_at dksX0_passes_4 8 rfl rfl)
theorem dX0_passes_100 : decode cX0_passes 100 = .ok (.iastore, 1) := dk_79 (dk_at dksX0_passes_4 10 rfl rfl)
theorem dX0_passes_101 : decode cX0_passes 101 = .ok (.iinc 3 1, 3) := dk_132 3 1 (dk_at dksX0_passes_4 11 rfl rfl)
theorem dX0_passes_104 : decode cX0_passes 104 = .ok (.iinc 5 1, 3) := dk_132 5 1 (dk_at dksX0_passes_4 14 rfl rfl)
theorem dX0_passes_107 : decode cX0_passes 107 = .ok (.goto (-55), 3) := dk_167 255 201 (dk_at dksX0_passes_4 17 rfl rfl)
theorem dX0_passes_110 : decode cX0_passes 110 = .ok (.bipush 31, 2) := dk_16 31 (dk_at dksX0_passes_4 20 rfl rfl)
theorem dX0_passes_112 : decode cX0_passes 112 = .ok (.istore 5, 2) := dk_54 5 (dk_at dksX0_passes_4 22 rfl rfl)
theorem dX0_passes_114 : decode cX0_passes 114 = .ok (.iconst 0, 1) := dk_3 (dk_at dksX0_passes_5 0 rfl rfl)
theorem dX0_passes_115 : decode cX0_passes 115 = .ok (.istore 6, 2) := dk_54 6 (dk_at dksX0_passes_5 1 rfl rfl)
theorem dX0_passes_117 : decode cX0_passes 117 = .ok (.iload 6, 2) := dk_21 6 (dk_at dksX0_passes_5 3 rfl rfl)
theorem dX0_passes_119 : decode cX0_passes 119 = .ok (.aload_n 0, 1) := dk_42 (dk_at dksX0_passes_5 5 rfl rfl)
theorem dX0_passes_120 : decode cX0_passes 120 = .ok (.invokevirtual 69, 3) := dk_182 0 69 (dk_at dksX0_passes_5 6 rfl rfl)
theorem dX0_passes_123 : decode cX0_passes 123 = .ok (.if_icmp .ge 69, 3) := dk_162 0 69 (dk_at dksX0_passes_5 9 rfl rfl)
theorem dX0_passes_126 : decode cX0_passes 126 = .ok (.aload_n 0, 1) := dk_42 (dk_at dksX0_passes_5 12 rfl rfl)
theorem dX0_passes_127 : decode cX0_passes 127 = .ok (.getfield 46, 3) := dk_180 0 46 (dk_at dksX0_passes_5 13 rfl rfl)
theorem dX0_passes_130 : decode cX0_passes 130 = .ok (.iload 6, 2) := dk_21 6 (dk_at dksX0_passes_5 16 rfl rfl)
theorem dX0_passes_132 : decode cX0_passes 132 = .ok (.iaload, 1) := dk_46 (dk_at dksX0_passes_5 18 rfl rfl)
theorem dX0_passes_133 : decode cX0_passes 133 = .ok (.istore 7, 2) := dk_54 7 (dk_at dksX0_passes_5 19 rfl rfl)
theorem dX0_passes_135 : decode cX0_passes 135 = .ok (.aload_n 1, 1) := dk_43 (dk_at dksX0_passes_5 21 rfl rfl)
theorem dX0_passes_136 : decode cX0_passes 136 = .ok (.bipush 11, 2) := dk_16 11 (dk_at dksX0_passes_5 22 rfl rfl)
theorem dX0_passes_138 : decode cX0_passes 138 = .ok (.iload 7, 2) := dk_21 7 (dk_at dksX0_passes_6 0 rfl rfl)
theorem dX0_passes_140 : decode cX0_passes 140 = .ok (.iadd, 1) := dk_96 (dk_at dksX0_passes_6 2 rfl rfl)
theorem dX0_passes_141 : decode cX0_passes 141 = .ok (.aload_n 0, 1) := dk_42 (dk_at dksX0_passes_6 3 rfl rfl)
theorem dX0_passes_142 : decode cX0_passes 142 = .ok (.aload_n 1, 1) := dk_43 (dk_at dksX0_passes_6 4 rfl rfl)
theorem dX0_passes_143 : decode cX0_passes 143 = .ok (.iload 7, 2) := dk_21 7 (dk_at dksX0_passes_6 5 rfl rfl)
theorem dX0_passes_145 : decode cX0_passes 145 = .ok (.iload 5, 2) := dk_21 5 (dk_at dksX0_passes_6 7 rfl rfl)
theorem dX0_passes_147 : decode cX0_passes 147 = .ok (.invokevirtual 191, 3) := dk_182 0 191 (dk_at dksX0_passes_6 9 rfl rfl)
theorem dX0_passes_150 : decode cX0_passes 150 = .ok (.iastore, 1) := dk_79 (dk_at dksX0_passes_6 12 rfl rfl)
theorem dX0_passes_151 : decode cX0_passes 151 = .ok (.iload 5, 2) := dk_21 5 (dk_at dksX0_passes_6 13 rfl rfl)
theorem dX0_passes_153 : decode cX0_passes 153 = .ok (.iconst 1, 1) := dk_4 (dk_at dksX0_passes_6 15 rfl rfl)
theorem dX0_passes_154 : decode cX0_passes 154 = .ok (.aload_n 1, 1) := dk_43 (dk_at dksX0_passes_6 16 rfl rfl)
theorem dX0_passes_155 : decode cX0_passes 155 = .ok (.bipush 11, 2) := dk_16 11 (dk_at dksX0_passes_6 17 rfl rfl)
theorem dX0_passes_157 : decode cX0_passes 157 = .ok (.iload 7, 2) := dk_21 7 (dk_at dksX0_passes_6 19 rfl rfl)
theorem dX0_passes_159 : decode cX0_passes 159 = .ok (.iadd, 1) := dk_96 (dk_at dksX0_passes_6 21 rfl rfl)
theorem dX0_passes_160 : decode cX0_passes 160 = .ok (.iaload, 1) := dk_46 (dk_at dksX0_passes_6 22 rfl rfl)
theorem dX0_passes_161 : decode cX0_passes 161 = .ok (.ishl, 1) := dk_120 (dk_at dksX0_passes_6 23 rfl rfl)
theorem dX0_passes_162 : decode cX0_passes 162 = .ok (.iconst (-1), 1) := dk_2 (dk_at dksX0_passes_7 0 rfl rfl)
theorem dX0_passes_163 : decode cX0_passes 163 = .ok (.ixor, 1) := dk_130 (dk_at dksX0_passes_7 1 rfl rfl)
theorem dX0_passes_164 : decode cX0_passes 164 = .ok (.iand, 1) := dk_126 (dk_at dksX0_passes_7 2 rfl rfl)
theorem dX0_passes_165 : decode cX0_passes 165 = .ok (.istore 5, 2) := dk_54 5 (dk_at dksX0_passes_7 3 rfl rfl)
theorem dX0_passes_167 : decode cX0_passes 167 = .ok (.aload_n 1, 1) := dk_43 (dk_at dksX0_passes_7 5 rfl rfl)
theorem dX0_passes_168 : decode cX0_passes 168 = .ok (.iload 7, 2) := dk_21 7 (dk_at dksX0_passes_7 6 rfl rfl)
theorem dX0_passes_170 : decode cX0_passes 170 = .ok (.aload_n 0, 1) := dk_42 (dk_at dksX0_passes_7 8 rfl rfl)
theorem dX0_passes_171 : decode cX0_passes 171 = .ok (.getfield 43, 3) := dk_180 0 43 (dk_at dksX0_passes_7 9 rfl rfl)
theorem dX0_passes_174 : decode cX0_passes 174 = .ok (.iload 7, 2) := dk_21 7 (dk_at dksX0_passes_7 12 rfl rfl)
theorem dX0_passes_176 : decode cX0_passes 176 = .ok (.iaload, 1) := dk_46 (dk_at dksX0_passes_7 14 rfl rfl)
theorem dX0_passes_177 : decode cX0_passes 177 = .ok (.iload_n 2, 1) := dk_28 (dk_at dksX0_passes_7 15 rfl rfl)
theorem dX0_passes_178 : decode cX0_passes 178 = .ok (.iload 7, 2) := dk_21 7 (dk_at dksX0_passes_7 16 rfl rfl)
theorem dX0_passes_180 : decode cX0_passes 180 = .ok (.invokestatic 138, 3) := dk_184 0 138 (dk_at dksX0_passes_7 18 rfl rfl)
theorem dX0_passes_183 : decode cX0_passes 183 = .ok (.invokestatic 195, 3) := dk_184 0 195 (dk_at dksX0_passes_7 21 rfl rfl)
theorem dX0_passes_186 : decode cX0_passes 186 = .ok (.iinc 6 1, 3) := dk_132 6 1 (dk_at dksX0_passes_8 0 rfl rfl)
theorem dX0_passes_189 : decode cX0_passes 189 = .ok (.goto (-72), 3) := dk_167 255 184 (dk_at dksX0_passes_8 3 rfl rfl)
theorem dX0_passes_192 : decode cX0_passes 192 = .ok (.aload_n 1, 1) := dk_43 (dk_at dksX0_passes_8 6 rfl rfl)
theorem dX0_passes_193 : decode cX0_passes 193 = .ok (.iconst 0, 1) := dk_3 (dk_at dksX0_passes_8 7 rfl rfl)
theorem dX0_passes_194 : decode cX0_passes 194 = .ok (.dup2, 1) := dk_92 (dk_at dksX0_passes_8 8 rfl rfl)
theorem dX0_passes_195 : decode cX0_passes 195 = .ok (.iaload, 1) := dk_46 (dk_at dksX0_passes_8 9 rfl rfl)
theorem dX0_passes_196 : decode cX0_passes 196 = .ok (.iconst 1, 1) := dk_4 (dk_at dksX0_passes_8 10 rfl rfl)
theorem dX0_passes_197 : decode cX0_passes 197 = .ok (.iadd, 1) := dk_96 (dk_at dksX0_passes_8 11 rfl rfl)
theorem dX0_passes_198 : decode cX0_passes 198 = .ok (.iastore, 1) := dk_79 (dk_at dksX0_passes_8 12 rfl rfl)
theorem dX0_passes_199 : decode cX0_passes 199 = .ok (.iload_n 2, 1) := dk_28 (dk_at dksX0_passes_8 13 rfl rfl)
theorem dX0_passes_200 : decode cX0_passes 200 = .ok (.ireturn, 1) := dk_172 (dk_at dksX0_passes_8 14 rfl rfl)
abbrev cX0_isRefuted : ByteArray := prog_1_method_29_code
def yX0_isRefuted : MethodName := ⟨RX0, "isRefuted", "([II)Z"⟩
def dkwX0_isRefuted_4 : List UInt8 := [16, 16, 28, 96, 17, 39, 15, 43, 16, 16, 28, 96, 46, 4, 96, 184, 0, 181, 79, 4, 172]
abbrev dktX0_isRefuted_4 : List UInt8 := dkwX0_isRefuted_4 ++ []
def dkwX0_isRefuted_3 : List UInt8 := [120, 128, 79, 3, 172, 43, 6, 29, 96, 46, 154, 0, 13, 43, 6, 29, 96, 43, 3, 46, 6, 96, 79, 43]
abbrev dktX0_isRefuted_3 : List UInt8 := dkwX0_isRefuted_3 ++ dktX0_isRefuted_4
def dkwX0_isRefuted_2 : List UInt8 := [172, 43, 6, 29, 96, 46, 154, 0, 23, 42, 43, 29, 182, 0, 177, 153, 0, 14, 43, 5, 92, 46, 4, 29]
abbrev dktX0_isRefuted_2 : List UInt8 := dkwX0_isRefuted_2 ++ dktX0_isRefuted_3
def dkwX0_isRefuted_1 : List UInt8 := [79, 42, 180, 0, 43, 28, 46, 62, 29, 2, 159, 0, 13, 43, 5, 46, 29, 184, 0, 138, 153, 0, 5, 3]
abbrev dktX0_isRefuted_1 : List UInt8 := dkwX0_isRefuted_1 ++ dktX0_isRefuted_2
def dkwX0_isRefuted_0 : List UInt8 := [42, 180, 0, 43, 28, 42, 182, 0, 132, 154, 0, 7, 2, 167, 0, 11, 43, 42, 182, 0, 132, 184, 0, 173]
abbrev dktX0_isRefuted_0 : List UInt8 := dkwX0_isRefuted_0 ++ dktX0_isRefuted_1
theorem dksX0_isRefuted_0 : cX0_isRefuted.data.toList.drop 0 = dktX0_isRefuted_0 := by decide +kernel
theorem dksX0_isRefuted_1 : cX0_isRefuted.data.toList.drop 24 = dktX0_isRefuted_1 := dk_seg dksX0_isRefuted_0 24 rfl rfl
theorem dksX0_isRefuted_2 : cX0_isRefuted.data.toList.drop 48 = dktX0_isRefuted_2 := dk_seg dksX0_isRefuted_1 24 rfl rfl
theorem dksX0_isRefuted_3 : cX0_isRefuted.data.toList.drop 72 = dktX0_isRefuted_3 := dk_seg dksX0_isRefuted_2 24 rfl rfl
theorem dksX0_isRefuted_4 : cX0_isRefuted.data.toList.drop 96 = dktX0_isRefuted_4 := dk_seg dksX0_isRefuted_3 24 rfl rfl
theorem dX0_isRefuted_0 : decode cX0_isRefuted 0 = .ok (.aload_n 0, 1) := dk_42 (dk_at dksX0_isRefuted_0 0 rfl rfl)
theorem dX0_isRefuted_1 : decode cX0_isRefuted 1 = .ok (.getfield 43, 3) := dk_180 0 43 (dk_at dksX0_isRefuted_0 1 rfl rfl)
theorem dX0_isRefuted_4 : decode cX0_isRefuted 4 = .ok (.iload_n 2, 1) := dk_28 (dk_at dksX0_isRefuted_0 4 rfl rfl)
theorem dX0_isRefuted_5 : decode cX0_isRefuted 5 = .ok (.aload_n 0, 1) := dk_42 (dk_at dksX0_isRefuted_0 5 rfl rfl)
theorem dX0_isRefuted_6 : decode cX0_isRefuted 6 = .ok (.invokevirtual 132, 3) := dk_182 0 132 (dk_at dksX0_isRefuted_0 6 rfl rfl)
theorem dX0_isRefuted_9 : decode cX0_isRefuted 9 = .ok (.ifCond .ne 7, 3) := dk_154 0 7 (dk_at dksX0_isRefuted_0 9 rfl rfl)
theorem dX0_isRefuted_12 : decode cX0_isRefuted 12 = .ok (.iconst (-1), 1) := dk_2 (dk_at dksX0_isRefuted_0 12 rfl rfl)
theorem dX0_isRefuted_13 : decode cX0_isRefuted 13 = .ok (.goto 11, 3) := dk_167 0 11 (dk_at dksX0_isRefuted_0 13 rfl rfl)
theorem dX0_isRefuted_16 : decode cX0_isRefuted 16 = .ok (.aload_n 1, 1) := dk_43 (dk_at dksX0_isRefuted_0 16 rfl rfl)
theorem dX0_isRefuted_17 : decode cX0_isRefuted 17 = .ok (.aload_n 0, 1) := dk_42 (dk_at dksX0_isRefuted_0 17 rfl rfl)
theorem dX0_isRefuted_18 : decode cX0_isRefuted 18 = .ok (.invokevirtual 132, 3) := dk_182 0 132 (dk_at dksX0_isRefuted_0 18 rfl rfl)
theorem dX0_isRefuted_21 : decode cX0_isRefuted 21 = .ok (.invokestatic 173, 3) := dk_184 0 173 (dk_at dksX0_isRefuted_0 21 rfl rfl)
theorem dX0_isRefuted_24 : decode cX0_isRefuted 24 = .ok (.iastore, 1) := dk_79 (dk_at dksX0_isRefuted_1 0 rfl rfl)
theorem dX0_isRefuted_25 : decode cX0_isRefuted 25 = .ok (.aload_n 0, 1) := dk_42 (dk_at dksX0_isRefuted_1 1 rfl rfl)
theorem dX0_isRefuted_26 : decode cX0_isRefuted 26 = .ok (.getfield 43, 3) := dk_180 0 43 (dk_at dksX0_isRefuted_1 2 rfl rfl)
theorem dX0_isRefuted_29 : decode cX0_isRefuted 29 = .ok (.iload_n 2, 1) := dk_28 (dk_at dksX0_isRefuted_1 5 rfl rfl)
theorem dX0_isRefuted_30 : decode cX0_isRefuted 30 = .ok (.iaload, 1) := dk_46 (dk_at dksX0_isRefuted_1 6 rfl rfl)
theorem dX0_isRefuted_31 : decode cX0_isRefuted 31 = .ok (.istore_n 3, 1) := dk_62 (dk_at dksX0_isRefuted_1 7 rfl rfl)
theorem dX0_isRefuted_32 : decode cX0_isRefuted 32 = .ok (.iload_n 3, 1) := dk_29 (dk_at dksX0_isRefuted_1 8 rfl rfl)
theorem dX0_isRefuted_33 : decode cX0_isRefuted 33 = .ok (.iconst (-1), 1) := dk_2 (dk_at dksX0_isRefuted_1 9 rfl rfl)
theorem dX0_isRefuted_34 : decode cX0_isRefuted 34 = .ok (.if_icmp .eq 13, 3) := dk_159 0 13 (dk_at dksX0_isRefuted_1 10 rfl rfl)
theorem dX0_isRefuted_37 : decode cX0_isRefuted 37 = .ok (.aload_n 1, 1) := dk_43 (dk_at dksX0_isRefuted_1 13 rfl rfl)
theorem dX0_isRefuted_38 : decode cX0_isRefuted 38 = .ok (.iconst 2, 1) := dk_5 (dk_at dksX0_isRefuted_1 14 rfl rfl)
theorem dX0_isRefuted_39 : decode cX0_isRefuted 39 = .ok (.iaload, 1) := dk_46 (dk_at dksX0_isRefuted_1 15 rfl rfl)
theorem dX0_isRefuted_40 : decode cX0_isRefuted 40 = .ok (.iload_n 3, 1) := dk_29 (dk_at dksX0_isRefuted_1 16 rfl rfl)
theorem dX0_isRefuted_41 : decode cX0_isRefuted 41 = .ok (.invokestatic 138, 3) := dk_184 0 138 (dk_at dksX0_isRefuted_1 17 rfl rfl)
theorem dX0_isRefuted_44 : decode cX0_isRefuted 44 = .ok (.ifCond .eq 5, 3) := dk_153 0 5 (dk_at dksX0_isRefuted_1 20 rfl rfl)
theorem dX0_isRefuted_47 : decode cX0_isRefuted 47 = .ok (.iconst 0, 1) := dk_3 (dk_at dksX0_isRefuted_1 23 rfl rfl)
theorem dX0_isRefuted_48 : decode cX0_isRefuted 48 = .ok (.ireturn, 1) := dk_172 (dk_at dksX0_isRefuted_2 0 rfl rfl)
theorem dX0_isRefuted_49 : decode cX0_isRefuted 49 = .ok (.aload_n 1, 1) := dk_43 (dk_at dksX0_isRefuted_2 1 rfl rfl)
theorem dX0_isRefuted_50 : decode cX0_isRefuted 50 = .ok (.iconst 3, 1) := dk_6 (dk_at dksX0_isRefuted_2 2 rfl rfl)
theorem dX0_isRefuted_51 : decode cX0_isRefuted 51 = .ok (.iload_n 3, 1) := dk_29 (dk_at dksX0_isRefuted_2 3 rfl rfl)
theorem dX0_isRefuted_52 : decode cX0_isRefuted 52 = .ok (.iadd, 1) := dk_96 (dk_at dksX0_isRefuted_2 4 rfl rfl)
theorem dX0_isRefuted_53 : decode cX0_isRefuted 53 = .ok (.iaload, 1) := dk_46 (dk_at dksX0_isRefuted_2 5 rfl rfl)
theorem dX0_isRefuted_54 : decode cX0_isRefuted 54 = .ok (.ifCond .ne 23, 3) := dk_154 0 23 (dk_at dksX0_isRefuted_2 6 rfl rfl)
theorem dX0_isRefuted_57 : decode cX0_isRefuted 57 = .ok (.aload_n 0, 1) := dk_42 (dk_at dksX0_isRefuted_2 9 rfl rfl)
theorem dX0_isRefuted_58 : decode cX0_isRefuted 58 = .ok (.aload_n 1, 1) := dk_43 (dk_at dksX0_isRefuted_2 10 rfl rfl)
theorem dX0_isRefuted_59 : decode cX0_isRefuted 59 = .ok (.iload_n 3, 1) := dk_29 (dk_at dksX0_isRefuted_2 11 rfl rfl)
theorem dX0_isRefuted_60 : decode cX0_isRefuted 60 = .ok (.invokevirtual 177, 3) := dk_182 0 177 (dk_at dksX0_isRefuted_2 12 rfl rfl)
theorem dX0_isRefuted_63 : decode cX0_isRefuted 63 = .ok (.ifCond .eq 14, 3) := dk_153 0 14 (dk_at dksX0_isRefuted_2 15 rfl rfl)
theorem dX0_isRefuted_66 : decode cX0_isRefuted 66 = .ok (.aload_n 1, 1) := dk_43 (dk_at dksX0_isRefuted_2 18 rfl rfl)
theorem dX0_isRefuted_67 : decode cX0_isRefuted 67 = .ok (.iconst 2, 1) := dk_5 (dk_at dksX0_isRefuted_2 19 rfl rfl)
theorem dX0_isRefuted_68 : decode cX0_isRefuted 68 = .ok (.dup2, 1) := dk_92 (dk_at dksX0_isRefuted_2 20 rfl rfl)
theorem dX0_isRefuted_69 : decode cX0_isRefuted 69 = .ok (.iaload, 1) := dk_46 (dk_at dksX0_isRefuted_2 21 rfl rfl)
theorem dX0_isRefuted_70 : decode cX0_isRefuted 70 = .ok (.iconst 1, 1) := dk_4 (dk_at dksX0_isRefuted_2 22 rfl rfl)
theorem dX0_isRefuted_71 : decode cX0_isRefuted 71 = .ok (.iload_n 3, 1) := dk_29 (dk_at dksX0_isRefuted_2 23 rfl rfl)
theorem dX0_isRefuted_72 : decode cX0_isRefuted 72 = .ok (.ishl, 1) := dk_120 (dk_at dksX0_isRefuted_3 0 rfl rfl)
theorem dX0_isRefuted_73 : decode cX0_isRefuted 73 = .ok (.ior, 1) := dk_128 (dk_at dksX0_isRefuted_3 1 rfl rfl)
theorem dX0_isRefuted_74 : decode cX0_isRefuted 74 = .ok (.iastore, 1) := dk_79 (dk_at dksX0_isRefuted_3 2 rfl rfl)
theorem dX0_isRefuted_75 : decode cX0_isRefuted 75 = .ok (.iconst 0, 1) := dk_3 (dk_at dksX0_isRefuted_3 3 rfl rfl)
theorem dX0_isRefuted_76 : decode cX0_isRefuted 76 = .ok (.ireturn, 1) := dk_172 (dk_at dksX0_isRefuted_3 4 rfl rfl)
theorem dX0_isRefuted_77 : decode cX0_isRefuted 77 = .ok (.aload_n 1, 1) := dk_43 (dk_at dksX0_isRefuted_3 5 rfl rfl)
theorem dX0_isRefuted_78 : decode cX0_isRefuted 78 = .ok (.iconst 3, 1) := dk_6 (dk_at dksX0_isRefuted_3 6 rfl rfl)
theorem dX0_isRefuted_79 : decode cX0_isRefuted 79 = .ok (.iload_n 3, 1) := dk_29 (dk_at dksX0_isRefuted_3 7 rfl rfl)
theorem dX0_isRefuted_80 : decode cX0_isRefuted 80 = .ok (.iadd, 1) := dk_96 (dk_at dksX0_isRefuted_3 8 rfl rfl)
theorem dX0_isRefuted_81 : decode cX0_isRefuted 81 = .ok (.iaload, 1) := dk_46 (dk_at dksX0_isRefuted_3 9 rfl rfl)
theorem dX0_isRefuted_82 : decode cX0_isRefuted 82 = .ok (.ifCond .ne 13, 3) := dk_154 0 13 (dk_at dksX0_isRefuted_3 10 rfl rfl)
theorem dX0_isRefuted_85 : decode cX0_isRefuted 85 = .ok (.aload_n 1, 1) := dk_43 (dk_at dksX0_isRefuted_3 13 rfl rfl)
theorem dX0_isRefuted_86 : decode cX0_isRefuted 86 = .ok (.iconst 3, 1) := dk_6 (dk_at dksX0_isRefuted_3 14 rfl rfl)
theorem dX0_isRefuted_87 : decode cX0_isRefuted 87 = .ok (.iload_n 3, 1) := dk_29 (dk_at dksX0_isRefuted_3 15 rfl rfl)
theorem dX0_isRefuted_88 : decode cX0_isRefuted 88 = .ok (.iadd, 1) := dk_96 (dk_at dksX0_isRefuted_3 16 rfl rfl)
theorem dX0_isRefuted_89 : decode cX0_isRefuted 89 = .ok (.aload_n 1, 1) := dk_43 (dk_at dksX0_isRefuted_3 17 rfl rfl)
theorem dX0_isRefuted_90 : decode cX0_isRefuted 90 = .ok (.iconst 0, 1) := dk_3 (dk_at dksX0_isRefuted_3 18 rfl rfl)
theorem dX0_isRefuted_91 : decode cX0_isRefuted 91 = .ok (.iaload, 1) := dk_46 (dk_at dksX0_isRefuted_3 19 rfl rfl)
theorem dX0_isRefuted_92 : decode cX0_isRefuted 92 = .ok (.iconst 3, 1) := dk_6 (dk_at dksX0_isRefuted_3 20 rfl rfl)
theorem dX0_isRefuted_93 : decode cX0_isRefuted 93 = .ok (.iadd, 1) := dk_96 (dk_at dksX0_isRefuted_3 21 rfl rfl)
theorem dX0_isRefuted_94 : decode cX0_isRefuted 94 = .ok (.iastore, 1) := dk_79 (dk_at dksX0_isRefuted_3 22 rfl rfl)
theorem dX0_isRefuted_95 : decode cX0_isRefuted 95 = .ok (.aload_n 1, 1) := dk_43 (dk_at dksX0_isRefuted_3 23 rfl rfl)
theorem dX0_isRefuted_96 : decode cX0_isRefuted 96 = .ok (.bipush 16, 2) := dk_16 16 (dk_at dksX0_isRefuted_4 0 rfl rfl)
theorem dX0_isRefuted_98 : decode cX0_isRefuted 98 = .ok (.iload_n 2, 1) := dk_28 (dk_at dksX0_isRefuted_4 2 rfl rfl)
theorem dX0_isRefuted_99 : decode cX0_isRefuted 99 = .ok (.iadd, 1) := dk_96 (dk_at dksX0_isRefuted_4 3 rfl rfl)
theorem dX0_isRefuted_100 : decode cX0_isRefuted 100 = .ok (.sipush 9999, 3) := dk_17 39 15 (dk_at dksX0_isRefuted_4 4 rfl rfl)
theorem dX0_isRefuted_103 : decode cX0_isRefuted 103 = .ok (.aload_n 1, 1) := dk_43 (dk_at dksX0_isRefuted_4 7 rfl rfl)
theorem dX0_isRefuted_104 : decode cX0_isRefuted 104 = .ok (.bipush 16, 2) := dk_16 16 (dk_at dksX0_isRefuted_4 8 rfl rfl)
theorem dX0_isRefuted_106 : decode cX0_isRefuted 106 = .ok (.iload_n 2, 1) := dk_28 (dk_at dksX0_isRefuted_4 10 rfl rfl)
theorem dX0_isRefuted_107 : decode cX0_isRefuted 107 = .ok (.iadd, 1) := dk_96 (dk_at dksX0_isRefuted_4 11 rfl rfl)
theorem dX0_isRefuted_108 : decode cX0_isRefuted 108 = .ok (.iaload, 1) := dk_46 (dk_at dksX0_isRefuted_4 12 rfl rfl)
theorem dX0_isRefuted_109 : decode cX0_isRefuted 109 = .ok (.iconst 1, 1) := dk_4 (dk_at dksX0_isRefuted_4 13 rfl rfl)
theorem dX0_isRefuted_110 : decode cX0_isRefuted 110 = .ok (.iadd, 1) := dk_96 (dk_at dksX0_isRefuted_4 14 rfl rfl)
theorem dX0_isRefuted_111 : decode cX0_isRefuted 111 = .ok (.invokestatic 181, 3) := dk_184 0 181 (dk_at dksX0_isRefuted_4 15 rfl rfl)
theorem dX0_isRefuted_114 : decode cX0_isRefuted 114 = .ok (.iastore, 1) := dk_79 (dk_at dksX0_isRefuted_4 18 rfl rfl)
theorem dX0_isRefuted_115 : decode cX0_isRefuted 115 = .ok (.iconst 1, 1) := dk_4 (dk_at dksX0_isRefuted_4 19 rfl rfl)
theorem dX0_isRefuted_116 : decode cX0_isRefuted 116 = .ok (.ireturn, 1) := dk_172 (dk_at dksX0_isRefuted_4 20 rfl rfl)
abbrev cX0_claims : ByteArray := prog_1_method_19_code
def yX0_claims : MethodName := ⟨RX0, "claims", "()I"⟩
def dkwX0_claims_0 : List UInt8 := [42, 182, 0, 124, 180, 0, 127, 172]
abbrev dktX0_claims_0 : List UInt8 := dkwX0_claims_0 ++ []
theorem dksX0_claims_0 : cX0_claims.data.toList.drop 0 = dktX0_claims_0 := by decide +kernel
theorem dX0_claims_0 : decode cX0_claims 0 = .ok (.aload_n 0, 1) := dk_42 (dk_at dksX0_claims_0 0 rfl rfl)
theorem dX0_claims_1 : decode cX0_claims 1 = .ok (.invokevirtual 124, 3) := dk_182 0 124 (dk_at dksX0_claims_0 1 rfl rfl)
theorem dX0_claims_4 : decode cX0_claims 4 = .ok (.getfield 127, 3) := dk_180 0 127 (dk_at dksX0_claims_0 4 rfl rfl)
theorem dX0_claims_7 : decode cX0_claims 7 = .ok (.ireturn, 1) := dk_172 (dk_at dksX0_claims_0 7 rfl rfl)
abbrev cX0_rules : ByteArray := prog_1_method_18_code
def yX0_rules : MethodName := ⟨RX0, "rules", "()LSownByArgument$Text;"⟩
def dkwX0_rules_1 : List UInt8 := [180, 0, 98, 42, 180, 0, 21, 180, 0, 66, 5, 46, 50, 176]
abbrev dktX0_rules_1 : List UInt8 := dkwX0_rules_1 ++ []
def dkwX0_rules_0 : List UInt8 := [42, 180, 0, 21, 180, 0, 66, 5, 46, 2, 160, 0, 9, 178, 0, 120, 167, 0, 20, 42, 180, 0, 21]
abbrev dktX0_rules_0 : List UInt8 := dkwX0_rules_0 ++ dktX0_rules_1
theorem dksX0_rules_0 : cX0_rules.data.toList.drop 0 = dktX0_rules_0 := by decide +kernel
theorem dksX0_rules_1 : cX0_rules.data.toList.drop 23 = dktX0_rules_1 := dk_seg dksX0_rules_0 23 rfl rfl
theorem dX0_rules_0 : decode cX0_rules 0 = .ok (.aload_n 0, 1) := dk_42 (dk_at dksX0_rules_0 0 rfl rfl)
theorem dX0_rules_1 : decode cX0_rules 1 = .ok (.getfield 21, 3) := dk_180 0 21 (dk_at dksX0_rules_0 1 rfl rfl)
theorem dX0_rules_4 : decode cX0_rules 4 = .ok (.getfield 66, 3) := dk_180 0 66 (dk_at dksX0_rules_0 4 rfl rfl)
theorem dX0_rules_7 : decode cX0_rules 7 = .ok (.iconst 2, 1) := dk_5 (dk_at dksX0_rules_0 7 rfl rfl)
theorem dX0_rules_8 : decode cX0_rules 8 = .ok (.iaload, 1) := dk_46 (dk_at dksX0_rules_0 8 rfl rfl)
theorem dX0_rules_9 : decode cX0_rules 9 = .ok (.iconst (-1), 1) := dk_2 (dk_at dksX0_rules_0 9 rfl rfl)
theorem dX0_rules_10 : decode cX0_rules 10 = .ok (.if_icmp .ne 9, 3) := dk_160 0 9 (dk_at dksX0_rules_0 10 rfl rfl)
theorem dX0_rules_13 : decode cX0_rules 13 = .ok (.getstatic 120, 3) := dk_178 0 120 (dk_at dksX0_rules_0 13 rfl rfl)
theorem dX0_rules_16 : decode cX0_rules 16 = .ok (.goto 20, 3) := dk_167 0 20 (dk_at dksX0_rules_0 16 rfl rfl)
theorem dX0_rules_19 : decode cX0_rules 19 = .ok (.aload_n 0, 1) := dk_42 (dk_at dksX0_rules_0 19 rfl rfl)
theorem dX0_rules_20 : decode cX0_rules 20 = .ok (.getfield 21, 3) := dk_180 0 21 (dk_at dksX0_rules_0 20 rfl rfl)
theorem dX0_rules_23 : decode cX0_rules 23 = .ok (.getfield 98, 3) := dk_180 0 98 (dk_at dksX0_rules_1 0 rfl rfl)
theorem dX0_rules_26 : decode cX0_rules 26 = .ok (.aload_n 0, 1) := dk_42 (dk_at dksX0_rules_1 3 rfl rfl)
theorem dX0_rules_27 : decode cX0_rules 27 = .ok (.getfield 21, 3) := dk_180 0 21 (dk_at dksX0_rules_1 4 rfl rfl)
theorem dX0_rules_30 : decode cX0_rules 30 = .ok (.getfield 66, 3) := dk_180 0 66 (dk_at dksX0_rules_1 7 rfl rfl)
theorem dX0_rules_33 : decode cX0_rules 33 = .ok (.iconst 2, 1) := dk_5 (dk_at dksX0_rules_1 10 rfl rfl)
theorem dX0_rules_34 : decode cX0_rules 34 = .ok (.iaload, 1) := dk_46 (dk_at dksX0_rules_1 11 rfl rfl)
theorem dX0_rules_35 : decode cX0_rules 35 = .ok (.aaload, 1) := dk_50 (dk_at dksX0_rules_1 12 rfl rfl)
theorem dX0_rules_36 : decode cX0_rules 36 = .ok (.areturn, 1) := dk_176 (dk_at dksX0_rules_1 13 rfl rfl)
abbrev cX0_drawn : ByteArray := prog_1_method_27_code
def yX0_drawn : MethodName := ⟨RX0, "drawn", "([II)I"⟩
def dkwX0_drawn_1 : List UInt8 := [28, 172]
abbrev dktX0_drawn_1 : List UInt8 := dkwX0_drawn_1 ++ []
def dkwX0_drawn_0 : List UInt8 := [42, 4, 46, 27, 112, 61, 42, 4, 42, 4, 46, 17, 2, 101, 104, 17, 1, 231, 96, 17, 120, 139, 112, 79]
abbrev dktX0_drawn_0 : List UInt8 := dkwX0_drawn_0 ++ dktX0_drawn_1
theorem dksX0_drawn_0 : cX0_drawn.data.toList.drop 0 = dktX0_drawn_0 := by decide +kernel
theorem dksX0_drawn_1 : cX0_drawn.data.toList.drop 24 = dktX0_drawn_1 := dk_seg dksX0_drawn_0 24 rfl rfl
theorem dX0_drawn_0 : decode cX0_drawn 0 = .ok (.aload_n 0, 1) := dk_42 (dk_at dksX0_drawn_0 0 rfl rfl)
theorem dX0_drawn_1 : decode cX0_drawn 1 = .ok (.iconst 1, 1) := dk_4 (dk_at dksX0_drawn_0 1 rfl rfl)
theorem dX0_drawn_2 : decode cX0_drawn 2 = .ok (.iaload, 1) := dk_46 (dk_at dksX0_drawn_0 2 rfl rfl)
theorem dX0_drawn_3 : decode cX0_drawn 3 = .ok (.iload_n 1, 1) := dk_27 (dk_at dksX0_drawn_0 3 rfl rfl)
theorem dX0_drawn_4 : decode cX0_drawn 4 = .ok (.irem, 1) := dk_112 (dk_at dksX0_drawn_0 4 rfl rfl)
theorem dX0_drawn_5 : decode cX0_drawn 5 = .ok (.istore_n 2, 1) := dk_61 (dk_at dksX0_drawn_0 5 rfl rfl)
theorem dX0_drawn_6 : decode cX0_drawn 6 = .ok (.aload_n 0, 1) := dk_42 (dk_at dksX0_drawn_0 6 rfl rfl)
theorem dX0_drawn_7 : decode cX0_drawn 7 = .ok (.iconst 1, 1) := dk_4 (dk_at dksX0_drawn_0 7 rfl rfl)
theorem dX0_drawn_8 : decode cX0_drawn 8 = .ok (.aload_n 0, 1) := dk_42 (dk_at dksX0_drawn_0 8 rfl rfl)
theorem dX0_drawn_9 : decode cX0_drawn 9 = .ok (.iconst 1, 1) := dk_4 (dk_at dksX0_drawn_0 9 rfl rfl)
theorem dX0_drawn_10 : decode cX0_drawn 10 = .ok (.iaload, 1) := dk_46 (dk_at dksX0_drawn_0 10 rfl rfl)
theorem dX0_drawn_11 : decode cX0_drawn 11 = .ok (.sipush 613, 3) := dk_17 2 101 (dk_at dksX0_drawn_0 11 rfl rfl)
theorem dX0_drawn_14 : decode cX0_drawn 14 = .ok (.imul, 1) := dk_104 (dk_at dksX0_drawn_0 14 rfl rfl)
theorem dX0_drawn_15 : decode cX0_drawn 15 = .ok (.sipush 487, 3) := dk_17 1 231 (dk_at dksX0_drawn_0 15 rfl rfl)
theorem dX0_drawn_18 : decode cX0_drawn 18 = .ok (.iadd, 1) := dk_96 (dk_at dksX0_drawn_0 18 rfl rfl)
theorem dX0_drawn_19 : decode cX0_drawn 19 = .ok (.sipush 30859, 3) := dk_17 120 139 (dk_at dksX0_drawn_0 19 rfl rfl)
theorem dX0_drawn_22 : decode cX0_drawn 22 = .ok (.irem, 1) := dk_112 (dk_at dksX0_drawn_0 22 rfl rfl)
theorem dX0_drawn_23 : decode cX0_drawn 23 = .ok (.iastore, 1) := dk_79 (dk_at dksX0_drawn_0 23 rfl rfl)
theorem dX0_drawn_24 : decode cX0_drawn 24 = .ok (.iload_n 2, 1) := dk_28 (dk_at dksX0_drawn_1 0 rfl rfl)
theorem dX0_drawn_25 : decode cX0_drawn 25 = .ok (.ireturn, 1) := dk_172 (dk_at dksX0_drawn_1 1 rfl rfl)
abbrev cX0_has : ByteArray := prog_1_method_2_code
def yX0_has : MethodName := ⟨RX0, "has", "(II)Z"⟩
def dkwX0_has_0 : List UInt8 := [26, 27, 122, 4, 126, 4, 160, 0, 7, 4, 167, 0, 4, 3, 172]
abbrev dktX0_has_0 : List UInt8 := dkwX0_has_0 ++ []
theorem dksX0_has_0 : cX0_has.data.toList.drop 0 = dktX0_has_0 := by decide +kernel
theorem dX0_has_0 : decode cX0_has 0 = .ok (.iload_n 0, 1) := dk_26 (dk_at dksX0_has_0 0 rfl rfl)
theorem dX0_has_1 : decode cX0_has 1 = .ok (.iload_n 1, 1) := dk_27 (dk_at dksX0_has_0 1 rfl rfl)
theorem dX0_has_2 : decode cX0_has 2 = .ok (.ishr, 1) := dk_122 (dk_at dksX0_has_0 2 rfl rfl)
theorem dX0_has_3 : decode cX0_has 3 = .ok (.iconst 1, 1) := dk_4 (dk_at dksX0_has_0 3 rfl rfl)
theorem dX0_has_4 : decode cX0_has 4 = .ok (.iand, 1) := dk_126 (dk_at dksX0_has_0 4 rfl rfl)
theorem dX0_has_5 : decode cX0_has 5 = .ok (.iconst 1, 1) := dk_4 (dk_at dksX0_has_0 5 rfl rfl)
theorem dX0_has_6 : decode cX0_has 6 = .ok (.if_icmp .ne 7, 3) := dk_160 0 7 (dk_at dksX0_has_0 6 rfl rfl)
theorem dX0_has_9 : decode cX0_has 9 = .ok (.iconst 1, 1) := dk_4 (dk_at dksX0_has_0 9 rfl rfl)
theorem dX0_has_10 : decode cX0_has 10 = .ok (.goto 4, 3) := dk_167 0 4 (dk_at dksX0_has_0 10 rfl rfl)
theorem dX0_has_13 : decode cX0_has 13 = .ok (.iconst 0, 1) := dk_3 (dk_at dksX0_has_0 13 rfl rfl)
theorem dX0_has_14 : decode cX0_has 14 = .ok (.ireturn, 1) := dk_172 (dk_at dksX0_has_0 14 rfl rfl)
abbrev cX0_mayHold : ByteArray := prog_1_method_25_code
def yX0_mayHold : MethodName := ⟨RX0, "mayHold", "([II)Z"⟩
def dkwX0_mayHold_0 : List UInt8 := [42, 42, 43, 182, 0, 145, 4, 28, 120, 128, 182, 0, 149, 153, 0, 7, 4, 167, 0, 4, 3, 172]
abbrev dktX0_mayHold_0 : List UInt8 := dkwX0_mayHold_0 ++ []
theorem dksX0_mayHold_0 : cX0_mayHold.data.toList.drop 0 = dktX0_mayHold_0 := by decide +kernel
theorem dX0_mayHold_0 : decode cX0_mayHold 0 = .ok (.aload_n 0, 1) := dk_42 (dk_at dksX0_mayHold_0 0 rfl rfl)
theorem dX0_mayHold_1 : decode cX0_mayHold 1 = .ok (.aload_n 0, 1) := dk_42 (dk_at dksX0_mayHold_0 1 rfl rfl)
theorem dX0_mayHold_2 : decode cX0_mayHold 2 = .ok (.aload_n 1, 1) := dk_43 (dk_at dksX0_mayHold_0 2 rfl rfl)
theorem dX0_mayHold_3 : decode cX0_mayHold 3 = .ok (.invokevirtual 145, 3) := dk_182 0 145 (dk_at dksX0_mayHold_0 3 rfl rfl)
theorem dX0_mayHold_6 : decode cX0_mayHold 6 = .ok (.iconst 1, 1) := dk_4 (dk_at dksX0_mayHold_0 6 rfl rfl)
theorem dX0_mayHold_7 : decode cX0_mayHold 7 = .ok (.iload_n 2, 1) := dk_28 (dk_at dksX0_mayHold_0 7 rfl rfl)
theorem dX0_mayHold_8 : decode cX0_mayHold 8 = .ok (.ishl, 1) := dk_120 (dk_at dksX0_mayHold_0 8 rfl rfl)
theorem dX0_mayHold_9 : decode cX0_mayHold 9 = .ok (.ior, 1) := dk_128 (dk_at dksX0_mayHold_0 9 rfl rfl)
theorem dX0_mayHold_10 : decode cX0_mayHold 10 = .ok (.invokevirtual 149, 3) := dk_182 0 149 (dk_at dksX0_mayHold_0 10 rfl rfl)
theorem dX0_mayHold_13 : decode cX0_mayHold 13 = .ok (.ifCond .eq 7, 3) := dk_153 0 7 (dk_at dksX0_mayHold_0 13 rfl rfl)
theorem dX0_mayHold_16 : decode cX0_mayHold 16 = .ok (.iconst 1, 1) := dk_4 (dk_at dksX0_mayHold_0 16 rfl rfl)
theorem dX0_mayHold_17 : decode cX0_mayHold 17 = .ok (.goto 4, 3) := dk_167 0 4 (dk_at dksX0_mayHold_0 17 rfl rfl)
theorem dX0_mayHold_20 : decode cX0_mayHold 20 = .ok (.iconst 0, 1) := dk_3 (dk_at dksX0_mayHold_0 20 rfl rfl)
theorem dX0_mayHold_21 : decode cX0_mayHold 21 = .ok (.ireturn, 1) := dk_172 (dk_at dksX0_mayHold_0 21 rfl rfl)
abbrev cX0_heldNow : ByteArray := prog_1_method_24_code
def yX0_heldNow : MethodName := ⟨RX0, "heldNow", "([I)I"⟩
def dkwX0_heldNow_0 : List UInt8 := [43, 5, 46, 42, 182, 0, 134, 126, 172]
abbrev dktX0_heldNow_0 : List UInt8 := dkwX0_heldNow_0 ++ []
theorem dksX0_heldNow_0 : cX0_heldNow.data.toList.drop 0 = dktX0_heldNow_0 := by decide +kernel
theorem dX0_heldNow_0 : decode cX0_heldNow 0 = .ok (.aload_n 1, 1) := dk_43 (dk_at dksX0_heldNow_0 0 rfl rfl)
theorem dX0_heldNow_1 : decode cX0_heldNow 1 = .ok (.iconst 2, 1) := dk_5 (dk_at dksX0_heldNow_0 1 rfl rfl)
theorem dX0_heldNow_2 : decode cX0_heldNow 2 = .ok (.iaload, 1) := dk_46 (dk_at dksX0_heldNow_0 2 rfl rfl)
theorem dX0_heldNow_3 : decode cX0_heldNow 3 = .ok (.aload_n 0, 1) := dk_42 (dk_at dksX0_heldNow_0 3 rfl rfl)
theorem dX0_heldNow_4 : decode cX0_heldNow 4 = .ok (.invokevirtual 134, 3) := dk_182 0 134 (dk_at dksX0_heldNow_0 4 rfl rfl)
theorem dX0_heldNow_7 : decode cX0_heldNow 7 = .ok (.iand, 1) := dk_126 (dk_at dksX0_heldNow_0 7 rfl rfl)
theorem dX0_heldNow_8 : decode cX0_heldNow 8 = .ok (.ireturn, 1) := dk_172 (dk_at dksX0_heldNow_0 8 rfl rfl)
abbrev cX0_allClaims : ByteArray := prog_1_method_21_code
def yX0_allClaims : MethodName := ⟨RX0, "allClaims", "()I"⟩
def dkwX0_allClaims_0 : List UInt8 := [4, 42, 182, 0, 132, 120, 4, 100, 172]
abbrev dktX0_allClaims_0 : List UInt8 := dkwX0_allClaims_0 ++ []
theorem dksX0_allClaims_0 : cX0_allClaims.data.toList.drop 0 = dktX0_allClaims_0 := by decide +kernel
theorem dX0_allClaims_0 : decode cX0_allClaims 0 = .ok (.iconst 1, 1) := dk_4 (dk_at dksX0_allClaims_0 0 rfl rfl)
theorem dX0_allClaims_1 : decode cX0_allClaims 1 = .ok (.aload_n 0, 1) := dk_42 (dk_at dksX0_allClaims_0 1 rfl rfl)
theorem dX0_allClaims_2 : decode cX0_allClaims 2 = .ok (.invokevirtual 132, 3) := dk_182 0 132 (dk_at dksX0_allClaims_0 2 rfl rfl)
theorem dX0_allClaims_5 : decode cX0_allClaims 5 = .ok (.ishl, 1) := dk_120 (dk_at dksX0_allClaims_0 5 rfl rfl)
theorem dX0_allClaims_6 : decode cX0_allClaims 6 = .ok (.iconst 1, 1) := dk_4 (dk_at dksX0_allClaims_0 6 rfl rfl)
theorem dX0_allClaims_7 : decode cX0_allClaims 7 = .ok (.isub, 1) := dk_100 (dk_at dksX0_allClaims_0 7 rfl rfl)
theorem dX0_allClaims_8 : decode cX0_allClaims 8 = .ok (.ireturn, 1) := dk_172 (dk_at dksX0_allClaims_0 8 rfl rfl)
abbrev cX0_worldsOf : ByteArray := prog_1_method_23_code
def yX0_worldsOf : MethodName := ⟨RX0, "worldsOf", "(I)I"⟩
def dkwX0_worldsOf_1 : List UInt8 := [182, 0, 124, 180, 0, 142, 29, 46, 126, 61, 132, 3, 1, 167, 255, 225, 28, 172]
abbrev dktX0_worldsOf_1 : List UInt8 := dkwX0_worldsOf_1 ++ []
def dkwX0_worldsOf_0 : List UInt8 := [18, 137, 61, 3, 62, 29, 42, 182, 0, 132, 162, 0, 29, 27, 29, 184, 0, 138, 153, 0, 15, 28, 42]
abbrev dktX0_worldsOf_0 : List UInt8 := dkwX0_worldsOf_0 ++ dktX0_worldsOf_1
theorem dksX0_worldsOf_0 : cX0_worldsOf.data.toList.drop 0 = dktX0_worldsOf_0 := by decide +kernel
theorem dksX0_worldsOf_1 : cX0_worldsOf.data.toList.drop 23 = dktX0_worldsOf_1 := dk_seg dksX0_worldsOf_0 23 rfl rfl
theorem dX0_worldsOf_0 : decode cX0_worldsOf 0 = .ok (.ldc 137, 2) := dk_18 137 (dk_at dksX0_worldsOf_0 0 rfl rfl)
theorem dX0_worldsOf_2 : decode cX0_worldsOf 2 = .ok (.istore_n 2, 1) := dk_61 (dk_at dksX0_worldsOf_0 2 rfl rfl)
theorem dX0_worldsOf_3 : decode cX0_worldsOf 3 = .ok (.iconst 0, 1) := dk_3 (dk_at dksX0_worldsOf_0 3 rfl rfl)
theorem dX0_worldsOf_4 : decode cX0_worldsOf 4 = .ok (.istore_n 3, 1) := dk_62 (dk_at dksX0_worldsOf_0 4 rfl rfl)
theorem dX0_worldsOf_5 : decode cX0_worldsOf 5 = .ok (.iload_n 3, 1) := dk_29 (dk_at dksX0_worldsOf_0 5 rfl rfl)
theorem dX0_worldsOf_6 : decode cX0_worldsOf 6 = .ok (.aload_n 0, 1) := dk_42 (dk_at dksX0_worldsOf_0 6 rfl rfl)
theorem dX0_worldsOf_7 : decode cX0_worldsOf 7 = .ok (.invokevirtual 132, 3) := dk_182 0 132 (dk_at dksX0_worldsOf_0 7 rfl rfl)
theorem dX0_worldsOf_10 : decode cX0_worldsOf 10 = .ok (.if_icmp .ge 29, 3) := dk_162 0 29 (dk_at dksX0_worldsOf_0 10 rfl rfl)
theorem dX0_worldsOf_13 : decode cX0_worldsOf 13 = .ok (.iload_n 1, 1) := dk_27 (dk_at dksX0_worldsOf_0 13 rfl rfl)
theorem dX0_worldsOf_14 : decode cX0_worldsOf 14 = .ok (.iload_n 3, 1) := dk_29 (dk_at dksX0_worldsOf_0 14 rfl rfl)
theorem dX0_worldsOf_15 : decode cX0_worldsOf 15 = .ok (.invokestatic 138, 3) := dk_184 0 138 (dk_at dksX0_worldsOf_0 15 rfl rfl)
theorem dX0_worldsOf_18 : decode cX0_worldsOf 18 = .ok (.ifCond .eq 15, 3) := dk_153 0 15 (dk_at dksX0_worldsOf_0 18 rfl rfl)
theorem dX0_worldsOf_21 : decode cX0_worldsOf 21 = .ok (.iload_n 2, 1) := dk_28 (dk_at dksX0_worldsOf_0 21 rfl rfl)
theorem dX0_worldsOf_22 : decode cX0_worldsOf 22 = .ok (.aload_n 0, 1) := dk_42 (dk_at dksX0_worldsOf_0 22 rfl rfl)
theorem dX0_worldsOf_23 : decode cX0_worldsOf 23 = .ok (.invokevirtual 124, 3) := dk_182 0 124 (dk_at dksX0_worldsOf_1 0 rfl rfl)
theorem dX0_worldsOf_26 : decode cX0_worldsOf 26 = .ok (.getfield 142, 3) := dk_180 0 142 (dk_at dksX0_worldsOf_1 3 rfl rfl)
theorem dX0_worldsOf_29 : decode cX0_worldsOf 29 = .ok (.iload_n 3, 1) := dk_29 (dk_at dksX0_worldsOf_1 6 rfl rfl)
theorem dX0_worldsOf_30 : decode cX0_worldsOf 30 = .ok (.iaload, 1) := dk_46 (dk_at dksX0_worldsOf_1 7 rfl rfl)
theorem dX0_worldsOf_31 : decode cX0_worldsOf 31 = .ok (.iand, 1) := dk_126 (dk_at dksX0_worldsOf_1 8 rfl rfl)
theorem dX0_worldsOf_32 : decode cX0_worldsOf 32 = .ok (.istore_n 2, 1) := dk_61 (dk_at dksX0_worldsOf_1 9 rfl rfl)
theorem dX0_worldsOf_33 : decode cX0_worldsOf 33 = .ok (.iinc 3 1, 3) := dk_132 3 1 (dk_at dksX0_worldsOf_1 10 rfl rfl)
theorem dX0_worldsOf_36 : decode cX0_worldsOf 36 = .ok (.goto (-31), 3) := dk_167 255 225 (dk_at dksX0_worldsOf_1 13 rfl rfl)
theorem dX0_worldsOf_39 : decode cX0_worldsOf 39 = .ok (.iload_n 2, 1) := dk_28 (dk_at dksX0_worldsOf_1 16 rfl rfl)
theorem dX0_worldsOf_40 : decode cX0_worldsOf 40 = .ok (.ireturn, 1) := dk_172 (dk_at dksX0_worldsOf_1 17 rfl rfl)
abbrev cX0_bestOf : ByteArray := prog_1_method_30_code
def yX0_bestOf : MethodName := ⟨RX0, "bestOf", "([III)I"⟩
def dkwX0_bestOf_2 : List UInt8 := [182, 0, 184, 164, 0, 7, 21, 5, 54, 4, 132, 5, 1, 167, 255, 201, 21, 4, 172]
abbrev dktX0_bestOf_2 : List UInt8 := dkwX0_bestOf_2 ++ []
def dkwX0_bestOf_1 : List UInt8 := [159, 0, 30, 42, 42, 182, 0, 124, 43, 28, 21, 5, 182, 0, 184, 42, 42, 182, 0, 124, 43, 28, 21, 4]
abbrev dktX0_bestOf_1 : List UInt8 := dkwX0_bestOf_1 ++ dktX0_bestOf_2
def dkwX0_bestOf_0 : List UInt8 := [2, 54, 4, 3, 54, 5, 21, 5, 8, 162, 0, 55, 29, 21, 5, 184, 0, 138, 153, 0, 40, 21, 4, 2]
abbrev dktX0_bestOf_0 : List UInt8 := dkwX0_bestOf_0 ++ dktX0_bestOf_1
theorem dksX0_bestOf_0 : cX0_bestOf.data.toList.drop 0 = dktX0_bestOf_0 := by decide +kernel
theorem dksX0_bestOf_1 : cX0_bestOf.data.toList.drop 24 = dktX0_bestOf_1 := dk_seg dksX0_bestOf_0 24 rfl rfl
theorem dksX0_bestOf_2 : cX0_bestOf.data.toList.drop 48 = dktX0_bestOf_2 := dk_seg dksX0_bestOf_1 24 rfl rfl
theorem dX0_bestOf_0 : decode cX0_bestOf 0 = .ok (.iconst (-1), 1) := dk_2 (dk_at dksX0_bestOf_0 0 rfl rfl)
theorem dX0_bestOf_1 : decode cX0_bestOf 1 = .ok (.istore 4, 2) := dk_54 4 (dk_at dksX0_bestOf_0 1 rfl rfl)
theorem dX0_bestOf_3 : decode cX0_bestOf 3 = .ok (.iconst 0, 1) := dk_3 (dk_at dksX0_bestOf_0 3 rfl rfl)
theorem dX0_bestOf_4 : decode cX0_bestOf 4 = .ok (.istore 5, 2) := dk_54 5 (dk_at dksX0_bestOf_0 4 rfl rfl)
theorem dX0_bestOf_6 : decode cX0_bestOf 6 = .ok (.iload 5, 2) := dk_21 5 (dk_at dksX0_bestOf_0 6 rfl rfl)
theorem dX0_bestOf_8 : decode cX0_bestOf 8 = .ok (.iconst 5, 1) := dk_8 (dk_at dksX0_bestOf_0 8 rfl rfl)
theorem dX0_bestOf_9 : decode cX0_bestOf 9 = .ok (.if_icmp .ge 55, 3) := dk_162 0 55 (dk_at dksX0_bestOf_0 9 rfl rfl)
theorem dX0_bestOf_12 : decode cX0_bestOf 12 = .ok (.iload_n 3, 1) := dk_29 (dk_at dksX0_bestOf_0 12 rfl rfl)
theorem dX0_bestOf_13 : decode cX0_bestOf 13 = .ok (.iload 5, 2) := dk_21 5 (dk_at dksX0_bestOf_0 13 rfl rfl)
theorem dX0_bestOf_15 : decode cX0_bestOf 15 = .ok (.invokestatic 138, 3) := dk_184 0 138 (dk_at dksX0_bestOf_0 15 rfl rfl)
theorem dX0_bestOf_18 : decode cX0_bestOf 18 = .ok (.ifCond .eq 40, 3) := dk_153 0 40 (dk_at dksX0_bestOf_0 18 rfl rfl)
theorem dX0_bestOf_21 : decode cX0_bestOf 21 = .ok (.iload 4, 2) := dk_21 4 (dk_at dksX0_bestOf_0 21 rfl rfl)
theorem dX0_bestOf_23 : decode cX0_bestOf 23 = .ok (.iconst (-1), 1) := dk_2 (dk_at dksX0_bestOf_0 23 rfl rfl)
theorem dX0_bestOf_24 : decode cX0_bestOf 24 = .ok (.if_icmp .eq 30, 3) := dk_159 0 30 (dk_at dksX0_bestOf_1 0 rfl rfl)
theorem dX0_bestOf_27 : decode cX0_bestOf 27 = .ok (.aload_n 0, 1) := dk_42 (dk_at dksX0_bestOf_1 3 rfl rfl)
theorem dX0_bestOf_28 : decode cX0_bestOf 28 = .ok (.aload_n 0, 1) := dk_42 (dk_at dksX0_bestOf_1 4 rfl rfl)
theorem dX0_bestOf_29 : decode cX0_bestOf 29 = .ok (.invokevirtual 124, 3) := dk_182 0 124 (dk_at dksX0_bestOf_1 5 rfl rfl)
theorem dX0_bestOf_32 : decode cX0_bestOf 32 = .ok (.aload_n 1, 1) := dk_43 (dk_at dksX0_bestOf_1 8 rfl rfl)
theorem dX0_bestOf_33 : decode cX0_bestOf 33 = .ok (.iload_n 2, 1) := dk_28 (dk_at dksX0_bestOf_1 9 rfl rfl)
theorem dX0_bestOf_34 : decode cX0_bestOf 34 = .ok (.iload 5, 2) := dk_21 5 (dk_at dksX0_bestOf_1 10 rfl rfl)
theorem dX0_bestOf_36 : decode cX0_bestOf 36 = .ok (.invokevirtual 184, 3) := dk_182 0 184 (dk_at dksX0_bestOf_1 12 rfl rfl)
theorem dX0_bestOf_39 : decode cX0_bestOf 39 = .ok (.aload_n 0, 1) := dk_42 (dk_at dksX0_bestOf_1 15 rfl rfl)
theorem dX0_bestOf_40 : decode cX0_bestOf 40 = .ok (.aload_n 0, 1) := dk_42 (dk_at dksX0_bestOf_1 16 rfl rfl)
theorem dX0_bestOf_41 : decode cX0_bestOf 41 = .ok (.invokevirtual 124, 3) := dk_182 0 124 (dk_at dksX0_bestOf_1 17 rfl rfl)
theorem dX0_bestOf_44 : decode cX0_bestOf 44 = .ok (.aload_n 1, 1) := dk_43 (dk_at dksX0_bestOf_1 20 rfl rfl)
theorem dX0_bestOf_45 : decode cX0_bestOf 45 = .ok (.iload_n 2, 1) := dk_28 (dk_at dksX0_bestOf_1 21 rfl rfl)
theorem dX0_bestOf_46 : decode cX0_bestOf 46 = .ok (.iload 4, 2) := dk_21 4 (dk_at dksX0_bestOf_1 22 rfl rfl)
theorem dX0_bestOf_48 : decode cX0_bestOf 48 = .ok (.invokevirtual 184, 3) := dk_182 0 184 (dk_at dksX0_bestOf_2 0 rfl rfl)
theorem dX0_bestOf_51 : decode cX0_bestOf 51 = .ok (.if_icmp .le 7, 3) := dk_164 0 7 (dk_at dksX0_bestOf_2 3 rfl rfl)
theorem dX0_bestOf_54 : decode cX0_bestOf 54 = .ok (.iload 5, 2) := dk_21 5 (dk_at dksX0_bestOf_2 6 rfl rfl)
theorem dX0_bestOf_56 : decode cX0_bestOf 56 = .ok (.istore 4, 2) := dk_54 4 (dk_at dksX0_bestOf_2 8 rfl rfl)
theorem dX0_bestOf_58 : decode cX0_bestOf 58 = .ok (.iinc 5 1, 3) := dk_132 5 1 (dk_at dksX0_bestOf_2 10 rfl rfl)
theorem dX0_bestOf_61 : decode cX0_bestOf 61 = .ok (.goto (-55), 3) := dk_167 255 201 (dk_at dksX0_bestOf_2 13 rfl rfl)
theorem dX0_bestOf_64 : decode cX0_bestOf 64 = .ok (.iload 4, 2) := dk_21 4 (dk_at dksX0_bestOf_2 16 rfl rfl)
theorem dX0_bestOf_66 : decode cX0_bestOf 66 = .ok (.ireturn, 1) := dk_172 (dk_at dksX0_bestOf_2 18 rfl rfl)
abbrev cX0_worthBy : ByteArray := prog_1_method_26_code
def yX0_worthBy : MethodName := ⟨RX0, "worthBy", "(LSownByArgument$Text;[III)I"⟩
def dkwX0_worthBy_6 : List UInt8 := [180, 0, 39, 185, 0, 157, 2, 0, 16, 157, 16, 99, 184, 0, 163, 172]
abbrev dktX0_worthBy_6 : List UInt8 := dkwX0_worthBy_6 ++ []
def dkwX0_worthBy_5 : List UInt8 := [180, 0, 153, 199, 0, 14, 42, 180, 0, 39, 16, 9, 46, 133, 167, 0, 16, 43, 180, 0, 153, 42]
abbrev dktX0_worthBy_5 : List UInt8 := dkwX0_worthBy_5 ++ dktX0_worthBy_6
def dkwX0_worthBy_4 : List UInt8 := [180, 0, 39, 16, 10, 21, 6, 96, 21, 5, 21, 6, 122, 4, 126, 79, 132, 6, 1, 167, 255, 229, 43]
abbrev dktX0_worthBy_4 : List UInt8 := dkwX0_worthBy_4 ++ dktX0_worthBy_5
def dkwX0_worthBy_3 : List UInt8 := [50, 21, 4, 46, 79, 42, 44, 182, 0, 145, 54, 5, 3, 54, 6, 21, 6, 16, 8, 162, 0, 26, 42]
abbrev dktX0_worthBy_3 : List UInt8 := dkwX0_worthBy_3 ++ dktX0_worthBy_4
def dkwX0_worthBy_2 : List UInt8 := [42, 180, 0, 21, 180, 0, 77, 29, 46, 79, 42, 180, 0, 39, 16, 9, 42, 180, 0, 21, 180, 0, 87, 29]
abbrev dktX0_worthBy_2 : List UInt8 := dkwX0_worthBy_2 ++ dktX0_worthBy_3
def dkwX0_worthBy_1 : List UInt8 := [180, 0, 21, 180, 0, 84, 21, 4, 46, 79, 42, 180, 0, 39, 16, 7, 29, 79, 42, 180, 0, 39, 16, 8]
abbrev dktX0_worthBy_1 : List UInt8 := dkwX0_worthBy_1 ++ dktX0_worthBy_2
def dkwX0_worthBy_0 : List UInt8 := [42, 180, 0, 39, 7, 44, 3, 46, 79, 42, 180, 0, 39, 8, 21, 4, 79, 42, 180, 0, 39, 16, 6, 42]
abbrev dktX0_worthBy_0 : List UInt8 := dkwX0_worthBy_0 ++ dktX0_worthBy_1
theorem dksX0_worthBy_0 : cX0_worthBy.data.toList.drop 0 = dktX0_worthBy_0 := by decide +kernel
theorem dksX0_worthBy_1 : cX0_worthBy.data.toList.drop 24 = dktX0_worthBy_1 := dk_seg dksX0_worthBy_0 24 rfl rfl
theorem dksX0_worthBy_2 : cX0_worthBy.data.toList.drop 48 = dktX0_worthBy_2 := dk_seg dksX0_worthBy_1 24 rfl rfl
theorem dksX0_worthBy_3 : cX0_worthBy.data.toList.drop 72 = dktX0_worthBy_3 := dk_seg dksX0_worthBy_2 24 rfl rfl
theorem dksX0_worthBy_4 : cX0_worthBy.data.toList.drop 95 = dktX0_worthBy_4 := dk_seg dksX0_worthBy_3 23 rfl rfl
theorem dksX0_worthBy_5 : cX0_worthBy.data.toList.drop 118 = dktX0_worthBy_5 := dk_seg dksX0_worthBy_4 23 rfl rfl
theorem dksX0_worthBy_6 : cX0_worthBy.data.toList.drop 140 = dktX0_worthBy_6 := dk_seg dksX0_worthBy_5 22 rfl rfl
theorem dX0_worthBy_0 : decode cX0_worthBy 0 = .ok (.aload_n 0, 1) := dk_42 (dk_at dksX0_worthBy_0 0 rfl rfl)
theorem dX0_worthBy_1 : decode cX0_worthBy 1 = .ok (.getfield 39, 3) := dk_180 0 39 (dk_at dksX0_worthBy_0 1 rfl rfl)
theorem dX0_worthBy_4 : decode cX0_worthBy 4 = .ok (.iconst 4, 1) := dk_7 (dk_at dksX0_worthBy_0 4 rfl rfl)
theorem dX0_worthBy_5 : decode cX0_worthBy 5 = .ok (.aload_n 2, 1) := dk_44 (dk_at dksX0_worthBy_0 5 rfl rfl)
theorem dX0_worthBy_6 : decode cX0_worthBy 6 = .ok (.iconst 0, 1) := dk_3 (dk_at dksX0_worthBy_0 6 rfl rfl)
theorem dX0_worthBy_7 : decode cX0_worthBy 7 = .ok (.iaload, 1) := dk_46 (dk_at dksX0_worthBy_0 7 rfl rfl)
theorem dX0_worthBy_8 : decode cX0_worthBy 8 = .ok (.iastore, 1) := dk_79 (dk_at dksX0_worthBy_0 8 rfl rfl)
theorem dX0_worthBy_9 : decode cX0_worthBy 9 = .ok (.aload_n 0, 1) := dk_42 (dk_at dksX0_worthBy_0 9 rfl rfl)
theorem dX0_worthBy_10 : decode cX0_worthBy 10 = .ok (.getfield 39, 3) := dk_180 0 39 (dk_at dksX0_worthBy_0 10 rfl rfl)
theorem dX0_worthBy_13 : decode cX0_worthBy 13 = .ok (.iconst 5, 1) := dk_8 (dk_at dksX0_worthBy_0 13 rfl rfl)
theorem dX0_worthBy_14 : decode cX0_worthBy 14 = .ok (.iload 4, 2) := dk_21 4 (dk_at dksX0_worthBy_0 14 rfl rfl)
theorem dX0_worthBy_16 : decode cX0_worthBy 16 = .ok (.iastore, 1) := dk_79 (dk_at dksX0_worthBy_0 16 rfl rfl)
theorem dX0_worthBy_17 : decode cX0_worthBy 17 = .ok (.aload_n 0, 1) := dk_42 (dk_at dksX0_worthBy_0 17 rfl rfl)
theorem dX0_worthBy_18 : decode cX0_worthBy 18 = .ok (.getfield 39, 3) := dk_180 0 39 (dk_at dksX0_worthBy_0 18 rfl rfl)
theorem dX0_worthBy_21 : decode cX0_worthBy 21 = .ok (.bipush 6, 2) := dk_16 6 (dk_at dksX0_worthBy_0 21 rfl rfl)
theorem dX0_worthBy_23 : decode cX0_worthBy 23 = .ok (.aload_n 0, 1) := dk_42 (dk_at dksX0_worthBy_0 23 rfl rfl)
theorem dX0_worthBy_24 : decode cX0_worthBy 24 = .ok (.getfield 21, 3) := dk_180 0 21 (dk_at dksX0_worthBy_1 0 rfl rfl)
theorem dX0_worthBy_27 : decode cX0_worthBy 27 = .ok (.getfield 84, 3) := dk_180 0 84 (dk_at dksX0_worthBy_1 3 rfl rfl)
theorem dX0_worthBy_30 : decode cX0_worthBy 30 = .ok (.iload 4, 2) := dk_21 4 (dk_at dksX0_worthBy_1 6 rfl rfl)
theorem dX0_worthBy_32 : decode cX0_worthBy 32 = .ok (.iaload, 1) := dk_46 (dk_at dksX0_worthBy_1 8 rfl rfl)
theorem dX0_worthBy_33 : decode cX0_worthBy 33 = .ok (.iastore, 1) := dk_79 (dk_at dksX0_worthBy_1 9 rfl rfl)
theorem dX0_worthBy_34 : decode cX0_worthBy 34 = .ok (.aload_n 0, 1) := dk_42 (dk_at dksX0_worthBy_1 10 rfl rfl)
theorem dX0_worthBy_35 : decode cX0_worthBy 35 = .ok (.getfield 39, 3) := dk_180 0 39 (dk_at dksX0_worthBy_1 11 rfl rfl)
theorem dX0_worthBy_38 : decode cX0_worthBy 38 = .ok (.bipush 7, 2) := dk_16 7 (dk_at dksX0_worthBy_1 14 rfl rfl)
theorem dX0_worthBy_40 : decode cX0_worthBy 40 = .ok (.iload_n 3, 1) := dk_29 (dk_at dksX0_worthBy_1 16 rfl rfl)
theorem dX0_worthBy_41 : decode cX0_worthBy 41 = .ok (.iastore, 1) := dk_79 (dk_at dksX0_worthBy_1 17 rfl rfl)
theorem dX0_worthBy_42 : decode cX0_worthBy 42 = .ok (.aload_n 0, 1) := dk_42 (dk_at dksX0_worthBy_1 18 rfl rfl)
theorem dX0_worthBy_43 : decode cX0_worthBy 43 = .ok (.getfield 39, 3) := dk_180 0 39 (dk_at dksX0_worthBy_1 19 rfl rfl)
theorem dX0_worthBy_46 : decode cX0_worthBy 46 = .ok (.bipush 8, 2) := dk_16 8 (dk_at dksX0_worthBy_1 22 rfl rfl)
theorem dX0_worthBy_48 : decode cX0_worthBy 48 = .ok (.aload_n 0, 1) := dk_42 (dk_at dksX0_worthBy_2 0 rfl rfl)
theorem dX0_worthBy_49 : decode cX0_worthBy 49 = .ok (.getfield 21, 3) := dk_180 0 21 (dk_at dksX0_worthBy_2 1 rfl rfl)
theorem dX0_worthBy_52 : decode cX0_worthBy 52 = .ok (.getfield 77, 3) := dk_180 0 77 (dk_at dksX0_worthBy_2 4 rfl rfl)
theorem dX0_worthBy_55 : decode cX0_worthBy 55 = .ok (.iload_n 3, 1) := dk_29 (dk_at dksX0_worthBy_2 7 rfl rfl)
theorem dX0_worthBy_56 : decode cX0_worthBy 56 = .ok (.iaload, 1) := dk_46 (dk_at dksX0_worthBy_2 8 rfl rfl)
theorem dX0_worthBy_57 : decode cX0_worthBy 57 = .ok (.iastore, 1) := dk_79 (dk_at dksX0_worthBy_2 9 rfl rfl)
theorem dX0_worthBy_58 : decode cX0_worthBy 58 = .ok (.aload_n 0, 1) := dk_42 (dk_at dksX0_worthBy_2 10 rfl rfl)
theorem dX0_worthBy_59 : decode cX0_worthBy 59 = .ok (.getfield 39, 3) := dk_180 0 39 (dk_at dksX0_worthBy_2 11 rfl rfl)
theorem dX0_worthBy_62 : decode cX0_worthBy 62 = .ok (.bipush 9, 2) := dk_16 9 (dk_at dksX0_worthBy_2 14 rfl rfl)
theorem dX0_worthBy_64 : decode cX0_worthBy 64 = .ok (.aload_n 0, 1) := dk_42 (dk_at dksX0_worthBy_2 16 rfl rfl)
theorem dX0_worthBy_65 : decode cX0_worthBy 65 = .ok (.getfield 21, 3) := dk_180 0 21 (dk_at dksX0_worthBy_2 17 rfl rfl)
theorem dX0_worthBy_68 : decode cX0_worthBy 68 = .ok (.getfield 87, 3) := dk_180 0 87 (dk_at dksX0_worthBy_2 20 rfl rfl)
theorem dX0_worthBy_71 : decode cX0_worthBy 71 = .ok (.iload_n 3, 1) := dk_29 (dk_at dksX0_worthBy_2 23 rfl rfl)
theorem dX0_worthBy_72 : decode cX0_worthBy 72 = .ok (.aaload, 1) := dk_50 (dk_at dksX0_worthBy_3 0 rfl rfl)
theorem dX0_worthBy_73 : decode cX0_worthBy 73 = .ok (.iload 4, 2) := dk_21 4 (dk_at dksX0_worthBy_3 1 rfl rfl)
theorem dX0_worthBy_75 : decode cX0_worthBy 75 = .ok (.iaload, 1) := dk_46 (dk_at dksX0_worthBy_3 3 rfl rfl)
theorem dX0_worthBy_76 : decode cX0_worthBy 76 = .ok (.iastore, 1) := dk_79 (dk_at dksX0_worthBy_3 4 rfl rfl)
theorem dX0_worthBy_77 : decode cX0_worthBy 77 = .ok (.aload_n 0, 1) := dk_42 (dk_at dksX0_worthBy_3 5 rfl rfl)
theorem dX0_worthBy_78 : decode cX0_worthBy 78 = .ok (.aload_n 2, 1) := dk_44 (dk_at dksX0_worthBy_3 6 rfl rfl)
theorem dX0_worthBy_79 : decode cX0_worthBy 79 = .ok (.invokevirtual 145, 3) := dk_182 0 145 (dk_at dksX0_worthBy_3 7 rfl rfl)
theorem dX0_worthBy_82 : decode cX0_worthBy 82 = .ok (.istore 5, 2) := dk_54 5 (dk_at dksX0_worthBy_3 10 rfl rfl)
theorem dX0_worthBy_84 : decode cX0_worthBy 84 = .ok (.iconst 0, 1) := dk_3 (dk_at dksX0_worthBy_3 12 rfl rfl)
theorem dX0_worthBy_85 : decode cX0_worthBy 85 = .ok (.istore 6, 2) := dk_54 6 (dk_at dksX0_worthBy_3 13 rfl rfl)
theorem dX0_worthBy_87 : decode cX0_worthBy 87 = .ok (.iload 6, 2) := dk_21 6 (dk_at dksX0_worthBy_3 15 rfl rfl)
theorem dX0_worthBy_89 : decode cX0_worthBy 89 = .ok (.bipush 8, 2) := dk_16 8 (dk_at dksX0_worthBy_3 17 rfl rfl)
theorem dX0_worthBy_91 : decode cX0_worthBy 91 = .ok (.if_icmp .ge 26, 3) := dk_162 0 26 (dk_at dksX0_worthBy_3 19 rfl rfl)
theorem dX0_worthBy_94 : decode cX0_worthBy 94 = .ok (.aload_n 0, 1) := dk_42 (dk_at dksX0_worthBy_3 22 rfl rfl)
theorem dX0_worthBy_95 : decode cX0_worthBy 95 = .ok (.getfield 39, 3) := dk_180 0 39 (dk_at dksX0_worthBy_4 0 rfl rfl)
theorem dX0_worthBy_98 : decode cX0_worthBy 98 = .ok (.bipush 10, 2) := dk_16 10 (dk_at dksX0_worthBy_4 3 rfl rfl)
theorem dX0_worthBy_100 : decode cX0_worthBy 100 = .ok (.iload 6, 2) := dk_21 6 (dk_at dksX0_worthBy_4 5 rfl rfl)
theorem dX0_worthBy_102 : decode cX0_worthBy 102 = .ok (.iadd, 1) := dk_96 (dk_at dksX0_worthBy_4 7 rfl rfl)
theorem dX0_worthBy_103 : decode cX0_worthBy 103 = .ok (.iload 5, 2) := dk_21 5 (dk_at dksX0_worthBy_4 8 rfl rfl)
theorem dX0_worthBy_105 : decode cX0_worthBy 105 = .ok (.iload 6, 2) := dk_21 6 (dk_at dksX0_worthBy_4 10 rfl rfl)
theorem dX0_worthBy_107 : decode cX0_worthBy 107 = .ok (.ishr, 1) := dk_122 (dk_at dksX0_worthBy_4 12 rfl rfl)
theorem dX0_worthBy_108 : decode cX0_worthBy 108 = .ok (.iconst 1, 1) := dk_4 (dk_at dksX0_worthBy_4 13 rfl rfl)
theorem dX0_worthBy_109 : decode cX0_worthBy 109 = .ok (.iand, 1) := dk_126 (dk_at dksX0_worthBy_4 14 rfl rfl)
theorem dX0_worthBy_110 : decode cX0_worthBy 110 = .ok (.iastore, 1) := dk_79 (dk_at dksX0_worthBy_4 15 rfl rfl)
theorem dX0_worthBy_111 : decode cX0_worthBy 111 = .ok (.iinc 6 1, 3) := dk_132 6 1 (dk_at dksX0_worthBy_4 16 rfl rfl)
theorem dX0_worthBy_114 : decode cX0_worthBy 114 = .ok (.goto (-27), 3) := dk_167 255 229 (dk_at dksX0_worthBy_4 19 rfl rfl)
theorem dX0_worthBy_117 : decode cX0_worthBy 117 = .ok (.aload_n 1, 1) := dk_43 (dk_at dksX0_worthBy_4 22 rfl rfl)
theorem dX0_worthBy_118 : decode cX0_worthBy 118 = .ok (.getfield 153, 3) := dk_180 0 153 (dk_at dksX0_worthBy_5 0 rfl rfl)
theorem dX0_worthBy_121 : decode cX0_worthBy 121 = .ok (.ifnonnull 14, 3) := dk_199 0 14 (dk_at dksX0_worthBy_5 3 rfl rfl)
theorem dX0_worthBy_124 : decode cX0_worthBy 124 = .ok (.aload_n 0, 1) := dk_42 (dk_at dksX0_worthBy_5 6 rfl rfl)
theorem dX0_worthBy_125 : decode cX0_worthBy 125 = .ok (.getfield 39, 3) := dk_180 0 39 (dk_at dksX0_worthBy_5 7 rfl rfl)
theorem dX0_worthBy_128 : decode cX0_worthBy 128 = .ok (.bipush 9, 2) := dk_16 9 (dk_at dksX0_worthBy_5 10 rfl rfl)
theorem dX0_worthBy_130 : decode cX0_worthBy 130 = .ok (.iaload, 1) := dk_46 (dk_at dksX0_worthBy_5 12 rfl rfl)
theorem dX0_worthBy_131 : decode cX0_worthBy 131 = .ok (.i2l, 1) := dk_133 (dk_at dksX0_worthBy_5 13 rfl rfl)
theorem dX0_worthBy_132 : decode cX0_worthBy 132 = .ok (.goto 16, 3) := dk_167 0 16 (dk_at dksX0_worthBy_5 14 rfl rfl)
theorem dX0_worthBy_135 : decode cX0_worthBy 135 = .ok (.aload_n 1, 1) := dk_43 (dk_at dksX0_worthBy_5 17 rfl rfl)
theorem dX0_worthBy_136 : decode cX0_worthBy 136 = .ok (.getfield 153, 3) := dk_180 0 153 (dk_at dksX0_worthBy_5 18 rfl rfl)
theorem dX0_worthBy_139 : decode cX0_worthBy 139 = .ok (.aload_n 0, 1) := dk_42 (dk_at dksX0_worthBy_5 21 rfl rfl)
theorem dX0_worthBy_140 : decode cX0_worthBy 140 = .ok (.getfield 39, 3) := dk_180 0 39 (dk_at dksX0_worthBy_6 0 rfl rfl)
theorem dX0_worthBy_143 : decode cX0_worthBy 143 = .ok (.invokeinterface 157 2, 5) := by decide +kernel
theorem dX0_worthBy_148 : decode cX0_worthBy 148 = .ok (.bipush (-99), 2) := dk_16 157 (dk_at dksX0_worthBy_6 8 rfl rfl)
theorem dX0_worthBy_150 : decode cX0_worthBy 150 = .ok (.bipush 99, 2) := dk_16 99 (dk_at dksX0_worthBy_6 10 rfl rfl)
theorem dX0_worthBy_152 : decode cX0_worthBy 152 = .ok (.invokestatic 163, 3) := dk_184 0 163 (dk_at dksX0_worthBy_6 12 rfl rfl)
theorem dX0_worthBy_155 : decode cX0_worthBy 155 = .ok (.ireturn, 1) := dk_172 (dk_at dksX0_worthBy_6 15 rfl rfl)
abbrev cX0_held : ByteArray := prog_1_method_3_code
def yX0_held : MethodName := ⟨RX0, "held", "(JII)I"⟩
def dkwX0_held_0 : List UInt8 := [28, 133, 29, 133, 30, 184, 0, 3, 184, 0, 9, 136, 172]
abbrev dktX0_held_0 : List UInt8 := dkwX0_held_0 ++ []
theorem dksX0_held_0 : cX0_held.data.toList.drop 0 = dktX0_held_0 := by decide +kernel
theorem dX0_held_0 : decode cX0_held 0 = .ok (.iload_n 2, 1) := dk_28 (dk_at dksX0_held_0 0 rfl rfl)
theorem dX0_held_1 : decode cX0_held 1 = .ok (.i2l, 1) := dk_133 (dk_at dksX0_held_0 1 rfl rfl)
theorem dX0_held_2 : decode cX0_held 2 = .ok (.iload_n 3, 1) := dk_29 (dk_at dksX0_held_0 2 rfl rfl)
theorem dX0_held_3 : decode cX0_held 3 = .ok (.i2l, 1) := dk_133 (dk_at dksX0_held_0 3 rfl rfl)
theorem dX0_held_4 : decode cX0_held 4 = .ok (.lload_n 0, 1) := dk_30 (dk_at dksX0_held_0 4 rfl rfl)
theorem dX0_held_5 : decode cX0_held 5 = .ok (.invokestatic 3, 3) := dk_184 0 3 (dk_at dksX0_held_0 5 rfl rfl)
theorem dX0_held_8 : decode cX0_held 8 = .ok (.invokestatic 9, 3) := dk_184 0 9 (dk_at dksX0_held_0 8 rfl rfl)
theorem dX0_held_11 : decode cX0_held 11 = .ok (.l2i, 1) := dk_136 (dk_at dksX0_held_0 11 rfl rfl)
theorem dX0_held_12 : decode cX0_held 12 = .ok (.ireturn, 1) := dk_172 (dk_at dksX0_held_0 12 rfl rfl)
abbrev cX0_writes : ByteArray := prog_1_method_28_code
def yX0_writes : MethodName := ⟨RX0, "writes", "([IIIZ)V"⟩
def dkwX0_writes_4 : List UInt8 := [177]
abbrev dktX0_writes_4 : List UInt8 := dkwX0_writes_4 ++ []
def dkwX0_writes_3 : List UInt8 := [79, 42, 21, 4, 7, 96, 29, 153, 0, 7, 4, 167, 0, 4, 3, 79, 42, 16, 21, 92, 46, 4, 96, 79]
abbrev dktX0_writes_3 : List UInt8 := dkwX0_writes_3 ++ dktX0_writes_4
def dkwX0_writes_2 : List UInt8 := [21, 4, 4, 96, 27, 79, 42, 21, 4, 5, 96, 28, 79, 42, 21, 4, 6, 96, 42, 16, 11, 27, 96, 46]
abbrev dktX0_writes_2 : List UInt8 := dkwX0_writes_2 ++ dktX0_writes_3
def dkwX0_writes_1 : List UInt8 := [46, 4, 100, 79, 16, 22, 8, 42, 16, 21, 46, 104, 96, 54, 4, 42, 21, 4, 42, 3, 46, 79, 42]
abbrev dktX0_writes_1 : List UInt8 := dkwX0_writes_1 ++ dktX0_writes_2
def dkwX0_writes_0 : List UInt8 := [42, 16, 21, 46, 16, 20, 160, 0, 22, 42, 16, 27, 42, 16, 22, 16, 95, 184, 0, 167, 42, 16, 21, 92]
abbrev dktX0_writes_0 : List UInt8 := dkwX0_writes_0 ++ dktX0_writes_1
theorem dksX0_writes_0 : cX0_writes.data.toList.drop 0 = dktX0_writes_0 := by decide +kernel
theorem dksX0_writes_1 : cX0_writes.data.toList.drop 24 = dktX0_writes_1 := dk_seg dksX0_writes_0 24 rfl rfl
theorem dksX0_writes_2 : cX0_writes.data.toList.drop 47 = dktX0_writes_2 := dk_seg dksX0_writes_1 23 rfl rfl
theorem dksX0_writes_3 : cX0_writes.data.toList.drop 71 = dktX0_writes_3 := dk_seg dksX0_writes_2 24 rfl rfl
theorem dksX0_writes_4 : cX0_writes.data.toList.drop 95 = dktX0_writes_4 := dk_seg dksX0_writes_3 24 rfl rfl
theorem dX0_writes_0 : decode cX0_writes 0 = .ok (.aload_n 0, 1) := dk_42 (dk_at dksX0_writes_0 0 rfl rfl)
theorem dX0_writes_1 : decode cX0_writes 1 = .ok (.bipush 21, 2) := dk_16 21 (dk_at dksX0_writes_0 1 rfl rfl)
theorem dX0_writes_3 : decode cX0_writes 3 = .ok (.iaload, 1) := dk_46 (dk_at dksX0_writes_0 3 rfl rfl)
theorem dX0_writes_4 : decode cX0_writes 4 = .ok (.bipush 20, 2) := dk_16 20 (dk_at dksX0_writes_0 4 rfl rfl)
theorem dX0_writes_6 : decode cX0_writes 6 = .ok (.if_icmp .ne 22, 3) := dk_160 0 22 (dk_at dksX0_writes_0 6 rfl rfl)
theorem dX0_writes_9 : decode cX0_writes 9 = .ok (.aload_n 0, 1) := dk_42 (dk_at dksX0_writes_0 9 rfl rfl)
theorem dX0_writes_10 : decode cX0_writes 10 = .ok (.bipush 27, 2) := dk_16 27 (dk_at dksX0_writes_0 10 rfl rfl)
theorem dX0_writes_12 : decode cX0_writes 12 = .ok (.aload_n 0, 1) := dk_42 (dk_at dksX0_writes_0 12 rfl rfl)
theorem dX0_writes_13 : decode cX0_writes 13 = .ok (.bipush 22, 2) := dk_16 22 (dk_at dksX0_writes_0 13 rfl rfl)
theorem dX0_writes_15 : decode cX0_writes 15 = .ok (.bipush 95, 2) := dk_16 95 (dk_at dksX0_writes_0 15 rfl rfl)
theorem dX0_writes_17 : decode cX0_writes 17 = .ok (.invokestatic 167, 3) := dk_184 0 167 (dk_at dksX0_writes_0 17 rfl rfl)
theorem dX0_writes_20 : decode cX0_writes 20 = .ok (.aload_n 0, 1) := dk_42 (dk_at dksX0_writes_0 20 rfl rfl)
theorem dX0_writes_21 : decode cX0_writes 21 = .ok (.bipush 21, 2) := dk_16 21 (dk_at dksX0_writes_0 21 rfl rfl)
theorem dX0_writes_23 : decode cX0_writes 23 = .ok (.dup2, 1) := dk_92 (dk_at dksX0_writes_0 23 rfl rfl)
theorem dX0_writes_24 : decode cX0_writes 24 = .ok (.iaload, 1) := dk_46 (dk_at dksX0_writes_1 0 rfl rfl)
theorem dX0_writes_25 : decode cX0_writes 25 = .ok (.iconst 1, 1) := dk_4 (dk_at dksX0_writes_1 1 rfl rfl)
theorem dX0_writes_26 : decode cX0_writes 26 = .ok (.isub, 1) := dk_100 (dk_at dksX0_writes_1 2 rfl rfl)
theorem dX0_writes_27 : decode cX0_writes 27 = .ok (.iastore, 1) := dk_79 (dk_at dksX0_writes_1 3 rfl rfl)
theorem dX0_writes_28 : decode cX0_writes 28 = .ok (.bipush 22, 2) := dk_16 22 (dk_at dksX0_writes_1 4 rfl rfl)
theorem dX0_writes_30 : decode cX0_writes 30 = .ok (.iconst 5, 1) := dk_8 (dk_at dksX0_writes_1 6 rfl rfl)
theorem dX0_writes_31 : decode cX0_writes 31 = .ok (.aload_n 0, 1) := dk_42 (dk_at dksX0_writes_1 7 rfl rfl)
theorem dX0_writes_32 : decode cX0_writes 32 = .ok (.bipush 21, 2) := dk_16 21 (dk_at dksX0_writes_1 8 rfl rfl)
theorem dX0_writes_34 : decode cX0_writes 34 = .ok (.iaload, 1) := dk_46 (dk_at dksX0_writes_1 10 rfl rfl)
theorem dX0_writes_35 : decode cX0_writes 35 = .ok (.imul, 1) := dk_104 (dk_at dksX0_writes_1 11 rfl rfl)
theorem dX0_writes_36 : decode cX0_writes 36 = .ok (.iadd, 1) := dk_96 (dk_at dksX0_writes_1 12 rfl rfl)
theorem dX0_writes_37 : decode cX0_writes 37 = .ok (.istore 4, 2) := dk_54 4 (dk_at dksX0_writes_1 13 rfl rfl)
theorem dX0_writes_39 : decode cX0_writes 39 = .ok (.aload_n 0, 1) := dk_42 (dk_at dksX0_writes_1 15 rfl rfl)
theorem dX0_writes_40 : decode cX0_writes 40 = .ok (.iload 4, 2) := dk_21 4 (dk_at dksX0_writes_1 16 rfl rfl)
theorem dX0_writes_42 : decode cX0_writes 42 = .ok (.aload_n 0, 1) := dk_42 (dk_at dksX0_writes_1 18 rfl rfl)
theorem dX0_writes_43 : decode cX0_writes 43 = .ok (.iconst 0, 1) := dk_3 (dk_at dksX0_writes_1 19 rfl rfl)
theorem dX0_writes_44 : decode cX0_writes 44 = .ok (.iaload, 1) := dk_46 (dk_at dksX0_writes_1 20 rfl rfl)
theorem dX0_writes_45 : decode cX0_writes 45 = .ok (.iastore, 1) := dk_79 (dk_at dksX0_writes_1 21 rfl rfl)
theorem dX0_writes_46 : decode cX0_writes 46 = .ok (.aload_n 0, 1) := dk_42 (dk_at dksX0_writes_1 22 rfl rfl)
theorem dX0_writes_47 : decode cX0_writes 47 = .ok (.iload 4, 2) := dk_21 4 (dk_at dksX0_writes_2 0 rfl rfl)
theorem dX0_writes_49 : decode cX0_writes 49 = .ok (.iconst 1, 1) := dk_4 (dk_at dksX0_writes_2 2 rfl rfl)
theorem dX0_writes_50 : decode cX0_writes 50 = .ok (.iadd, 1) := dk_96 (dk_at dksX0_writes_2 3 rfl rfl)
theorem dX0_writes_51 : decode cX0_writes 51 = .ok (.iload_n 1, 1) := dk_27 (dk_at dksX0_writes_2 4 rfl rfl)
theorem dX0_writes_52 : decode cX0_writes 52 = .ok (.iastore, 1) := dk_79 (dk_at dksX0_writes_2 5 rfl rfl)
theorem dX0_writes_53 : decode cX0_writes 53 = .ok (.aload_n 0, 1) := dk_42 (dk_at dksX0_writes_2 6 rfl rfl)
theorem dX0_writes_54 : decode cX0_writes 54 = .ok (.iload 4, 2) := dk_21 4 (dk_at dksX0_writes_2 7 rfl rfl)
theorem dX0_writes_56 : decode cX0_writes 56 = .ok (.iconst 2, 1) := dk_5 (dk_at dksX0_writes_2 9 rfl rfl)
theorem dX0_writes_57 : decode cX0_writes 57 = .ok (.iadd, 1) := dk_96 (dk_at dksX0_writes_2 10 rfl rfl)
theorem dX0_writes_58 : decode cX0_writes 58 = .ok (.iload_n 2, 1) := dk_28 (dk_at dksX0_writes_2 11 rfl rfl)
theorem dX0_writes_59 : decode cX0_writes 59 = .ok (.iastore, 1) := dk_79 (dk_at dksX0_writes_2 12 rfl rfl)
theorem dX0_writes_60 : decode cX0_writes 60 = .ok (.aload_n 0, 1) := dk_42 (dk_at dksX0_writes_2 13 rfl rfl)
theorem dX0_writes_61 : decode cX0_writes 61 = .ok (.iload 4, 2) := dk_21 4 (dk_at dksX0_writes_2 14 rfl rfl)
theorem dX0_writes_63 : decode cX0_writes 63 = .ok (.iconst 3, 1) := dk_6 (dk_at dksX0_writes_2 16 rfl rfl)
theorem dX0_writes_64 : decode cX0_writes 64 = .ok (.iadd, 1) := dk_96 (dk_at dksX0_writes_2 17 rfl rfl)
theorem dX0_writes_65 : decode cX0_writes 65 = .ok (.aload_n 0, 1) := dk_42 (dk_at dksX0_writes_2 18 rfl rfl)
theorem dX0_writes_66 : decode cX0_writes 66 = .ok (.bipush 11, 2) := dk_16 11 (dk_at dksX0_writes_2 19 rfl rfl)
theorem dX0_writes_68 : decode cX0_writes 68 = .ok (.iload_n 1, 1) := dk_27 (dk_at dksX0_writes_2 21 rfl rfl)
theorem dX0_writes_69 : decode cX0_writes 69 = .ok (.iadd, 1) := dk_96 (dk_at dksX0_writes_2 22 rfl rfl)
theorem dX0_writes_70 : decode cX0_writes 70 = .ok (.iaload, 1) := dk_46 (dk_at dksX0_writes_2 23 rfl rfl)
theorem dX0_writes_71 : decode cX0_writes 71 = .ok (.iastore, 1) := dk_79 (dk_at dksX0_writes_3 0 rfl rfl)
theorem dX0_writes_72 : decode cX0_writes 72 = .ok (.aload_n 0, 1) := dk_42 (dk_at dksX0_writes_3 1 rfl rfl)
theorem dX0_writes_73 : decode cX0_writes 73 = .ok (.iload 4, 2) := dk_21 4 (dk_at dksX0_writes_3 2 rfl rfl)
theorem dX0_writes_75 : decode cX0_writes 75 = .ok (.iconst 4, 1) := dk_7 (dk_at dksX0_writes_3 4 rfl rfl)
theorem dX0_writes_76 : decode cX0_writes 76 = .ok (.iadd, 1) := dk_96 (dk_at dksX0_writes_3 5 rfl rfl)
theorem dX0_writes_77 : decode cX0_writes 77 = .ok (.iload_n 3, 1) := dk_29 (dk_at dksX0_writes_3 6 rfl rfl)
theorem dX0_writes_78 : decode cX0_writes 78 = .ok (.ifCond .eq 7, 3) := dk_153 0 7 (dk_at dksX0_writes_3 7 rfl rfl)
theorem dX0_writes_81 : decode cX0_writes 81 = .ok (.iconst 1, 1) := dk_4 (dk_at dksX0_writes_3 10 rfl rfl)
theorem dX0_writes_82 : decode cX0_writes 82 = .ok (.goto 4, 3) := dk_167 0 4 (dk_at dksX0_writes_3 11 rfl rfl)
theorem dX0_writes_85 : decode cX0_writes 85 = .ok (.iconst 0, 1) := dk_3 (dk_at dksX0_writes_3 14 rfl rfl)
theorem dX0_writes_86 : decode cX0_writes 86 = .ok (.iastore, 1) := dk_79 (dk_at dksX0_writes_3 15 rfl rfl)
theorem dX0_writes_87 : decode cX0_writes 87 = .ok (.aload_n 0, 1) := dk_42 (dk_at dksX0_writes_3 16 rfl rfl)
theorem dX0_writes_88 : decode cX0_writes 88 = .ok (.bipush 21, 2) := dk_16 21 (dk_at dksX0_writes_3 17 rfl rfl)
theorem dX0_writes_90 : decode cX0_writes 90 = .ok (.dup2, 1) := dk_92 (dk_at dksX0_writes_3 19 rfl rfl)
theorem dX0_writes_91 : decode cX0_writes 91 = .ok (.iaload, 1) := dk_46 (dk_at dksX0_writes_3 20 rfl rfl)
theorem dX0_writes_92 : decode cX0_writes 92 = .ok (.iconst 1, 1) := dk_4 (dk_at dksX0_writes_3 21 rfl rfl)
theorem dX0_writes_93 : decode cX0_writes 93 = .ok (.iadd, 1) := dk_96 (dk_at dksX0_writes_3 22 rfl rfl)
theorem dX0_writes_94 : decode cX0_writes 94 = .ok (.iastore, 1) := dk_79 (dk_at dksX0_writes_3 23 rfl rfl)
theorem dX0_writes_95 : decode cX0_writes 95 = .ok (.return_, 1) := dk_177 (dk_at dksX0_writes_4 0 rfl rfl)
abbrev cX0_say : ByteArray := prog_1_method_36_code
def yX0_say : MethodName := ⟨RX0, "say", "(I)Z"⟩
def dkwX0_say_1 : List UInt8 := [5, 92, 46, 4, 27, 120, 128, 79, 4, 172]
abbrev dktX0_say_1 : List UInt8 := dkwX0_say_1 ++ []
def dkwX0_say_0 : List UInt8 := [42, 27, 182, 0, 216, 154, 0, 5, 3, 172, 42, 180, 0, 21, 182, 0, 202, 42, 180, 0, 21, 180, 0, 199]
abbrev dktX0_say_0 : List UInt8 := dkwX0_say_0 ++ dktX0_say_1
theorem dksX0_say_0 : cX0_say.data.toList.drop 0 = dktX0_say_0 := by decide +kernel
theorem dksX0_say_1 : cX0_say.data.toList.drop 24 = dktX0_say_1 := dk_seg dksX0_say_0 24 rfl rfl
theorem dX0_say_0 : decode cX0_say 0 = .ok (.aload_n 0, 1) := dk_42 (dk_at dksX0_say_0 0 rfl rfl)
theorem dX0_say_1 : decode cX0_say 1 = .ok (.iload_n 1, 1) := dk_27 (dk_at dksX0_say_0 1 rfl rfl)
theorem dX0_say_2 : decode cX0_say 2 = .ok (.invokevirtual 216, 3) := dk_182 0 216 (dk_at dksX0_say_0 2 rfl rfl)
theorem dX0_say_5 : decode cX0_say 5 = .ok (.ifCond .ne 5, 3) := dk_154 0 5 (dk_at dksX0_say_0 5 rfl rfl)
theorem dX0_say_8 : decode cX0_say 8 = .ok (.iconst 0, 1) := dk_3 (dk_at dksX0_say_0 8 rfl rfl)
theorem dX0_say_9 : decode cX0_say 9 = .ok (.ireturn, 1) := dk_172 (dk_at dksX0_say_0 9 rfl rfl)
theorem dX0_say_10 : decode cX0_say 10 = .ok (.aload_n 0, 1) := dk_42 (dk_at dksX0_say_0 10 rfl rfl)
theorem dX0_say_11 : decode cX0_say 11 = .ok (.getfield 21, 3) := dk_180 0 21 (dk_at dksX0_say_0 11 rfl rfl)
theorem dX0_say_14 : decode cX0_say 14 = .ok (.invokevirtual 202, 3) := dk_182 0 202 (dk_at dksX0_say_0 14 rfl rfl)
theorem dX0_say_17 : decode cX0_say 17 = .ok (.aload_n 0, 1) := dk_42 (dk_at dksX0_say_0 17 rfl rfl)
theorem dX0_say_18 : decode cX0_say 18 = .ok (.getfield 21, 3) := dk_180 0 21 (dk_at dksX0_say_0 18 rfl rfl)
theorem dX0_say_21 : decode cX0_say 21 = .ok (.getfield 199, 3) := dk_180 0 199 (dk_at dksX0_say_0 21 rfl rfl)
theorem dX0_say_24 : decode cX0_say 24 = .ok (.iconst 2, 1) := dk_5 (dk_at dksX0_say_1 0 rfl rfl)
theorem dX0_say_25 : decode cX0_say 25 = .ok (.dup2, 1) := dk_92 (dk_at dksX0_say_1 1 rfl rfl)
theorem dX0_say_26 : decode cX0_say 26 = .ok (.iaload, 1) := dk_46 (dk_at dksX0_say_1 2 rfl rfl)
theorem dX0_say_27 : decode cX0_say 27 = .ok (.iconst 1, 1) := dk_4 (dk_at dksX0_say_1 3 rfl rfl)
theorem dX0_say_28 : decode cX0_say 28 = .ok (.iload_n 1, 1) := dk_27 (dk_at dksX0_say_1 4 rfl rfl)
theorem dX0_say_29 : decode cX0_say 29 = .ok (.ishl, 1) := dk_120 (dk_at dksX0_say_1 5 rfl rfl)
theorem dX0_say_30 : decode cX0_say 30 = .ok (.ior, 1) := dk_128 (dk_at dksX0_say_1 6 rfl rfl)
theorem dX0_say_31 : decode cX0_say 31 = .ok (.iastore, 1) := dk_79 (dk_at dksX0_say_1 7 rfl rfl)
theorem dX0_say_32 : decode cX0_say 32 = .ok (.iconst 1, 1) := dk_4 (dk_at dksX0_say_1 8 rfl rfl)
theorem dX0_say_33 : decode cX0_say 33 = .ok (.ireturn, 1) := dk_172 (dk_at dksX0_say_1 9 rfl rfl)
abbrev cX0_canSay : ByteArray := prog_1_method_33_code
def yX0_canSay : MethodName := ⟨RX0, "canSay", "(I)Z"⟩
def dkwX0_canSay_2 : List UInt8 := [182, 0, 177, 153, 0, 7, 4, 167, 0, 4, 3, 172]
abbrev dktX0_canSay_2 : List UInt8 := dkwX0_canSay_2 ++ []
def dkwX0_canSay_1 : List UInt8 := [42, 180, 0, 21, 180, 0, 199, 6, 27, 96, 46, 154, 0, 22, 42, 42, 180, 0, 21, 180, 0, 199, 27]
abbrev dktX0_canSay_1 : List UInt8 := dkwX0_canSay_1 ++ dktX0_canSay_2
def dkwX0_canSay_0 : List UInt8 := [42, 27, 182, 0, 213, 153, 0, 52, 42, 180, 0, 21, 180, 0, 199, 5, 46, 27, 184, 0, 138, 154, 0, 36]
abbrev dktX0_canSay_0 : List UInt8 := dkwX0_canSay_0 ++ dktX0_canSay_1
theorem dksX0_canSay_0 : cX0_canSay.data.toList.drop 0 = dktX0_canSay_0 := by decide +kernel
theorem dksX0_canSay_1 : cX0_canSay.data.toList.drop 24 = dktX0_canSay_1 := dk_seg dksX0_canSay_0 24 rfl rfl
theorem dksX0_canSay_2 : cX0_canSay.data.toList.drop 47 = dktX0_canSay_2 := dk_seg dksX0_canSay_1 23 rfl rfl
theorem dX0_canSay_0 : decode cX0_canSay 0 = .ok (.aload_n 0, 1) := dk_42 (dk_at dksX0_canSay_0 0 rfl rfl)
theorem dX0_canSay_1 : decode cX0_canSay 1 = .ok (.iload_n 1, 1) := dk_27 (dk_at dksX0_canSay_0 1 rfl rfl)
theorem dX0_canSay_2 : decode cX0_canSay 2 = .ok (.invokevirtual 213, 3) := dk_182 0 213 (dk_at dksX0_canSay_0 2 rfl rfl)
theorem dX0_canSay_5 : decode cX0_canSay 5 = .ok (.ifCond .eq 52, 3) := dk_153 0 52 (dk_at dksX0_canSay_0 5 rfl rfl)
theorem dX0_canSay_8 : decode cX0_canSay 8 = .ok (.aload_n 0, 1) := dk_42 (dk_at dksX0_canSay_0 8 rfl rfl)
theorem dX0_canSay_9 : decode cX0_canSay 9 = .ok (.getfield 21, 3) := dk_180 0 21 (dk_at dksX0_canSay_0 9 rfl rfl)
theorem dX0_canSay_12 : decode cX0_canSay 12 = .ok (.getfield 199, 3) := dk_180 0 199 (dk_at dksX0_canSay_0 12 rfl rfl)
theorem dX0_canSay_15 : decode cX0_canSay 15 = .ok (.iconst 2, 1) := dk_5 (dk_at dksX0_canSay_0 15 rfl rfl)
theorem dX0_canSay_16 : decode cX0_canSay 16 = .ok (.iaload, 1) := dk_46 (dk_at dksX0_canSay_0 16 rfl rfl)
theorem dX0_canSay_17 : decode cX0_canSay 17 = .ok (.iload_n 1, 1) := dk_27 (dk_at dksX0_canSay_0 17 rfl rfl)
theorem dX0_canSay_18 : decode cX0_canSay 18 = .ok (.invokestatic 138, 3) := dk_184 0 138 (dk_at dksX0_canSay_0 18 rfl rfl)
theorem dX0_canSay_21 : decode cX0_canSay 21 = .ok (.ifCond .ne 36, 3) := dk_154 0 36 (dk_at dksX0_canSay_0 21 rfl rfl)
theorem dX0_canSay_24 : decode cX0_canSay 24 = .ok (.aload_n 0, 1) := dk_42 (dk_at dksX0_canSay_1 0 rfl rfl)
theorem dX0_canSay_25 : decode cX0_canSay 25 = .ok (.getfield 21, 3) := dk_180 0 21 (dk_at dksX0_canSay_1 1 rfl rfl)
theorem dX0_canSay_28 : decode cX0_canSay 28 = .ok (.getfield 199, 3) := dk_180 0 199 (dk_at dksX0_canSay_1 4 rfl rfl)
theorem dX0_canSay_31 : decode cX0_canSay 31 = .ok (.iconst 3, 1) := dk_6 (dk_at dksX0_canSay_1 7 rfl rfl)
theorem dX0_canSay_32 : decode cX0_canSay 32 = .ok (.iload_n 1, 1) := dk_27 (dk_at dksX0_canSay_1 8 rfl rfl)
theorem dX0_canSay_33 : decode cX0_canSay 33 = .ok (.iadd, 1) := dk_96 (dk_at dksX0_canSay_1 9 rfl rfl)
theorem dX0_canSay_34 : decode cX0_canSay 34 = .ok (.iaload, 1) := dk_46 (dk_at dksX0_canSay_1 10 rfl rfl)
theorem dX0_canSay_35 : decode cX0_canSay 35 = .ok (.ifCond .ne 22, 3) := dk_154 0 22 (dk_at dksX0_canSay_1 11 rfl rfl)
theorem dX0_canSay_38 : decode cX0_canSay 38 = .ok (.aload_n 0, 1) := dk_42 (dk_at dksX0_canSay_1 14 rfl rfl)
theorem dX0_canSay_39 : decode cX0_canSay 39 = .ok (.aload_n 0, 1) := dk_42 (dk_at dksX0_canSay_1 15 rfl rfl)
theorem dX0_canSay_40 : decode cX0_canSay 40 = .ok (.getfield 21, 3) := dk_180 0 21 (dk_at dksX0_canSay_1 16 rfl rfl)
theorem dX0_canSay_43 : decode cX0_canSay 43 = .ok (.getfield 199, 3) := dk_180 0 199 (dk_at dksX0_canSay_1 19 rfl rfl)
theorem dX0_canSay_46 : decode cX0_canSay 46 = .ok (.iload_n 1, 1) := dk_27 (dk_at dksX0_canSay_1 22 rfl rfl)
theorem dX0_canSay_47 : decode cX0_canSay 47 = .ok (.invokevirtual 177, 3) := dk_182 0 177 (dk_at dksX0_canSay_2 0 rfl rfl)
theorem dX0_canSay_50 : decode cX0_canSay 50 = .ok (.ifCond .eq 7, 3) := dk_153 0 7 (dk_at dksX0_canSay_2 3 rfl rfl)
theorem dX0_canSay_53 : decode cX0_canSay 53 = .ok (.iconst 1, 1) := dk_4 (dk_at dksX0_canSay_2 6 rfl rfl)
theorem dX0_canSay_54 : decode cX0_canSay 54 = .ok (.goto 4, 3) := dk_167 0 4 (dk_at dksX0_canSay_2 7 rfl rfl)
theorem dX0_canSay_57 : decode cX0_canSay 57 = .ok (.iconst 0, 1) := dk_3 (dk_at dksX0_canSay_2 10 rfl rfl)
theorem dX0_canSay_58 : decode cX0_canSay 58 = .ok (.ireturn, 1) := dk_172 (dk_at dksX0_canSay_2 11 rfl rfl)
abbrev cX0_isClaim : ByteArray := prog_1_method_20_code
def yX0_isClaim : MethodName := ⟨RX0, "isClaim", "(I)Z"⟩
def dkwX0_isClaim_0 : List UInt8 := [27, 3, 42, 182, 0, 132, 4, 100, 184, 0, 73, 172]
abbrev dktX0_isClaim_0 : List UInt8 := dkwX0_isClaim_0 ++ []
theorem dksX0_isClaim_0 : cX0_isClaim.data.toList.drop 0 = dktX0_isClaim_0 := by decide +kernel
theorem dX0_isClaim_0 : decode cX0_isClaim 0 = .ok (.iload_n 1, 1) := dk_27 (dk_at dksX0_isClaim_0 0 rfl rfl)
theorem dX0_isClaim_1 : decode cX0_isClaim 1 = .ok (.iconst 0, 1) := dk_3 (dk_at dksX0_isClaim_0 1 rfl rfl)
theorem dX0_isClaim_2 : decode cX0_isClaim 2 = .ok (.aload_n 0, 1) := dk_42 (dk_at dksX0_isClaim_0 2 rfl rfl)
theorem dX0_isClaim_3 : decode cX0_isClaim 3 = .ok (.invokevirtual 132, 3) := dk_182 0 132 (dk_at dksX0_isClaim_0 3 rfl rfl)
theorem dX0_isClaim_6 : decode cX0_isClaim 6 = .ok (.iconst 1, 1) := dk_4 (dk_at dksX0_isClaim_0 6 rfl rfl)
theorem dX0_isClaim_7 : decode cX0_isClaim 7 = .ok (.isub, 1) := dk_100 (dk_at dksX0_isClaim_0 7 rfl rfl)
theorem dX0_isClaim_8 : decode cX0_isClaim 8 = .ok (.invokestatic 73, 3) := dk_184 0 73 (dk_at dksX0_isClaim_0 8 rfl rfl)
theorem dX0_isClaim_11 : decode cX0_isClaim 11 = .ok (.ireturn, 1) := dk_172 (dk_at dksX0_isClaim_0 11 rfl rfl)
abbrev cX0_retract : ByteArray := prog_1_method_37_code
def yX0_retract : MethodName := ⟨RX0, "retract", "(I)Z"⟩
def dkwX0_retract_1 : List UInt8 := [5, 92, 46, 4, 27, 120, 2, 130, 126, 79, 4, 172]
abbrev dktX0_retract_1 : List UInt8 := dkwX0_retract_1 ++ []
def dkwX0_retract_0 : List UInt8 := [42, 27, 182, 0, 219, 154, 0, 5, 3, 172, 42, 180, 0, 21, 182, 0, 202, 42, 180, 0, 21, 180, 0, 199]
abbrev dktX0_retract_0 : List UInt8 := dkwX0_retract_0 ++ dktX0_retract_1
theorem dksX0_retract_0 : cX0_retract.data.toList.drop 0 = dktX0_retract_0 := by decide +kernel
theorem dksX0_retract_1 : cX0_retract.data.toList.drop 24 = dktX0_retract_1 := dk_seg dksX0_retract_0 24 rfl rfl
theorem dX0_retract_0 : decode cX0_retract 0 = .ok (.aload_n 0, 1) := dk_42 (dk_at dksX0_retract_0 0 rfl rfl)
theorem dX0_retract_1 : decode cX0_retract 1 = .ok (.iload_n 1, 1) := dk_27 (dk_at dksX0_retract_0 1 rfl rfl)
theorem dX0_retract_2 : decode cX0_retract 2 = .ok (.invokevirtual 219, 3) := dk_182 0 219 (dk_at dksX0_retract_0 2 rfl rfl)
theorem dX0_retract_5 : decode cX0_retract 5 = .ok (.ifCond .ne 5, 3) := dk_154 0 5 (dk_at dksX0_retract_0 5 rfl rfl)
theorem dX0_retract_8 : decode cX0_retract 8 = .ok (.iconst 0, 1) := dk_3 (dk_at dksX0_retract_0 8 rfl rfl)
theorem dX0_retract_9 : decode cX0_retract 9 = .ok (.ireturn, 1) := dk_172 (dk_at dksX0_retract_0 9 rfl rfl)
theorem dX0_retract_10 : decode cX0_retract 10 = .ok (.aload_n 0, 1) := dk_42 (dk_at dksX0_retract_0 10 rfl rfl)
theorem dX0_retract_11 : decode cX0_retract 11 = .ok (.getfield 21, 3) := dk_180 0 21 (dk_at dksX0_retract_0 11 rfl rfl)
theorem dX0_retract_14 : decode cX0_retract 14 = .ok (.invokevirtual 202, 3) := dk_182 0 202 (dk_at dksX0_retract_0 14 rfl rfl)
theorem dX0_retract_17 : decode cX0_retract 17 = .ok (.aload_n 0, 1) := dk_42 (dk_at dksX0_retract_0 17 rfl rfl)
theorem dX0_retract_18 : decode cX0_retract 18 = .ok (.getfield 21, 3) := dk_180 0 21 (dk_at dksX0_retract_0 18 rfl rfl)
theorem dX0_retract_21 : decode cX0_retract 21 = .ok (.getfield 199, 3) := dk_180 0 199 (dk_at dksX0_retract_0 21 rfl rfl)
theorem dX0_retract_24 : decode cX0_retract 24 = .ok (.iconst 2, 1) := dk_5 (dk_at dksX0_retract_1 0 rfl rfl)
theorem dX0_retract_25 : decode cX0_retract 25 = .ok (.dup2, 1) := dk_92 (dk_at dksX0_retract_1 1 rfl rfl)
theorem dX0_retract_26 : decode cX0_retract 26 = .ok (.iaload, 1) := dk_46 (dk_at dksX0_retract_1 2 rfl rfl)
theorem dX0_retract_27 : decode cX0_retract 27 = .ok (.iconst 1, 1) := dk_4 (dk_at dksX0_retract_1 3 rfl rfl)
theorem dX0_retract_28 : decode cX0_retract 28 = .ok (.iload_n 1, 1) := dk_27 (dk_at dksX0_retract_1 4 rfl rfl)
theorem dX0_retract_29 : decode cX0_retract 29 = .ok (.ishl, 1) := dk_120 (dk_at dksX0_retract_1 5 rfl rfl)
theorem dX0_retract_30 : decode cX0_retract 30 = .ok (.iconst (-1), 1) := dk_2 (dk_at dksX0_retract_1 6 rfl rfl)
theorem dX0_retract_31 : decode cX0_retract 31 = .ok (.ixor, 1) := dk_130 (dk_at dksX0_retract_1 7 rfl rfl)
theorem dX0_retract_32 : decode cX0_retract 32 = .ok (.iand, 1) := dk_126 (dk_at dksX0_retract_1 8 rfl rfl)
theorem dX0_retract_33 : decode cX0_retract 33 = .ok (.iastore, 1) := dk_79 (dk_at dksX0_retract_1 9 rfl rfl)
theorem dX0_retract_34 : decode cX0_retract 34 = .ok (.iconst 1, 1) := dk_4 (dk_at dksX0_retract_1 10 rfl rfl)
theorem dX0_retract_35 : decode cX0_retract 35 = .ok (.ireturn, 1) := dk_172 (dk_at dksX0_retract_1 11 rfl rfl)
abbrev cX0_canRetract : ByteArray := prog_1_method_34_code
def yX0_canRetract : MethodName := ⟨RX0, "canRetract", "(I)Z"⟩
def dkwX0_canRetract_1 : List UInt8 := [4, 167, 0, 4, 3, 172]
abbrev dktX0_canRetract_1 : List UInt8 := dkwX0_canRetract_1 ++ []
def dkwX0_canRetract_0 : List UInt8 := [42, 27, 182, 0, 213, 153, 0, 23, 42, 180, 0, 21, 180, 0, 199, 5, 46, 27, 184, 0, 138, 153, 0, 7]
abbrev dktX0_canRetract_0 : List UInt8 := dkwX0_canRetract_0 ++ dktX0_canRetract_1
theorem dksX0_canRetract_0 : cX0_canRetract.data.toList.drop 0 = dktX0_canRetract_0 := by decide +kernel
theorem dksX0_canRetract_1 : cX0_canRetract.data.toList.drop 24 = dktX0_canRetract_1 := dk_seg dksX0_canRetract_0 24 rfl rfl
theorem dX0_canRetract_0 : decode cX0_canRetract 0 = .ok (.aload_n 0, 1) := dk_42 (dk_at dksX0_canRetract_0 0 rfl rfl)
theorem dX0_canRetract_1 : decode cX0_canRetract 1 = .ok (.iload_n 1, 1) := dk_27 (dk_at dksX0_canRetract_0 1 rfl rfl)
theorem dX0_canRetract_2 : decode cX0_canRetract 2 = .ok (.invokevirtual 213, 3) := dk_182 0 213 (dk_at dksX0_canRetract_0 2 rfl rfl)
theorem dX0_canRetract_5 : decode cX0_canRetract 5 = .ok (.ifCond .eq 23, 3) := dk_153 0 23 (dk_at dksX0_canRetract_0 5 rfl rfl)
theorem dX0_canRetract_8 : decode cX0_canRetract 8 = .ok (.aload_n 0, 1) := dk_42 (dk_at dksX0_canRetract_0 8 rfl rfl)
theorem dX0_canRetract_9 : decode cX0_canRetract 9 = .ok (.getfield 21, 3) := dk_180 0 21 (dk_at dksX0_canRetract_0 9 rfl rfl)
theorem dX0_canRetract_12 : decode cX0_canRetract 12 = .ok (.getfield 199, 3) := dk_180 0 199 (dk_at dksX0_canRetract_0 12 rfl rfl)
theorem dX0_canRetract_15 : decode cX0_canRetract 15 = .ok (.iconst 2, 1) := dk_5 (dk_at dksX0_canRetract_0 15 rfl rfl)
theorem dX0_canRetract_16 : decode cX0_canRetract 16 = .ok (.iaload, 1) := dk_46 (dk_at dksX0_canRetract_0 16 rfl rfl)
theorem dX0_canRetract_17 : decode cX0_canRetract 17 = .ok (.iload_n 1, 1) := dk_27 (dk_at dksX0_canRetract_0 17 rfl rfl)
theorem dX0_canRetract_18 : decode cX0_canRetract 18 = .ok (.invokestatic 138, 3) := dk_184 0 138 (dk_at dksX0_canRetract_0 18 rfl rfl)
theorem dX0_canRetract_21 : decode cX0_canRetract 21 = .ok (.ifCond .eq 7, 3) := dk_153 0 7 (dk_at dksX0_canRetract_0 21 rfl rfl)
theorem dX0_canRetract_24 : decode cX0_canRetract 24 = .ok (.iconst 1, 1) := dk_4 (dk_at dksX0_canRetract_1 0 rfl rfl)
theorem dX0_canRetract_25 : decode cX0_canRetract 25 = .ok (.goto 4, 3) := dk_167 0 4 (dk_at dksX0_canRetract_1 1 rfl rfl)
theorem dX0_canRetract_28 : decode cX0_canRetract 28 = .ok (.iconst 0, 1) := dk_3 (dk_at dksX0_canRetract_1 4 rfl rfl)
theorem dX0_canRetract_29 : decode cX0_canRetract 29 = .ok (.ireturn, 1) := dk_172 (dk_at dksX0_canRetract_1 5 rfl rfl)
abbrev cX0_pardon : ByteArray := prog_1_method_38_code
def yX0_pardon : MethodName := ⟨RX0, "pardon", "(I)Z"⟩
def dkwX0_pardon_1 : List UInt8 := [6, 27, 96, 3, 79, 4, 172]
abbrev dktX0_pardon_1 : List UInt8 := dkwX0_pardon_1 ++ []
def dkwX0_pardon_0 : List UInt8 := [42, 27, 182, 0, 222, 154, 0, 5, 3, 172, 42, 180, 0, 21, 182, 0, 202, 42, 180, 0, 21, 180, 0, 199]
abbrev dktX0_pardon_0 : List UInt8 := dkwX0_pardon_0 ++ dktX0_pardon_1
theorem dksX0_pardon_0 : cX0_pardon.data.toList.drop 0 = dktX0_pardon_0 := by decide +kernel
theorem dksX0_pardon_1 : cX0_pardon.data.toList.drop 24 = dktX0_pardon_1 := dk_seg dksX0_pardon_0 24 rfl rfl
theorem dX0_pardon_0 : decode cX0_pardon 0 = .ok (.aload_n 0, 1) := dk_42 (dk_at dksX0_pardon_0 0 rfl rfl)
theorem dX0_pardon_1 : decode cX0_pardon 1 = .ok (.iload_n 1, 1) := dk_27 (dk_at dksX0_pardon_0 1 rfl rfl)
theorem dX0_pardon_2 : decode cX0_pardon 2 = .ok (.invokevirtual 222, 3) := dk_182 0 222 (dk_at dksX0_pardon_0 2 rfl rfl)
theorem dX0_pardon_5 : decode cX0_pardon 5 = .ok (.ifCond .ne 5, 3) := dk_154 0 5 (dk_at dksX0_pardon_0 5 rfl rfl)
theorem dX0_pardon_8 : decode cX0_pardon 8 = .ok (.iconst 0, 1) := dk_3 (dk_at dksX0_pardon_0 8 rfl rfl)
theorem dX0_pardon_9 : decode cX0_pardon 9 = .ok (.ireturn, 1) := dk_172 (dk_at dksX0_pardon_0 9 rfl rfl)
theorem dX0_pardon_10 : decode cX0_pardon 10 = .ok (.aload_n 0, 1) := dk_42 (dk_at dksX0_pardon_0 10 rfl rfl)
theorem dX0_pardon_11 : decode cX0_pardon 11 = .ok (.getfield 21, 3) := dk_180 0 21 (dk_at dksX0_pardon_0 11 rfl rfl)
theorem dX0_pardon_14 : decode cX0_pardon 14 = .ok (.invokevirtual 202, 3) := dk_182 0 202 (dk_at dksX0_pardon_0 14 rfl rfl)
theorem dX0_pardon_17 : decode cX0_pardon 17 = .ok (.aload_n 0, 1) := dk_42 (dk_at dksX0_pardon_0 17 rfl rfl)
theorem dX0_pardon_18 : decode cX0_pardon 18 = .ok (.getfield 21, 3) := dk_180 0 21 (dk_at dksX0_pardon_0 18 rfl rfl)
theorem dX0_pardon_21 : decode cX0_pardon 21 = .ok (.getfield 199, 3) := dk_180 0 199 (dk_at dksX0_pardon_0 21 rfl rfl)
theorem dX0_pardon_24 : decode cX0_pardon 24 = .ok (.iconst 3, 1) := dk_6 (dk_at dksX0_pardon_1 0 rfl rfl)
theorem dX0_pardon_25 : decode cX0_pardon 25 = .ok (.iload_n 1, 1) := dk_27 (dk_at dksX0_pardon_1 1 rfl rfl)
theorem dX0_pardon_26 : decode cX0_pardon 26 = .ok (.iadd, 1) := dk_96 (dk_at dksX0_pardon_1 2 rfl rfl)
theorem dX0_pardon_27 : decode cX0_pardon 27 = .ok (.iconst 0, 1) := dk_3 (dk_at dksX0_pardon_1 3 rfl rfl)
theorem dX0_pardon_28 : decode cX0_pardon 28 = .ok (.iastore, 1) := dk_79 (dk_at dksX0_pardon_1 4 rfl rfl)
theorem dX0_pardon_29 : decode cX0_pardon 29 = .ok (.iconst 1, 1) := dk_4 (dk_at dksX0_pardon_1 5 rfl rfl)
theorem dX0_pardon_30 : decode cX0_pardon 30 = .ok (.ireturn, 1) := dk_172 (dk_at dksX0_pardon_1 6 rfl rfl)
abbrev cX0_canPardon : ByteArray := prog_1_method_35_code
def yX0_canPardon : MethodName := ⟨RX0, "canPardon", "(I)Z"⟩
def dkwX0_canPardon_1 : List UInt8 := [167, 0, 4, 3, 172]
abbrev dktX0_canPardon_1 : List UInt8 := dkwX0_canPardon_1 ++ []
def dkwX0_canPardon_0 : List UInt8 := [42, 27, 182, 0, 213, 153, 0, 21, 42, 180, 0, 21, 180, 0, 199, 6, 27, 96, 46, 158, 0, 7, 4]
abbrev dktX0_canPardon_0 : List UInt8 := dkwX0_canPardon_0 ++ dktX0_canPardon_1
theorem dksX0_canPardon_0 : cX0_canPardon.data.toList.drop 0 = dktX0_canPardon_0 := by decide +kernel
theorem dksX0_canPardon_1 : cX0_canPardon.data.toList.drop 23 = dktX0_canPardon_1 := dk_seg dksX0_canPardon_0 23 rfl rfl
theorem dX0_canPardon_0 : decode cX0_canPardon 0 = .ok (.aload_n 0, 1) := dk_42 (dk_at dksX0_canPardon_0 0 rfl rfl)
theorem dX0_canPardon_1 : decode cX0_canPardon 1 = .ok (.iload_n 1, 1) := dk_27 (dk_at dksX0_canPardon_0 1 rfl rfl)
theorem dX0_canPardon_2 : decode cX0_canPardon 2 = .ok (.invokevirtual 213, 3) := dk_182 0 213 (dk_at dksX0_canPardon_0 2 rfl rfl)
theorem dX0_canPardon_5 : decode cX0_canPardon 5 = .ok (.ifCond .eq 21, 3) := dk_153 0 21 (dk_at dksX0_canPardon_0 5 rfl rfl)
theorem dX0_canPardon_8 : decode cX0_canPardon 8 = .ok (.aload_n 0, 1) := dk_42 (dk_at dksX0_canPardon_0 8 rfl rfl)
theorem dX0_canPardon_9 : decode cX0_canPardon 9 = .ok (.getfield 21, 3) := dk_180 0 21 (dk_at dksX0_canPardon_0 9 rfl rfl)
theorem dX0_canPardon_12 : decode cX0_canPardon 12 = .ok (.getfield 199, 3) := dk_180 0 199 (dk_at dksX0_canPardon_0 12 rfl rfl)
theorem dX0_canPardon_15 : decode cX0_canPardon 15 = .ok (.iconst 3, 1) := dk_6 (dk_at dksX0_canPardon_0 15 rfl rfl)
theorem dX0_canPardon_16 : decode cX0_canPardon 16 = .ok (.iload_n 1, 1) := dk_27 (dk_at dksX0_canPardon_0 16 rfl rfl)
theorem dX0_canPardon_17 : decode cX0_canPardon 17 = .ok (.iadd, 1) := dk_96 (dk_at dksX0_canPardon_0 17 rfl rfl)
theorem dX0_canPardon_18 : decode cX0_canPardon 18 = .ok (.iaload, 1) := dk_46 (dk_at dksX0_canPardon_0 18 rfl rfl)
theorem dX0_canPardon_19 : decode cX0_canPardon 19 = .ok (.ifCond .le 7, 3) := dk_158 0 7 (dk_at dksX0_canPardon_0 19 rfl rfl)
theorem dX0_canPardon_22 : decode cX0_canPardon 22 = .ok (.iconst 1, 1) := dk_4 (dk_at dksX0_canPardon_0 22 rfl rfl)
theorem dX0_canPardon_23 : decode cX0_canPardon 23 = .ok (.goto 4, 3) := dk_167 0 4 (dk_at dksX0_canPardon_1 0 rfl rfl)
theorem dX0_canPardon_26 : decode cX0_canPardon 26 = .ok (.iconst 0, 1) := dk_3 (dk_at dksX0_canPardon_1 3 rfl rfl)
theorem dX0_canPardon_27 : decode cX0_canPardon 27 = .ok (.ireturn, 1) := dk_172 (dk_at dksX0_canPardon_1 4 rfl rfl)
abbrev cX0_played : ByteArray := prog_1_method_41_code
def yX0_played : MethodName := ⟨RX0, "played", "(I)I"⟩
def dkwX0_played_2 : List UInt8 := [154, 0, 15, 44, 29, 182, 1, 15, 192, 0, 229, 182, 1, 23, 172, 132, 3, 1, 167, 255, 218, 2, 172]
abbrev dktX0_played_2 : List UInt8 := dkwX0_played_2 ++ []
def dkwX0_played_1 : List UInt8 := [3, 62, 29, 44, 182, 1, 10, 162, 0, 36, 42, 44, 29, 182, 1, 15, 192, 0, 229, 182, 1, 19]
abbrev dktX0_played_1 : List UInt8 := dkwX0_played_1 ++ dktX0_played_2
def dkwX0_played_0 : List UInt8 := [42, 27, 182, 0, 117, 154, 0, 6, 16, 254, 172, 42, 180, 0, 21, 180, 0, 98, 27, 50, 180, 1, 6, 77]
abbrev dktX0_played_0 : List UInt8 := dkwX0_played_0 ++ dktX0_played_1
theorem dksX0_played_0 : cX0_played.data.toList.drop 0 = dktX0_played_0 := by decide +kernel
theorem dksX0_played_1 : cX0_played.data.toList.drop 24 = dktX0_played_1 := dk_seg dksX0_played_0 24 rfl rfl
theorem dksX0_played_2 : cX0_played.data.toList.drop 46 = dktX0_played_2 := dk_seg dksX0_played_1 22 rfl rfl
theorem dX0_played_0 : decode cX0_played 0 = .ok (.aload_n 0, 1) := dk_42 (dk_at dksX0_played_0 0 rfl rfl)
theorem dX0_played_1 : decode cX0_played 1 = .ok (.iload_n 1, 1) := dk_27 (dk_at dksX0_played_0 1 rfl rfl)
theorem dX0_played_2 : decode cX0_played 2 = .ok (.invokevirtual 117, 3) := dk_182 0 117 (dk_at dksX0_played_0 2 rfl rfl)
theorem dX0_played_5 : decode cX0_played 5 = .ok (.ifCond .ne 6, 3) := dk_154 0 6 (dk_at dksX0_played_0 5 rfl rfl)
theorem dX0_played_8 : decode cX0_played 8 = .ok (.bipush (-2), 2) := dk_16 254 (dk_at dksX0_played_0 8 rfl rfl)
theorem dX0_played_10 : decode cX0_played 10 = .ok (.ireturn, 1) := dk_172 (dk_at dksX0_played_0 10 rfl rfl)
theorem dX0_played_11 : decode cX0_played 11 = .ok (.aload_n 0, 1) := dk_42 (dk_at dksX0_played_0 11 rfl rfl)
theorem dX0_played_12 : decode cX0_played 12 = .ok (.getfield 21, 3) := dk_180 0 21 (dk_at dksX0_played_0 12 rfl rfl)
theorem dX0_played_15 : decode cX0_played 15 = .ok (.getfield 98, 3) := dk_180 0 98 (dk_at dksX0_played_0 15 rfl rfl)
theorem dX0_played_18 : decode cX0_played 18 = .ok (.iload_n 1, 1) := dk_27 (dk_at dksX0_played_0 18 rfl rfl)
theorem dX0_played_19 : decode cX0_played 19 = .ok (.aaload, 1) := dk_50 (dk_at dksX0_played_0 19 rfl rfl)
theorem dX0_played_20 : decode cX0_played 20 = .ok (.getfield 262, 3) := dk_180 1 6 (dk_at dksX0_played_0 20 rfl rfl)
theorem dX0_played_23 : decode cX0_played 23 = .ok (.astore_n 2, 1) := dk_77 (dk_at dksX0_played_0 23 rfl rfl)
theorem dX0_played_24 : decode cX0_played 24 = .ok (.iconst 0, 1) := dk_3 (dk_at dksX0_played_1 0 rfl rfl)
theorem dX0_played_25 : decode cX0_played 25 = .ok (.istore_n 3, 1) := dk_62 (dk_at dksX0_played_1 1 rfl rfl)
theorem dX0_played_26 : decode cX0_played 26 = .ok (.iload_n 3, 1) := dk_29 (dk_at dksX0_played_1 2 rfl rfl)
theorem dX0_played_27 : decode cX0_played 27 = .ok (.aload_n 2, 1) := dk_44 (dk_at dksX0_played_1 3 rfl rfl)
theorem dX0_played_28 : decode cX0_played 28 = .ok (.invokevirtual 266, 3) := dk_182 1 10 (dk_at dksX0_played_1 4 rfl rfl)
theorem dX0_played_31 : decode cX0_played 31 = .ok (.if_icmp .ge 36, 3) := dk_162 0 36 (dk_at dksX0_played_1 7 rfl rfl)
theorem dX0_played_34 : decode cX0_played 34 = .ok (.aload_n 0, 1) := dk_42 (dk_at dksX0_played_1 10 rfl rfl)
theorem dX0_played_35 : decode cX0_played 35 = .ok (.aload_n 2, 1) := dk_44 (dk_at dksX0_played_1 11 rfl rfl)
theorem dX0_played_36 : decode cX0_played 36 = .ok (.iload_n 3, 1) := dk_29 (dk_at dksX0_played_1 12 rfl rfl)
theorem dX0_played_37 : decode cX0_played 37 = .ok (.invokevirtual 271, 3) := dk_182 1 15 (dk_at dksX0_played_1 13 rfl rfl)
theorem dX0_played_40 : decode cX0_played 40 = .ok (.checkcast 229, 3) := dk_192 0 229 (dk_at dksX0_played_1 16 rfl rfl)
theorem dX0_played_43 : decode cX0_played 43 = .ok (.invokevirtual 275, 3) := dk_182 1 19 (dk_at dksX0_played_1 19 rfl rfl)
theorem dX0_played_46 : decode cX0_played 46 = .ok (.ifCond .ne 15, 3) := dk_154 0 15 (dk_at dksX0_played_2 0 rfl rfl)
theorem dX0_played_49 : decode cX0_played 49 = .ok (.aload_n 2, 1) := dk_44 (dk_at dksX0_played_2 3 rfl rfl)
theorem dX0_played_50 : decode cX0_played 50 = .ok (.iload_n 3, 1) := dk_29 (dk_at dksX0_played_2 4 rfl rfl)
theorem dX0_played_51 : decode cX0_played 51 = .ok (.invokevirtual 271, 3) := dk_182 1 15 (dk_at dksX0_played_2 5 rfl rfl)
theorem dX0_played_54 : decode cX0_played 54 = .ok (.checkcast 229, 3) := dk_192 0 229 (dk_at dksX0_played_2 8 rfl rfl)
theorem dX0_played_57 : decode cX0_played 57 = .ok (.invokevirtual 279, 3) := dk_182 1 23 (dk_at dksX0_played_2 11 rfl rfl)
theorem dX0_played_60 : decode cX0_played 60 = .ok (.ireturn, 1) := dk_172 (dk_at dksX0_played_2 14 rfl rfl)
theorem dX0_played_61 : decode cX0_played 61 = .ok (.iinc 3 1, 3) := dk_132 3 1 (dk_at dksX0_played_2 15 rfl rfl)
theorem dX0_played_64 : decode cX0_played 64 = .ok (.goto (-38), 3) := dk_167 255 218 (dk_at dksX0_played_2 18 rfl rfl)
theorem dX0_played_67 : decode cX0_played 67 = .ok (.iconst (-1), 1) := dk_2 (dk_at dksX0_played_2 21 rfl rfl)
theorem dX0_played_68 : decode cX0_played 68 = .ok (.ireturn, 1) := dk_172 (dk_at dksX0_played_2 22 rfl rfl)
abbrev cX0_does : ByteArray := prog_1_method_40_code
def yX0_does : MethodName := ⟨RX0, "does", "(LSownByArgument$Doing;)Z"⟩
def dkwX0_does_5 : List UInt8 := [182, 1, 0, 172, 42, 43, 182, 0, 233, 182, 1, 3, 172]
abbrev dktX0_does_5 : List UInt8 := dkwX0_does_5 ++ []
def dkwX0_does_4 : List UInt8 := [42, 43, 182, 0, 233, 182, 0, 250, 172, 42, 43, 182, 0, 233, 182, 0, 253, 172, 42, 43, 182, 0, 233]
abbrev dktX0_does_4 : List UInt8 := dkwX0_does_4 ++ dktX0_does_5
def dkwX0_does_3 : List UInt8 := [182, 0, 233, 182, 0, 242, 172, 42, 43, 182, 0, 244, 43, 182, 0, 239, 43, 182, 0, 233, 182, 0, 247, 172]
abbrev dktX0_does_3 : List UInt8 := dkwX0_does_3 ++ dktX0_does_4
def dkwX0_does_2 : List UInt8 := [42, 43, 182, 0, 233, 182, 0, 236, 2, 159, 0, 7, 4, 167, 0, 4, 3, 172, 42, 43, 182, 0, 239, 43]
abbrev dktX0_does_2 : List UInt8 := dkwX0_does_2 ++ dktX0_does_3
def dkwX0_does_1 : List UInt8 := [170, 0, 0, 0, 0, 0, 0, 115, 0, 0, 0, 202, 0, 0, 0, 207, 0, 0, 0, 40, 0, 0, 0, 58, 0, 0, 0, 71, 0, 0, 0, 88, 0, 0, 0, 97, 0, 0, 0, 106]
abbrev dktX0_does_1 : List UInt8 := dkwX0_does_1 ++ dktX0_does_2
def dkwX0_does_0 : List UInt8 := [43, 182, 0, 228]
abbrev dktX0_does_0 : List UInt8 := dkwX0_does_0 ++ dktX0_does_1
theorem dksX0_does_0 : cX0_does.data.toList.drop 0 = dktX0_does_0 := by decide +kernel
theorem dksX0_does_1 : cX0_does.data.toList.drop 4 = dktX0_does_1 := dk_seg dksX0_does_0 4 rfl rfl
theorem dksX0_does_2 : cX0_does.data.toList.drop 44 = dktX0_does_2 := dk_seg dksX0_does_1 40 rfl rfl
theorem dksX0_does_3 : cX0_does.data.toList.drop 68 = dktX0_does_3 := dk_seg dksX0_does_2 24 rfl rfl
theorem dksX0_does_4 : cX0_does.data.toList.drop 92 = dktX0_does_4 := dk_seg dksX0_does_3 24 rfl rfl
theorem dksX0_does_5 : cX0_does.data.toList.drop 115 = dktX0_does_5 := dk_seg dksX0_does_4 23 rfl rfl
theorem dX0_does_0 : decode cX0_does 0 = .ok (.aload_n 1, 1) := dk_43 (dk_at dksX0_does_0 0 rfl rfl)
theorem dX0_does_1 : decode cX0_does 1 = .ok (.invokevirtual 228, 3) := dk_182 0 228 (dk_at dksX0_does_0 1 rfl rfl)
theorem dX0_does_4 : decode cX0_does 4 = .ok (.tableswitch 115 202 207 #[40, 58, 71, 88, 97, 106], 40) := by decide +kernel
theorem dX0_does_44 : decode cX0_does 44 = .ok (.aload_n 0, 1) := dk_42 (dk_at dksX0_does_2 0 rfl rfl)
theorem dX0_does_45 : decode cX0_does 45 = .ok (.aload_n 1, 1) := dk_43 (dk_at dksX0_does_2 1 rfl rfl)
theorem dX0_does_46 : decode cX0_does 46 = .ok (.invokevirtual 233, 3) := dk_182 0 233 (dk_at dksX0_does_2 2 rfl rfl)
theorem dX0_does_49 : decode cX0_does 49 = .ok (.invokevirtual 236, 3) := dk_182 0 236 (dk_at dksX0_does_2 5 rfl rfl)
theorem dX0_does_52 : decode cX0_does 52 = .ok (.iconst (-1), 1) := dk_2 (dk_at dksX0_does_2 8 rfl rfl)
theorem dX0_does_53 : decode cX0_does 53 = .ok (.if_icmp .eq 7, 3) := dk_159 0 7 (dk_at dksX0_does_2 9 rfl rfl)
theorem dX0_does_56 : decode cX0_does 56 = .ok (.iconst 1, 1) := dk_4 (dk_at dksX0_does_2 12 rfl rfl)
theorem dX0_does_57 : decode cX0_does 57 = .ok (.goto 4, 3) := dk_167 0 4 (dk_at dksX0_does_2 13 rfl rfl)
theorem dX0_does_60 : decode cX0_does 60 = .ok (.iconst 0, 1) := dk_3 (dk_at dksX0_does_2 16 rfl rfl)
theorem dX0_does_61 : decode cX0_does 61 = .ok (.ireturn, 1) := dk_172 (dk_at dksX0_does_2 17 rfl rfl)
theorem dX0_does_62 : decode cX0_does 62 = .ok (.aload_n 0, 1) := dk_42 (dk_at dksX0_does_2 18 rfl rfl)
theorem dX0_does_63 : decode cX0_does 63 = .ok (.aload_n 1, 1) := dk_43 (dk_at dksX0_does_2 19 rfl rfl)
theorem dX0_does_64 : decode cX0_does 64 = .ok (.invokevirtual 239, 3) := dk_182 0 239 (dk_at dksX0_does_2 20 rfl rfl)
theorem dX0_does_67 : decode cX0_does 67 = .ok (.aload_n 1, 1) := dk_43 (dk_at dksX0_does_2 23 rfl rfl)
theorem dX0_does_68 : decode cX0_does 68 = .ok (.invokevirtual 233, 3) := dk_182 0 233 (dk_at dksX0_does_3 0 rfl rfl)
theorem dX0_does_71 : decode cX0_does 71 = .ok (.invokevirtual 242, 3) := dk_182 0 242 (dk_at dksX0_does_3 3 rfl rfl)
theorem dX0_does_74 : decode cX0_does 74 = .ok (.ireturn, 1) := dk_172 (dk_at dksX0_does_3 6 rfl rfl)
theorem dX0_does_75 : decode cX0_does 75 = .ok (.aload_n 0, 1) := dk_42 (dk_at dksX0_does_3 7 rfl rfl)
theorem dX0_does_76 : decode cX0_does 76 = .ok (.aload_n 1, 1) := dk_43 (dk_at dksX0_does_3 8 rfl rfl)
theorem dX0_does_77 : decode cX0_does 77 = .ok (.invokevirtual 244, 3) := dk_182 0 244 (dk_at dksX0_does_3 9 rfl rfl)
theorem dX0_does_80 : decode cX0_does 80 = .ok (.aload_n 1, 1) := dk_43 (dk_at dksX0_does_3 12 rfl rfl)
theorem dX0_does_81 : decode cX0_does 81 = .ok (.invokevirtual 239, 3) := dk_182 0 239 (dk_at dksX0_does_3 13 rfl rfl)
theorem dX0_does_84 : decode cX0_does 84 = .ok (.aload_n 1, 1) := dk_43 (dk_at dksX0_does_3 16 rfl rfl)
theorem dX0_does_85 : decode cX0_does 85 = .ok (.invokevirtual 233, 3) := dk_182 0 233 (dk_at dksX0_does_3 17 rfl rfl)
theorem dX0_does_88 : decode cX0_does 88 = .ok (.invokevirtual 247, 3) := dk_182 0 247 (dk_at dksX0_does_3 20 rfl rfl)
theorem dX0_does_91 : decode cX0_does 91 = .ok (.ireturn, 1) := dk_172 (dk_at dksX0_does_3 23 rfl rfl)
theorem dX0_does_92 : decode cX0_does 92 = .ok (.aload_n 0, 1) := dk_42 (dk_at dksX0_does_4 0 rfl rfl)
theorem dX0_does_93 : decode cX0_does 93 = .ok (.aload_n 1, 1) := dk_43 (dk_at dksX0_does_4 1 rfl rfl)
theorem dX0_does_94 : decode cX0_does 94 = .ok (.invokevirtual 233, 3) := dk_182 0 233 (dk_at dksX0_does_4 2 rfl rfl)
theorem dX0_does_97 : decode cX0_does 97 = .ok (.invokevirtual 250, 3) := dk_182 0 250 (dk_at dksX0_does_4 5 rfl rfl)
theorem dX0_does_100 : decode cX0_does 100 = .ok (.ireturn, 1) := dk_172 (dk_at dksX0_does_4 8 rfl rfl)
theorem dX0_does_101 : decode cX0_does 101 = .ok (.aload_n 0, 1) := dk_42 (dk_at dksX0_does_4 9 rfl rfl)
theorem dX0_does_102 : decode cX0_does 102 = .ok (.aload_n 1, 1) := dk_43 (dk_at dksX0_does_4 10 rfl rfl)
theorem dX0_does_103 : decode cX0_does 103 = .ok (.invokevirtual 233, 3) := dk_182 0 233 (dk_at dksX0_does_4 11 rfl rfl)
theorem dX0_does_106 : decode cX0_does 106 = .ok (.invokevirtual 253, 3) := dk_182 0 253 (dk_at dksX0_does_4 14 rfl rfl)
theorem dX0_does_109 : decode cX0_does 109 = .ok (.ireturn, 1) := dk_172 (dk_at dksX0_does_4 17 rfl rfl)
theorem dX0_does_110 : decode cX0_does 110 = .ok (.aload_n 0, 1) := dk_42 (dk_at dksX0_does_4 18 rfl rfl)
theorem dX0_does_111 : decode cX0_does 111 = .ok (.aload_n 1, 1) := dk_43 (dk_at dksX0_does_4 19 rfl rfl)
theorem dX0_does_112 : decode cX0_does 112 = .ok (.invokevirtual 233, 3) := dk_182 0 233 (dk_at dksX0_does_4 20 rfl rfl)
theorem dX0_does_115 : decode cX0_does 115 = .ok (.invokevirtual 256, 3) := dk_182 1 0 (dk_at dksX0_does_5 0 rfl rfl)
theorem dX0_does_118 : decode cX0_does 118 = .ok (.ireturn, 1) := dk_172 (dk_at dksX0_does_5 3 rfl rfl)
theorem dX0_does_119 : decode cX0_does 119 = .ok (.aload_n 0, 1) := dk_42 (dk_at dksX0_does_5 4 rfl rfl)
theorem dX0_does_120 : decode cX0_does 120 = .ok (.aload_n 1, 1) := dk_43 (dk_at dksX0_does_5 5 rfl rfl)
theorem dX0_does_121 : decode cX0_does 121 = .ok (.invokevirtual 233, 3) := dk_182 0 233 (dk_at dksX0_does_5 6 rfl rfl)
theorem dX0_does_124 : decode cX0_does 124 = .ok (.invokevirtual 259, 3) := dk_182 1 3 (dk_at dksX0_does_5 9 rfl rfl)
theorem dX0_does_127 : decode cX0_does 127 = .ok (.ireturn, 1) := dk_172 (dk_at dksX0_does_5 12 rfl rfl)
abbrev cX0_passesAll : ByteArray := prog_1_method_39_code
def yX0_passesAll : MethodName := ⟨RX0, "passesAll", "(I)Z"⟩
def dkwX0_passesAll_1 : List UInt8 := [4, 172]
abbrev dktX0_passesAll_1 : List UInt8 := dkwX0_passesAll_1 ++ []
def dkwX0_passesAll_0 : List UInt8 := [3, 61, 28, 27, 162, 0, 20, 42, 4, 182, 0, 225, 2, 160, 0, 5, 3, 172, 132, 2, 1, 167, 255, 237]
abbrev dktX0_passesAll_0 : List UInt8 := dkwX0_passesAll_0 ++ dktX0_passesAll_1
theorem dksX0_passesAll_0 : cX0_passesAll.data.toList.drop 0 = dktX0_passesAll_0 := by decide +kernel
theorem dksX0_passesAll_1 : cX0_passesAll.data.toList.drop 24 = dktX0_passesAll_1 := dk_seg dksX0_passesAll_0 24 rfl rfl
theorem dX0_passesAll_0 : decode cX0_passesAll 0 = .ok (.iconst 0, 1) := dk_3 (dk_at dksX0_passesAll_0 0 rfl rfl)
theorem dX0_passesAll_1 : decode cX0_passesAll 1 = .ok (.istore_n 2, 1) := dk_61 (dk_at dksX0_passesAll_0 1 rfl rfl)
theorem dX0_passesAll_2 : decode cX0_passesAll 2 = .ok (.iload_n 2, 1) := dk_28 (dk_at dksX0_passesAll_0 2 rfl rfl)
theorem dX0_passesAll_3 : decode cX0_passesAll 3 = .ok (.iload_n 1, 1) := dk_27 (dk_at dksX0_passesAll_0 3 rfl rfl)
theorem dX0_passesAll_4 : decode cX0_passesAll 4 = .ok (.if_icmp .ge 20, 3) := dk_162 0 20 (dk_at dksX0_passesAll_0 4 rfl rfl)
theorem dX0_passesAll_7 : decode cX0_passesAll 7 = .ok (.aload_n 0, 1) := dk_42 (dk_at dksX0_passesAll_0 7 rfl rfl)
theorem dX0_passesAll_8 : decode cX0_passesAll 8 = .ok (.iconst 1, 1) := dk_4 (dk_at dksX0_passesAll_0 8 rfl rfl)
theorem dX0_passesAll_9 : decode cX0_passesAll 9 = .ok (.invokevirtual 225, 3) := dk_182 0 225 (dk_at dksX0_passesAll_0 9 rfl rfl)
theorem dX0_passesAll_12 : decode cX0_passesAll 12 = .ok (.iconst (-1), 1) := dk_2 (dk_at dksX0_passesAll_0 12 rfl rfl)
theorem dX0_passesAll_13 : decode cX0_passesAll 13 = .ok (.if_icmp .ne 5, 3) := dk_160 0 5 (dk_at dksX0_passesAll_0 13 rfl rfl)
theorem dX0_passesAll_16 : decode cX0_passesAll 16 = .ok (.iconst 0, 1) := dk_3 (dk_at dksX0_passesAll_0 16 rfl rfl)
theorem dX0_passesAll_17 : decode cX0_passesAll 17 = .ok (.ireturn, 1) := dk_172 (dk_at dksX0_passesAll_0 17 rfl rfl)
theorem dX0_passesAll_18 : decode cX0_passesAll 18 = .ok (.iinc 2 1, 3) := dk_132 2 1 (dk_at dksX0_passesAll_0 18 rfl rfl)
theorem dX0_passesAll_21 : decode cX0_passesAll 21 = .ok (.goto (-19), 3) := dk_167 255 237 (dk_at dksX0_passesAll_0 21 rfl rfl)
theorem dX0_passesAll_24 : decode cX0_passesAll 24 = .ok (.iconst 1, 1) := dk_4 (dk_at dksX0_passesAll_1 0 rfl rfl)
theorem dX0_passesAll_25 : decode cX0_passesAll 25 = .ok (.ireturn, 1) := dk_172 (dk_at dksX0_passesAll_1 1 rfl rfl)
abbrev cX0_years : ByteArray := prog_1_method_43_code
def yX0_years : MethodName := ⟨RX0, "years", "(II)I"⟩
def dkwX0_years_5 : List UInt8 := [180, 0, 199, 182, 0, 205, 128, 62, 132, 4, 1, 167, 255, 176, 42, 180, 0, 21, 180, 0, 199, 3, 46, 172]
abbrev dktX0_years_5 : List UInt8 := dkwX0_years_5 ++ []
def dkwX0_years_4 : List UInt8 := [167, 0, 32, 42, 180, 0, 21, 180, 0, 199, 3, 46, 17, 39, 15, 162, 0, 17, 29, 42, 42, 180, 0, 21]
abbrev dktX0_years_4 : List UInt8 := dkwX0_years_4 ++ dktX0_years_5
def dkwX0_years_3 : List UInt8 := [180, 0, 199, 5, 184, 0, 173, 54, 6, 21, 5, 16, 6, 112, 7, 162, 0, 12, 42, 21, 5, 182, 1, 26]
abbrev dktX0_years_3 : List UInt8 := dkwX0_years_3 ++ dktX0_years_4
def dkwX0_years_2 : List UInt8 := [3, 54, 4, 21, 4, 28, 162, 0, 80, 42, 180, 0, 21, 180, 0, 199, 4, 46, 54, 5, 42, 180, 0, 21]
abbrev dktX0_years_2 : List UInt8 := dkwX0_years_2 ++ dktX0_years_3
def dkwX0_years_1 : List UInt8 := [180, 0, 21, 182, 0, 202, 42, 180, 0, 21, 180, 0, 199, 4, 27, 5, 104, 17, 1, 103, 96, 79, 3, 62]
abbrev dktX0_years_1 : List UInt8 := dkwX0_years_1 ++ dktX0_years_2
def dkwX0_years_0 : List UInt8 := [27, 3, 17, 39, 15, 184, 0, 73, 153, 0, 13, 28, 4, 16, 40, 184, 0, 73, 154, 0, 5, 2, 172, 42]
abbrev dktX0_years_0 : List UInt8 := dkwX0_years_0 ++ dktX0_years_1
theorem dksX0_years_0 : cX0_years.data.toList.drop 0 = dktX0_years_0 := by decide +kernel
theorem dksX0_years_1 : cX0_years.data.toList.drop 24 = dktX0_years_1 := dk_seg dksX0_years_0 24 rfl rfl
theorem dksX0_years_2 : cX0_years.data.toList.drop 48 = dktX0_years_2 := dk_seg dksX0_years_1 24 rfl rfl
theorem dksX0_years_3 : cX0_years.data.toList.drop 72 = dktX0_years_3 := dk_seg dksX0_years_2 24 rfl rfl
theorem dksX0_years_4 : cX0_years.data.toList.drop 96 = dktX0_years_4 := dk_seg dksX0_years_3 24 rfl rfl
theorem dksX0_years_5 : cX0_years.data.toList.drop 120 = dktX0_years_5 := dk_seg dksX0_years_4 24 rfl rfl
theorem dX0_years_0 : decode cX0_years 0 = .ok (.iload_n 1, 1) := dk_27 (dk_at dksX0_years_0 0 rfl rfl)
theorem dX0_years_1 : decode cX0_years 1 = .ok (.iconst 0, 1) := dk_3 (dk_at dksX0_years_0 1 rfl rfl)
theorem dX0_years_2 : decode cX0_years 2 = .ok (.sipush 9999, 3) := dk_17 39 15 (dk_at dksX0_years_0 2 rfl rfl)
theorem dX0_years_5 : decode cX0_years 5 = .ok (.invokestatic 73, 3) := dk_184 0 73 (dk_at dksX0_years_0 5 rfl rfl)
theorem dX0_years_8 : decode cX0_years 8 = .ok (.ifCond .eq 13, 3) := dk_153 0 13 (dk_at dksX0_years_0 8 rfl rfl)
theorem dX0_years_11 : decode cX0_years 11 = .ok (.iload_n 2, 1) := dk_28 (dk_at dksX0_years_0 11 rfl rfl)
theorem dX0_years_12 : decode cX0_years 12 = .ok (.iconst 1, 1) := dk_4 (dk_at dksX0_years_0 12 rfl rfl)
theorem dX0_years_13 : decode cX0_years 13 = .ok (.bipush 40, 2) := dk_16 40 (dk_at dksX0_years_0 13 rfl rfl)
theorem dX0_years_15 : decode cX0_years 15 = .ok (.invokestatic 73, 3) := dk_184 0 73 (dk_at dksX0_years_0 15 rfl rfl)
theorem dX0_years_18 : decode cX0_years 18 = .ok (.ifCond .ne 5, 3) := dk_154 0 5 (dk_at dksX0_years_0 18 rfl rfl)
theorem dX0_years_21 : decode cX0_years 21 = .ok (.iconst (-1), 1) := dk_2 (dk_at dksX0_years_0 21 rfl rfl)
theorem dX0_years_22 : decode cX0_years 22 = .ok (.ireturn, 1) := dk_172 (dk_at dksX0_years_0 22 rfl rfl)
theorem dX0_years_23 : decode cX0_years 23 = .ok (.aload_n 0, 1) := dk_42 (dk_at dksX0_years_0 23 rfl rfl)
theorem dX0_years_24 : decode cX0_years 24 = .ok (.getfield 21, 3) := dk_180 0 21 (dk_at dksX0_years_1 0 rfl rfl)
theorem dX0_years_27 : decode cX0_years 27 = .ok (.invokevirtual 202, 3) := dk_182 0 202 (dk_at dksX0_years_1 3 rfl rfl)
theorem dX0_years_30 : decode cX0_years 30 = .ok (.aload_n 0, 1) := dk_42 (dk_at dksX0_years_1 6 rfl rfl)
theorem dX0_years_31 : decode cX0_years 31 = .ok (.getfield 21, 3) := dk_180 0 21 (dk_at dksX0_years_1 7 rfl rfl)
theorem dX0_years_34 : decode cX0_years 34 = .ok (.getfield 199, 3) := dk_180 0 199 (dk_at dksX0_years_1 10 rfl rfl)
theorem dX0_years_37 : decode cX0_years 37 = .ok (.iconst 1, 1) := dk_4 (dk_at dksX0_years_1 13 rfl rfl)
theorem dX0_years_38 : decode cX0_years 38 = .ok (.iload_n 1, 1) := dk_27 (dk_at dksX0_years_1 14 rfl rfl)
theorem dX0_years_39 : decode cX0_years 39 = .ok (.iconst 2, 1) := dk_5 (dk_at dksX0_years_1 15 rfl rfl)
theorem dX0_years_40 : decode cX0_years 40 = .ok (.imul, 1) := dk_104 (dk_at dksX0_years_1 16 rfl rfl)
theorem dX0_years_41 : decode cX0_years 41 = .ok (.sipush 359, 3) := dk_17 1 103 (dk_at dksX0_years_1 17 rfl rfl)
theorem dX0_years_44 : decode cX0_years 44 = .ok (.iadd, 1) := dk_96 (dk_at dksX0_years_1 20 rfl rfl)
theorem dX0_years_45 : decode cX0_years 45 = .ok (.iastore, 1) := dk_79 (dk_at dksX0_years_1 21 rfl rfl)
theorem dX0_years_46 : decode cX0_years 46 = .ok (.iconst 0, 1) := dk_3 (dk_at dksX0_years_1 22 rfl rfl)
theorem dX0_years_47 : decode cX0_years 47 = .ok (.istore_n 3, 1) := dk_62 (dk_at dksX0_years_1 23 rfl rfl)
theorem dX0_years_48 : decode cX0_years 48 = .ok (.iconst 0, 1) := dk_3 (dk_at dksX0_years_2 0 rfl rfl)
theorem dX0_years_49 : decode cX0_years 49 = .ok (.istore 4, 2) := dk_54 4 (dk_at dksX0_years_2 1 rfl rfl)
theorem dX0_years_51 : decode cX0_years 51 = .ok (.iload 4, 2) := dk_21 4 (dk_at dksX0_years_2 3 rfl rfl)
theorem dX0_years_53 : decode cX0_years 53 = .ok (.iload_n 2, 1) := dk_28 (dk_at dksX0_years_2 5 rfl rfl)
theorem dX0_years_54 : decode cX0_years 54 = .ok (.if_icmp .ge 80, 3) := dk_162 0 80 (dk_at dksX0_years_2 6 rfl rfl)
theorem dX0_years_57 : decode cX0_years 57 = .ok (.aload_n 0, 1) := dk_42 (dk_at dksX0_years_2 9 rfl rfl)
theorem dX0_years_58 : decode cX0_years 58 = .ok (.getfield 21, 3) := dk_180 0 21 (dk_at dksX0_years_2 10 rfl rfl)
theorem dX0_years_61 : decode cX0_years 61 = .ok (.getfield 199, 3) := dk_180 0 199 (dk_at dksX0_years_2 13 rfl rfl)
theorem dX0_years_64 : decode cX0_years 64 = .ok (.iconst 1, 1) := dk_4 (dk_at dksX0_years_2 16 rfl rfl)
theorem dX0_years_65 : decode cX0_years 65 = .ok (.iaload, 1) := dk_46 (dk_at dksX0_years_2 17 rfl rfl)
theorem dX0_years_66 : decode cX0_years 66 = .ok (.istore 5, 2) := dk_54 5 (dk_at dksX0_years_2 18 rfl rfl)
theorem dX0_years_68 : decode cX0_years 68 = .ok (.aload_n 0, 1) := dk_42 (dk_at dksX0_years_2 20 rfl rfl)
theorem dX0_years_69 : decode cX0_years 69 = .ok (.getfield 21, 3) := dk_180 0 21 (dk_at dksX0_years_2 21 rfl rfl)
theorem dX0_years_72 : decode cX0_years 72 = .ok (.getfield 199, 3) := dk_180 0 199 (dk_at dksX0_years_3 0 rfl rfl)
theorem dX0_years_75 : decode cX0_years 75 = .ok (.iconst 2, 1) := dk_5 (dk_at dksX0_years_3 3 rfl rfl)
theorem dX0_years_76 : decode cX0_years 76 = .ok (.invokestatic 173, 3) := dk_184 0 173 (dk_at dksX0_years_3 4 rfl rfl)
theorem dX0_years_79 : decode cX0_years 79 = .ok (.istore 6, 2) := dk_54 6 (dk_at dksX0_years_3 7 rfl rfl)
theorem dX0_years_81 : decode cX0_years 81 = .ok (.iload 5, 2) := dk_21 5 (dk_at dksX0_years_3 9 rfl rfl)
theorem dX0_years_83 : decode cX0_years 83 = .ok (.bipush 6, 2) := dk_16 6 (dk_at dksX0_years_3 11 rfl rfl)
theorem dX0_years_85 : decode cX0_years 85 = .ok (.irem, 1) := dk_112 (dk_at dksX0_years_3 13 rfl rfl)
theorem dX0_years_86 : decode cX0_years 86 = .ok (.iconst 4, 1) := dk_7 (dk_at dksX0_years_3 14 rfl rfl)
theorem dX0_years_87 : decode cX0_years 87 = .ok (.if_icmp .ge 12, 3) := dk_162 0 12 (dk_at dksX0_years_3 15 rfl rfl)
theorem dX0_years_90 : decode cX0_years 90 = .ok (.aload_n 0, 1) := dk_42 (dk_at dksX0_years_3 18 rfl rfl)
theorem dX0_years_91 : decode cX0_years 91 = .ok (.iload 5, 2) := dk_21 5 (dk_at dksX0_years_3 19 rfl rfl)
theorem dX0_years_93 : decode cX0_years 93 = .ok (.invokevirtual 282, 3) := dk_182 1 26 (dk_at dksX0_years_3 21 rfl rfl)
theorem dX0_years_96 : decode cX0_years 96 = .ok (.goto 32, 3) := dk_167 0 32 (dk_at dksX0_years_4 0 rfl rfl)
theorem dX0_years_99 : decode cX0_years 99 = .ok (.aload_n 0, 1) := dk_42 (dk_at dksX0_years_4 3 rfl rfl)
theorem dX0_years_100 : decode cX0_years 100 = .ok (.getfield 21, 3) := dk_180 0 21 (dk_at dksX0_years_4 4 rfl rfl)
theorem dX0_years_103 : decode cX0_years 103 = .ok (.getfield 199, 3) := dk_180 0 199 (dk_at dksX0_years_4 7 rfl rfl)
theorem dX0_years_106 : decode cX0_years 106 = .ok (.iconst 0, 1) := dk_3 (dk_at dksX0_years_4 10 rfl rfl)
theorem dX0_years_107 : decode cX0_years 107 = .ok (.iaload, 1) := dk_46 (dk_at dksX0_years_4 11 rfl rfl)
theorem dX0_years_108 : decode cX0_years 108 = .ok (.sipush 9999, 3) := dk_17 39 15 (dk_at dksX0_years_4 12 rfl rfl)
theorem dX0_years_111 : decode cX0_years 111 = .ok (.if_icmp .ge 17, 3) := dk_162 0 17 (dk_at dksX0_years_4 15 rfl rfl)
theorem dX0_years_114 : decode cX0_years 114 = .ok (.iload_n 3, 1) := dk_29 (dk_at dksX0_years_4 18 rfl rfl)
theorem dX0_years_115 : decode cX0_years 115 = .ok (.aload_n 0, 1) := dk_42 (dk_at dksX0_years_4 19 rfl rfl)
theorem dX0_years_116 : decode cX0_years 116 = .ok (.aload_n 0, 1) := dk_42 (dk_at dksX0_years_4 20 rfl rfl)
theorem dX0_years_117 : decode cX0_years 117 = .ok (.getfield 21, 3) := dk_180 0 21 (dk_at dksX0_years_4 21 rfl rfl)
theorem dX0_years_120 : decode cX0_years 120 = .ok (.getfield 199, 3) := dk_180 0 199 (dk_at dksX0_years_5 0 rfl rfl)
theorem dX0_years_123 : decode cX0_years 123 = .ok (.invokevirtual 205, 3) := dk_182 0 205 (dk_at dksX0_years_5 3 rfl rfl)
theorem dX0_years_126 : decode cX0_years 126 = .ok (.ior, 1) := dk_128 (dk_at dksX0_years_5 6 rfl rfl)
theorem dX0_years_127 : decode cX0_years 127 = .ok (.istore_n 3, 1) := dk_62 (dk_at dksX0_years_5 7 rfl rfl)
theorem dX0_years_128 : decode cX0_years 128 = .ok (.iinc 4 1, 3) := dk_132 4 1 (dk_at dksX0_years_5 8 rfl rfl)
theorem dX0_years_131 : decode cX0_years 131 = .ok (.goto (-80), 3) := dk_167 255 176 (dk_at dksX0_years_5 11 rfl rfl)
theorem dX0_years_134 : decode cX0_years 134 = .ok (.aload_n 0, 1) := dk_42 (dk_at dksX0_years_5 14 rfl rfl)
theorem dX0_years_135 : decode cX0_years 135 = .ok (.getfield 21, 3) := dk_180 0 21 (dk_at dksX0_years_5 15 rfl rfl)
theorem dX0_years_138 : decode cX0_years 138 = .ok (.getfield 199, 3) := dk_180 0 199 (dk_at dksX0_years_5 18 rfl rfl)
theorem dX0_years_141 : decode cX0_years 141 = .ok (.iconst 0, 1) := dk_3 (dk_at dksX0_years_5 21 rfl rfl)
theorem dX0_years_142 : decode cX0_years 142 = .ok (.iaload, 1) := dk_46 (dk_at dksX0_years_5 22 rfl rfl)
theorem dX0_years_143 : decode cX0_years 143 = .ok (.ireturn, 1) := dk_172 (dk_at dksX0_years_5 23 rfl rfl)
abbrev cX0_befalls : ByteArray := prog_1_method_42_code
def yX0_befalls : MethodName := ⟨RX0, "befalls", "(I)V"⟩
def dkwX0_befalls_5 : List UInt8 := [128, 79, 177]
abbrev dktX0_befalls_5 : List UInt8 := dkwX0_befalls_5 ++ []
def dkwX0_befalls_4 : List UInt8 := [167, 0, 26, 42, 28, 182, 0, 216, 153, 0, 18, 42, 180, 0, 21, 180, 0, 199, 5, 92, 46, 4, 28, 120]
abbrev dktX0_befalls_4 : List UInt8 := dkwX0_befalls_4 ++ dktX0_befalls_5
def dkwX0_befalls_3 : List UInt8 := [79, 167, 0, 49, 42, 28, 182, 0, 222, 153, 0, 41, 42, 180, 0, 21, 180, 0, 199, 6, 28, 96, 3, 79]
abbrev dktX0_befalls_3 : List UInt8 := dkwX0_befalls_3 ++ dktX0_befalls_4
def dkwX0_befalls_2 : List UInt8 := [42, 28, 182, 0, 219, 153, 0, 69, 42, 180, 0, 21, 180, 0, 199, 5, 92, 46, 4, 28, 120, 2, 130, 126]
abbrev dktX0_befalls_2 : List UInt8 := dkwX0_befalls_2 ++ dktX0_befalls_3
def dkwX0_befalls_1 : List UInt8 := [171, 0, 0, 0, 0, 0, 0, 79, 0, 0, 0, 2, 0, 0, 0, 2, 0, 0, 0, 28, 0, 0, 0, 3, 0, 0, 0, 56]
abbrev dktX0_befalls_1 : List UInt8 := dkwX0_befalls_1 ++ dktX0_befalls_2
def dkwX0_befalls_0 : List UInt8 := [27, 16, 6, 108, 16, 8, 112, 61, 27, 16, 6, 112]
abbrev dktX0_befalls_0 : List UInt8 := dkwX0_befalls_0 ++ dktX0_befalls_1
theorem dksX0_befalls_0 : cX0_befalls.data.toList.drop 0 = dktX0_befalls_0 := by decide +kernel
theorem dksX0_befalls_1 : cX0_befalls.data.toList.drop 12 = dktX0_befalls_1 := dk_seg dksX0_befalls_0 12 rfl rfl
theorem dksX0_befalls_2 : cX0_befalls.data.toList.drop 40 = dktX0_befalls_2 := dk_seg dksX0_befalls_1 28 rfl rfl
theorem dksX0_befalls_3 : cX0_befalls.data.toList.drop 64 = dktX0_befalls_3 := dk_seg dksX0_befalls_2 24 rfl rfl
theorem dksX0_befalls_4 : cX0_befalls.data.toList.drop 88 = dktX0_befalls_4 := dk_seg dksX0_befalls_3 24 rfl rfl
theorem dksX0_befalls_5 : cX0_befalls.data.toList.drop 112 = dktX0_befalls_5 := dk_seg dksX0_befalls_4 24 rfl rfl
theorem dX0_befalls_0 : decode cX0_befalls 0 = .ok (.iload_n 1, 1) := dk_27 (dk_at dksX0_befalls_0 0 rfl rfl)
theorem dX0_befalls_1 : decode cX0_befalls 1 = .ok (.bipush 6, 2) := dk_16 6 (dk_at dksX0_befalls_0 1 rfl rfl)
theorem dX0_befalls_3 : decode cX0_befalls 3 = .ok (.idiv, 1) := dk_108 (dk_at dksX0_befalls_0 3 rfl rfl)
theorem dX0_befalls_4 : decode cX0_befalls 4 = .ok (.bipush 8, 2) := dk_16 8 (dk_at dksX0_befalls_0 4 rfl rfl)
theorem dX0_befalls_6 : decode cX0_befalls 6 = .ok (.irem, 1) := dk_112 (dk_at dksX0_befalls_0 6 rfl rfl)
theorem dX0_befalls_7 : decode cX0_befalls 7 = .ok (.istore_n 2, 1) := dk_61 (dk_at dksX0_befalls_0 7 rfl rfl)
theorem dX0_befalls_8 : decode cX0_befalls 8 = .ok (.iload_n 1, 1) := dk_27 (dk_at dksX0_befalls_0 8 rfl rfl)
theorem dX0_befalls_9 : decode cX0_befalls 9 = .ok (.bipush 6, 2) := dk_16 6 (dk_at dksX0_befalls_0 9 rfl rfl)
theorem dX0_befalls_11 : decode cX0_befalls 11 = .ok (.irem, 1) := dk_112 (dk_at dksX0_befalls_0 11 rfl rfl)
theorem dX0_befalls_12 : decode cX0_befalls 12 = .ok (.lookupswitch 79 #[(2, 28), (3, 56)], 28) := by decide +kernel
theorem dX0_befalls_40 : decode cX0_befalls 40 = .ok (.aload_n 0, 1) := dk_42 (dk_at dksX0_befalls_2 0 rfl rfl)
theorem dX0_befalls_41 : decode cX0_befalls 41 = .ok (.iload_n 2, 1) := dk_28 (dk_at dksX0_befalls_2 1 rfl rfl)
theorem dX0_befalls_42 : decode cX0_befalls 42 = .ok (.invokevirtual 219, 3) := dk_182 0 219 (dk_at dksX0_befalls_2 2 rfl rfl)
theorem dX0_befalls_45 : decode cX0_befalls 45 = .ok (.ifCond .eq 69, 3) := dk_153 0 69 (dk_at dksX0_befalls_2 5 rfl rfl)
theorem dX0_befalls_48 : decode cX0_befalls 48 = .ok (.aload_n 0, 1) := dk_42 (dk_at dksX0_befalls_2 8 rfl rfl)
theorem dX0_befalls_49 : decode cX0_befalls 49 = .ok (.getfield 21, 3) := dk_180 0 21 (dk_at dksX0_befalls_2 9 rfl rfl)
theorem dX0_befalls_52 : decode cX0_befalls 52 = .ok (.getfield 199, 3) := dk_180 0 199 (dk_at dksX0_befalls_2 12 rfl rfl)
theorem dX0_befalls_55 : decode cX0_befalls 55 = .ok (.iconst 2, 1) := dk_5 (dk_at dksX0_befalls_2 15 rfl rfl)
theorem dX0_befalls_56 : decode cX0_befalls 56 = .ok (.dup2, 1) := dk_92 (dk_at dksX0_befalls_2 16 rfl rfl)
theorem dX0_befalls_57 : decode cX0_befalls 57 = .ok (.iaload, 1) := dk_46 (dk_at dksX0_befalls_2 17 rfl rfl)
theorem dX0_befalls_58 : decode cX0_befalls 58 = .ok (.iconst 1, 1) := dk_4 (dk_at dksX0_befalls_2 18 rfl rfl)
theorem dX0_befalls_59 : decode cX0_befalls 59 = .ok (.iload_n 2, 1) := dk_28 (dk_at dksX0_befalls_2 19 rfl rfl)
theorem dX0_befalls_60 : decode cX0_befalls 60 = .ok (.ishl, 1) := dk_120 (dk_at dksX0_befalls_2 20 rfl rfl)
theorem dX0_befalls_61 : decode cX0_befalls 61 = .ok (.iconst (-1), 1) := dk_2 (dk_at dksX0_befalls_2 21 rfl rfl)
theorem dX0_befalls_62 : decode cX0_befalls 62 = .ok (.ixor, 1) := dk_130 (dk_at dksX0_befalls_2 22 rfl rfl)
theorem dX0_befalls_63 : decode cX0_befalls 63 = .ok (.iand, 1) := dk_126 (dk_at dksX0_befalls_2 23 rfl rfl)
theorem dX0_befalls_64 : decode cX0_befalls 64 = .ok (.iastore, 1) := dk_79 (dk_at dksX0_befalls_3 0 rfl rfl)
theorem dX0_befalls_65 : decode cX0_befalls 65 = .ok (.goto 49, 3) := dk_167 0 49 (dk_at dksX0_befalls_3 1 rfl rfl)
theorem dX0_befalls_68 : decode cX0_befalls 68 = .ok (.aload_n 0, 1) := dk_42 (dk_at dksX0_befalls_3 4 rfl rfl)
theorem dX0_befalls_69 : decode cX0_befalls 69 = .ok (.iload_n 2, 1) := dk_28 (dk_at dksX0_befalls_3 5 rfl rfl)
theorem dX0_befalls_70 : decode cX0_befalls 70 = .ok (.invokevirtual 222, 3) := dk_182 0 222 (dk_at dksX0_befalls_3 6 rfl rfl)
theorem dX0_befalls_73 : decode cX0_befalls 73 = .ok (.ifCond .eq 41, 3) := dk_153 0 41 (dk_at dksX0_befalls_3 9 rfl rfl)
theorem dX0_befalls_76 : decode cX0_befalls 76 = .ok (.aload_n 0, 1) := dk_42 (dk_at dksX0_befalls_3 12 rfl rfl)
theorem dX0_befalls_77 : decode cX0_befalls 77 = .ok (.getfield 21, 3) := dk_180 0 21 (dk_at dksX0_befalls_3 13 rfl rfl)
theorem dX0_befalls_80 : decode cX0_befalls 80 = .ok (.getfield 199, 3) := dk_180 0 199 (dk_at dksX0_befalls_3 16 rfl rfl)
theorem dX0_befalls_83 : decode cX0_befalls 83 = .ok (.iconst 3, 1) := dk_6 (dk_at dksX0_befalls_3 19 rfl rfl)
theorem dX0_befalls_84 : decode cX0_befalls 84 = .ok (.iload_n 2, 1) := dk_28 (dk_at dksX0_befalls_3 20 rfl rfl)
theorem dX0_befalls_85 : decode cX0_befalls 85 = .ok (.iadd, 1) := dk_96 (dk_at dksX0_befalls_3 21 rfl rfl)
theorem dX0_befalls_86 : decode cX0_befalls 86 = .ok (.iconst 0, 1) := dk_3 (dk_at dksX0_befalls_3 22 rfl rfl)
theorem dX0_befalls_87 : decode cX0_befalls 87 = .ok (.iastore, 1) := dk_79 (dk_at dksX0_befalls_3 23 rfl rfl)
theorem dX0_befalls_88 : decode cX0_befalls 88 = .ok (.goto 26, 3) := dk_167 0 26 (dk_at dksX0_befalls_4 0 rfl rfl)
theorem dX0_befalls_91 : decode cX0_befalls 91 = .ok (.aload_n 0, 1) := dk_42 (dk_at dksX0_befalls_4 3 rfl rfl)
theorem dX0_befalls_92 : decode cX0_befalls 92 = .ok (.iload_n 2, 1) := dk_28 (dk_at dksX0_befalls_4 4 rfl rfl)
theorem dX0_befalls_93 : decode cX0_befalls 93 = .ok (.invokevirtual 216, 3) := dk_182 0 216 (dk_at dksX0_befalls_4 5 rfl rfl)
theorem dX0_befalls_96 : decode cX0_befalls 96 = .ok (.ifCond .eq 18, 3) := dk_153 0 18 (dk_at dksX0_befalls_4 8 rfl rfl)
theorem dX0_befalls_99 : decode cX0_befalls 99 = .ok (.aload_n 0, 1) := dk_42 (dk_at dksX0_befalls_4 11 rfl rfl)
theorem dX0_befalls_100 : decode cX0_befalls 100 = .ok (.getfield 21, 3) := dk_180 0 21 (dk_at dksX0_befalls_4 12 rfl rfl)
theorem dX0_befalls_103 : decode cX0_befalls 103 = .ok (.getfield 199, 3) := dk_180 0 199 (dk_at dksX0_befalls_4 15 rfl rfl)
theorem dX0_befalls_106 : decode cX0_befalls 106 = .ok (.iconst 2, 1) := dk_5 (dk_at dksX0_befalls_4 18 rfl rfl)
theorem dX0_befalls_107 : decode cX0_befalls 107 = .ok (.dup2, 1) := dk_92 (dk_at dksX0_befalls_4 19 rfl rfl)
theorem dX0_befalls_108 : decode cX0_befalls 108 = .ok (.iaload, 1) := dk_46 (dk_at dksX0_befalls_4 20 rfl rfl)
theorem dX0_befalls_109 : decode cX0_befalls 109 = .ok (.iconst 1, 1) := dk_4 (dk_at dksX0_befalls_4 21 rfl rfl)
theorem dX0_befalls_110 : decode cX0_befalls 110 = .ok (.iload_n 2, 1) := dk_28 (dk_at dksX0_befalls_4 22 rfl rfl)
theorem dX0_befalls_111 : decode cX0_befalls 111 = .ok (.ishl, 1) := dk_120 (dk_at dksX0_befalls_4 23 rfl rfl)
theorem dX0_befalls_112 : decode cX0_befalls 112 = .ok (.ior, 1) := dk_128 (dk_at dksX0_befalls_5 0 rfl rfl)
theorem dX0_befalls_113 : decode cX0_befalls 113 = .ok (.iastore, 1) := dk_79 (dk_at dksX0_befalls_5 1 rfl rfl)
theorem dX0_befalls_114 : decode cX0_befalls 114 = .ok (.return_, 1) := dk_177 (dk_at dksX0_befalls_5 2 rfl rfl)
abbrev cX0_undo : ByteArray := prog_1_method_44_code
def yX0_undo : MethodName := ⟨RX0, "undo", "()I"⟩
def dkwX0_undo_2 : List UInt8 := [180, 0, 199, 184, 1, 32, 42, 180, 0, 21, 180, 0, 66, 6, 46, 172]
abbrev dktX0_undo_2 : List UInt8 := dkwX0_undo_2 ++ []
def dkwX0_undo_1 : List UInt8 := [4, 100, 79, 42, 180, 0, 21, 180, 1, 29, 42, 180, 0, 21, 180, 0, 66, 6, 46, 50, 42, 180, 0, 21]
abbrev dktX0_undo_1 : List UInt8 := dkwX0_undo_1 ++ dktX0_undo_2
def dkwX0_undo_0 : List UInt8 := [42, 180, 0, 21, 180, 0, 66, 6, 46, 154, 0, 5, 2, 172, 42, 180, 0, 21, 180, 0, 66, 6, 92, 46]
abbrev dktX0_undo_0 : List UInt8 := dkwX0_undo_0 ++ dktX0_undo_1
theorem dksX0_undo_0 : cX0_undo.data.toList.drop 0 = dktX0_undo_0 := by decide +kernel
theorem dksX0_undo_1 : cX0_undo.data.toList.drop 24 = dktX0_undo_1 := dk_seg dksX0_undo_0 24 rfl rfl
theorem dksX0_undo_2 : cX0_undo.data.toList.drop 48 = dktX0_undo_2 := dk_seg dksX0_undo_1 24 rfl rfl
theorem dX0_undo_0 : decode cX0_undo 0 = .ok (.aload_n 0, 1) := dk_42 (dk_at dksX0_undo_0 0 rfl rfl)
theorem dX0_undo_1 : decode cX0_undo 1 = .ok (.getfield 21, 3) := dk_180 0 21 (dk_at dksX0_undo_0 1 rfl rfl)
theorem dX0_undo_4 : decode cX0_undo 4 = .ok (.getfield 66, 3) := dk_180 0 66 (dk_at dksX0_undo_0 4 rfl rfl)
theorem dX0_undo_7 : decode cX0_undo 7 = .ok (.iconst 3, 1) := dk_6 (dk_at dksX0_undo_0 7 rfl rfl)
theorem dX0_undo_8 : decode cX0_undo 8 = .ok (.iaload, 1) := dk_46 (dk_at dksX0_undo_0 8 rfl rfl)
theorem dX0_undo_9 : decode cX0_undo 9 = .ok (.ifCond .ne 5, 3) := dk_154 0 5 (dk_at dksX0_undo_0 9 rfl rfl)
theorem dX0_undo_12 : decode cX0_undo 12 = .ok (.iconst (-1), 1) := dk_2 (dk_at dksX0_undo_0 12 rfl rfl)
theorem dX0_undo_13 : decode cX0_undo 13 = .ok (.ireturn, 1) := dk_172 (dk_at dksX0_undo_0 13 rfl rfl)
theorem dX0_undo_14 : decode cX0_undo 14 = .ok (.aload_n 0, 1) := dk_42 (dk_at dksX0_undo_0 14 rfl rfl)
theorem dX0_undo_15 : decode cX0_undo 15 = .ok (.getfield 21, 3) := dk_180 0 21 (dk_at dksX0_undo_0 15 rfl rfl)
theorem dX0_undo_18 : decode cX0_undo 18 = .ok (.getfield 66, 3) := dk_180 0 66 (dk_at dksX0_undo_0 18 rfl rfl)
theorem dX0_undo_21 : decode cX0_undo 21 = .ok (.iconst 3, 1) := dk_6 (dk_at dksX0_undo_0 21 rfl rfl)
theorem dX0_undo_22 : decode cX0_undo 22 = .ok (.dup2, 1) := dk_92 (dk_at dksX0_undo_0 22 rfl rfl)
theorem dX0_undo_23 : decode cX0_undo 23 = .ok (.iaload, 1) := dk_46 (dk_at dksX0_undo_0 23 rfl rfl)
theorem dX0_undo_24 : decode cX0_undo 24 = .ok (.iconst 1, 1) := dk_4 (dk_at dksX0_undo_1 0 rfl rfl)
theorem dX0_undo_25 : decode cX0_undo 25 = .ok (.isub, 1) := dk_100 (dk_at dksX0_undo_1 1 rfl rfl)
theorem dX0_undo_26 : decode cX0_undo 26 = .ok (.iastore, 1) := dk_79 (dk_at dksX0_undo_1 2 rfl rfl)
theorem dX0_undo_27 : decode cX0_undo 27 = .ok (.aload_n 0, 1) := dk_42 (dk_at dksX0_undo_1 3 rfl rfl)
theorem dX0_undo_28 : decode cX0_undo 28 = .ok (.getfield 21, 3) := dk_180 0 21 (dk_at dksX0_undo_1 4 rfl rfl)
theorem dX0_undo_31 : decode cX0_undo 31 = .ok (.getfield 285, 3) := dk_180 1 29 (dk_at dksX0_undo_1 7 rfl rfl)
theorem dX0_undo_34 : decode cX0_undo 34 = .ok (.aload_n 0, 1) := dk_42 (dk_at dksX0_undo_1 10 rfl rfl)
theorem dX0_undo_35 : decode cX0_undo 35 = .ok (.getfield 21, 3) := dk_180 0 21 (dk_at dksX0_undo_1 11 rfl rfl)
theorem dX0_undo_38 : decode cX0_undo 38 = .ok (.getfield 66, 3) := dk_180 0 66 (dk_at dksX0_undo_1 14 rfl rfl)
theorem dX0_undo_41 : decode cX0_undo 41 = .ok (.iconst 3, 1) := dk_6 (dk_at dksX0_undo_1 17 rfl rfl)
theorem dX0_undo_42 : decode cX0_undo 42 = .ok (.iaload, 1) := dk_46 (dk_at dksX0_undo_1 18 rfl rfl)
theorem dX0_undo_43 : decode cX0_undo 43 = .ok (.aaload, 1) := dk_50 (dk_at dksX0_undo_1 19 rfl rfl)
theorem dX0_undo_44 : decode cX0_undo 44 = .ok (.aload_n 0, 1) := dk_42 (dk_at dksX0_undo_1 20 rfl rfl)
theorem dX0_undo_45 : decode cX0_undo 45 = .ok (.getfield 21, 3) := dk_180 0 21 (dk_at dksX0_undo_1 21 rfl rfl)
theorem dX0_undo_48 : decode cX0_undo 48 = .ok (.getfield 199, 3) := dk_180 0 199 (dk_at dksX0_undo_2 0 rfl rfl)
theorem dX0_undo_51 : decode cX0_undo 51 = .ok (.invokestatic 288, 3) := dk_184 1 32 (dk_at dksX0_undo_2 3 rfl rfl)
theorem dX0_undo_54 : decode cX0_undo 54 = .ok (.aload_n 0, 1) := dk_42 (dk_at dksX0_undo_2 6 rfl rfl)
theorem dX0_undo_55 : decode cX0_undo 55 = .ok (.getfield 21, 3) := dk_180 0 21 (dk_at dksX0_undo_2 7 rfl rfl)
theorem dX0_undo_58 : decode cX0_undo 58 = .ok (.getfield 66, 3) := dk_180 0 66 (dk_at dksX0_undo_2 10 rfl rfl)
theorem dX0_undo_61 : decode cX0_undo 61 = .ok (.iconst 3, 1) := dk_6 (dk_at dksX0_undo_2 13 rfl rfl)
theorem dX0_undo_62 : decode cX0_undo 62 = .ok (.iaload, 1) := dk_46 (dk_at dksX0_undo_2 14 rfl rfl)
theorem dX0_undo_63 : decode cX0_undo 63 = .ok (.ireturn, 1) := dk_172 (dk_at dksX0_undo_2 15 rfl rfl)
abbrev cX0_of : ByteArray := prog_1_method_45_code
def yX0_of : MethodName := ⟨RX0, "of", "(II)I"⟩
def dkwX0_of_2 : List UInt8 := [16, 11, 167, 0, 5, 16, 16, 27, 96, 46, 172]
abbrev dktX0_of_2 : List UInt8 := dkwX0_of_2 ++ []
def dkwX0_of_1 : List UInt8 := [42, 180, 0, 21, 180, 0, 77, 27, 46, 167, 0, 25, 42, 180, 0, 21, 180, 0, 199, 28, 4, 160, 0, 8]
abbrev dktX0_of_1 : List UInt8 := dkwX0_of_1 ++ dktX0_of_2
def dkwX0_of_0 : List UInt8 := [42, 27, 182, 1, 36, 153, 0, 12, 28, 3, 5, 184, 0, 73, 154, 0, 6, 16, 254, 172, 28, 154, 0, 15]
abbrev dktX0_of_0 : List UInt8 := dkwX0_of_0 ++ dktX0_of_1
theorem dksX0_of_0 : cX0_of.data.toList.drop 0 = dktX0_of_0 := by decide +kernel
theorem dksX0_of_1 : cX0_of.data.toList.drop 24 = dktX0_of_1 := dk_seg dksX0_of_0 24 rfl rfl
theorem dksX0_of_2 : cX0_of.data.toList.drop 48 = dktX0_of_2 := dk_seg dksX0_of_1 24 rfl rfl
theorem dX0_of_0 : decode cX0_of 0 = .ok (.aload_n 0, 1) := dk_42 (dk_at dksX0_of_0 0 rfl rfl)
theorem dX0_of_1 : decode cX0_of 1 = .ok (.iload_n 1, 1) := dk_27 (dk_at dksX0_of_0 1 rfl rfl)
theorem dX0_of_2 : decode cX0_of 2 = .ok (.invokevirtual 292, 3) := dk_182 1 36 (dk_at dksX0_of_0 2 rfl rfl)
theorem dX0_of_5 : decode cX0_of 5 = .ok (.ifCond .eq 12, 3) := dk_153 0 12 (dk_at dksX0_of_0 5 rfl rfl)
theorem dX0_of_8 : decode cX0_of 8 = .ok (.iload_n 2, 1) := dk_28 (dk_at dksX0_of_0 8 rfl rfl)
theorem dX0_of_9 : decode cX0_of 9 = .ok (.iconst 0, 1) := dk_3 (dk_at dksX0_of_0 9 rfl rfl)
theorem dX0_of_10 : decode cX0_of 10 = .ok (.iconst 2, 1) := dk_5 (dk_at dksX0_of_0 10 rfl rfl)
theorem dX0_of_11 : decode cX0_of 11 = .ok (.invokestatic 73, 3) := dk_184 0 73 (dk_at dksX0_of_0 11 rfl rfl)
theorem dX0_of_14 : decode cX0_of 14 = .ok (.ifCond .ne 6, 3) := dk_154 0 6 (dk_at dksX0_of_0 14 rfl rfl)
theorem dX0_of_17 : decode cX0_of 17 = .ok (.bipush (-2), 2) := dk_16 254 (dk_at dksX0_of_0 17 rfl rfl)
theorem dX0_of_19 : decode cX0_of 19 = .ok (.ireturn, 1) := dk_172 (dk_at dksX0_of_0 19 rfl rfl)
theorem dX0_of_20 : decode cX0_of 20 = .ok (.iload_n 2, 1) := dk_28 (dk_at dksX0_of_0 20 rfl rfl)
theorem dX0_of_21 : decode cX0_of 21 = .ok (.ifCond .ne 15, 3) := dk_154 0 15 (dk_at dksX0_of_0 21 rfl rfl)
theorem dX0_of_24 : decode cX0_of 24 = .ok (.aload_n 0, 1) := dk_42 (dk_at dksX0_of_1 0 rfl rfl)
theorem dX0_of_25 : decode cX0_of 25 = .ok (.getfield 21, 3) := dk_180 0 21 (dk_at dksX0_of_1 1 rfl rfl)
theorem dX0_of_28 : decode cX0_of 28 = .ok (.getfield 77, 3) := dk_180 0 77 (dk_at dksX0_of_1 4 rfl rfl)
theorem dX0_of_31 : decode cX0_of 31 = .ok (.iload_n 1, 1) := dk_27 (dk_at dksX0_of_1 7 rfl rfl)
theorem dX0_of_32 : decode cX0_of 32 = .ok (.iaload, 1) := dk_46 (dk_at dksX0_of_1 8 rfl rfl)
theorem dX0_of_33 : decode cX0_of 33 = .ok (.goto 25, 3) := dk_167 0 25 (dk_at dksX0_of_1 9 rfl rfl)
theorem dX0_of_36 : decode cX0_of 36 = .ok (.aload_n 0, 1) := dk_42 (dk_at dksX0_of_1 12 rfl rfl)
theorem dX0_of_37 : decode cX0_of 37 = .ok (.getfield 21, 3) := dk_180 0 21 (dk_at dksX0_of_1 13 rfl rfl)
theorem dX0_of_40 : decode cX0_of 40 = .ok (.getfield 199, 3) := dk_180 0 199 (dk_at dksX0_of_1 16 rfl rfl)
theorem dX0_of_43 : decode cX0_of 43 = .ok (.iload_n 2, 1) := dk_28 (dk_at dksX0_of_1 19 rfl rfl)
theorem dX0_of_44 : decode cX0_of 44 = .ok (.iconst 1, 1) := dk_4 (dk_at dksX0_of_1 20 rfl rfl)
theorem dX0_of_45 : decode cX0_of 45 = .ok (.if_icmp .ne 8, 3) := dk_160 0 8 (dk_at dksX0_of_1 21 rfl rfl)
theorem dX0_of_48 : decode cX0_of 48 = .ok (.bipush 11, 2) := dk_16 11 (dk_at dksX0_of_2 0 rfl rfl)
theorem dX0_of_50 : decode cX0_of 50 = .ok (.goto 5, 3) := dk_167 0 5 (dk_at dksX0_of_2 2 rfl rfl)
theorem dX0_of_53 : decode cX0_of 53 = .ok (.bipush 16, 2) := dk_16 16 (dk_at dksX0_of_2 5 rfl rfl)
theorem dX0_of_55 : decode cX0_of 55 = .ok (.iload_n 1, 1) := dk_27 (dk_at dksX0_of_2 7 rfl rfl)
theorem dX0_of_56 : decode cX0_of 56 = .ok (.iadd, 1) := dk_96 (dk_at dksX0_of_2 8 rfl rfl)
theorem dX0_of_57 : decode cX0_of 57 = .ok (.iaload, 1) := dk_46 (dk_at dksX0_of_2 9 rfl rfl)
theorem dX0_of_58 : decode cX0_of 58 = .ok (.ireturn, 1) := dk_172 (dk_at dksX0_of_2 10 rfl rfl)
abbrev cX0_isFarmer : ByteArray := prog_1_method_6_code
def yX0_isFarmer : MethodName := ⟨RX0, "isFarmer", "(I)Z"⟩
def dkwX0_isFarmer_0 : List UInt8 := [27, 3, 42, 182, 0, 69, 4, 100, 184, 0, 73, 172]
abbrev dktX0_isFarmer_0 : List UInt8 := dkwX0_isFarmer_0 ++ []
theorem dksX0_isFarmer_0 : cX0_isFarmer.data.toList.drop 0 = dktX0_isFarmer_0 := by decide +kernel
theorem dX0_isFarmer_0 : decode cX0_isFarmer 0 = .ok (.iload_n 1, 1) := dk_27 (dk_at dksX0_isFarmer_0 0 rfl rfl)
theorem dX0_isFarmer_1 : decode cX0_isFarmer 1 = .ok (.iconst 0, 1) := dk_3 (dk_at dksX0_isFarmer_0 1 rfl rfl)
theorem dX0_isFarmer_2 : decode cX0_isFarmer 2 = .ok (.aload_n 0, 1) := dk_42 (dk_at dksX0_isFarmer_0 2 rfl rfl)
theorem dX0_isFarmer_3 : decode cX0_isFarmer 3 = .ok (.invokevirtual 69, 3) := dk_182 0 69 (dk_at dksX0_isFarmer_0 3 rfl rfl)
theorem dX0_isFarmer_6 : decode cX0_isFarmer 6 = .ok (.iconst 1, 1) := dk_4 (dk_at dksX0_isFarmer_0 6 rfl rfl)
theorem dX0_isFarmer_7 : decode cX0_isFarmer 7 = .ok (.isub, 1) := dk_100 (dk_at dksX0_isFarmer_0 7 rfl rfl)
theorem dX0_isFarmer_8 : decode cX0_isFarmer 8 = .ok (.invokestatic 73, 3) := dk_184 0 73 (dk_at dksX0_isFarmer_0 8 rfl rfl)
theorem dX0_isFarmer_11 : decode cX0_isFarmer 11 = .ok (.ireturn, 1) := dk_172 (dk_at dksX0_isFarmer_0 11 rfl rfl)
abbrev cX0_claim : ByteArray := prog_1_method_46_code
def yX0_claim : MethodName := ⟨RX0, "claim", "(II)I"⟩
def dkwX0_claim_2 : List UInt8 := [46, 27, 122, 4, 126, 167, 0, 14, 42, 180, 0, 21, 180, 0, 199, 6, 27, 96, 46, 172]
abbrev dktX0_claim_2 : List UInt8 := dkwX0_claim_2 ++ []
def dkwX0_claim_1 : List UInt8 := [182, 0, 124, 180, 0, 142, 27, 46, 167, 0, 35, 28, 4, 160, 0, 19, 42, 180, 0, 21, 180, 0, 199, 5]
abbrev dktX0_claim_1 : List UInt8 := dkwX0_claim_1 ++ dktX0_claim_2
def dkwX0_claim_0 : List UInt8 := [42, 27, 182, 0, 213, 153, 0, 12, 28, 3, 5, 184, 0, 73, 154, 0, 5, 2, 172, 28, 154, 0, 15, 42]
abbrev dktX0_claim_0 : List UInt8 := dkwX0_claim_0 ++ dktX0_claim_1
theorem dksX0_claim_0 : cX0_claim.data.toList.drop 0 = dktX0_claim_0 := by decide +kernel
theorem dksX0_claim_1 : cX0_claim.data.toList.drop 24 = dktX0_claim_1 := dk_seg dksX0_claim_0 24 rfl rfl
theorem dksX0_claim_2 : cX0_claim.data.toList.drop 48 = dktX0_claim_2 := dk_seg dksX0_claim_1 24 rfl rfl
theorem dX0_claim_0 : decode cX0_claim 0 = .ok (.aload_n 0, 1) := dk_42 (dk_at dksX0_claim_0 0 rfl rfl)
theorem dX0_claim_1 : decode cX0_claim 1 = .ok (.iload_n 1, 1) := dk_27 (dk_at dksX0_claim_0 1 rfl rfl)
theorem dX0_claim_2 : decode cX0_claim 2 = .ok (.invokevirtual 213, 3) := dk_182 0 213 (dk_at dksX0_claim_0 2 rfl rfl)
theorem dX0_claim_5 : decode cX0_claim 5 = .ok (.ifCond .eq 12, 3) := dk_153 0 12 (dk_at dksX0_claim_0 5 rfl rfl)
theorem dX0_claim_8 : decode cX0_claim 8 = .ok (.iload_n 2, 1) := dk_28 (dk_at dksX0_claim_0 8 rfl rfl)
theorem dX0_claim_9 : decode cX0_claim 9 = .ok (.iconst 0, 1) := dk_3 (dk_at dksX0_claim_0 9 rfl rfl)
theorem dX0_claim_10 : decode cX0_claim 10 = .ok (.iconst 2, 1) := dk_5 (dk_at dksX0_claim_0 10 rfl rfl)
theorem dX0_claim_11 : decode cX0_claim 11 = .ok (.invokestatic 73, 3) := dk_184 0 73 (dk_at dksX0_claim_0 11 rfl rfl)
theorem dX0_claim_14 : decode cX0_claim 14 = .ok (.ifCond .ne 5, 3) := dk_154 0 5 (dk_at dksX0_claim_0 14 rfl rfl)
theorem dX0_claim_17 : decode cX0_claim 17 = .ok (.iconst (-1), 1) := dk_2 (dk_at dksX0_claim_0 17 rfl rfl)
theorem dX0_claim_18 : decode cX0_claim 18 = .ok (.ireturn, 1) := dk_172 (dk_at dksX0_claim_0 18 rfl rfl)
theorem dX0_claim_19 : decode cX0_claim 19 = .ok (.iload_n 2, 1) := dk_28 (dk_at dksX0_claim_0 19 rfl rfl)
theorem dX0_claim_20 : decode cX0_claim 20 = .ok (.ifCond .ne 15, 3) := dk_154 0 15 (dk_at dksX0_claim_0 20 rfl rfl)
theorem dX0_claim_23 : decode cX0_claim 23 = .ok (.aload_n 0, 1) := dk_42 (dk_at dksX0_claim_0 23 rfl rfl)
theorem dX0_claim_24 : decode cX0_claim 24 = .ok (.invokevirtual 124, 3) := dk_182 0 124 (dk_at dksX0_claim_1 0 rfl rfl)
theorem dX0_claim_27 : decode cX0_claim 27 = .ok (.getfield 142, 3) := dk_180 0 142 (dk_at dksX0_claim_1 3 rfl rfl)
theorem dX0_claim_30 : decode cX0_claim 30 = .ok (.iload_n 1, 1) := dk_27 (dk_at dksX0_claim_1 6 rfl rfl)
theorem dX0_claim_31 : decode cX0_claim 31 = .ok (.iaload, 1) := dk_46 (dk_at dksX0_claim_1 7 rfl rfl)
theorem dX0_claim_32 : decode cX0_claim 32 = .ok (.goto 35, 3) := dk_167 0 35 (dk_at dksX0_claim_1 8 rfl rfl)
theorem dX0_claim_35 : decode cX0_claim 35 = .ok (.iload_n 2, 1) := dk_28 (dk_at dksX0_claim_1 11 rfl rfl)
theorem dX0_claim_36 : decode cX0_claim 36 = .ok (.iconst 1, 1) := dk_4 (dk_at dksX0_claim_1 12 rfl rfl)
theorem dX0_claim_37 : decode cX0_claim 37 = .ok (.if_icmp .ne 19, 3) := dk_160 0 19 (dk_at dksX0_claim_1 13 rfl rfl)
theorem dX0_claim_40 : decode cX0_claim 40 = .ok (.aload_n 0, 1) := dk_42 (dk_at dksX0_claim_1 16 rfl rfl)
theorem dX0_claim_41 : decode cX0_claim 41 = .ok (.getfield 21, 3) := dk_180 0 21 (dk_at dksX0_claim_1 17 rfl rfl)
theorem dX0_claim_44 : decode cX0_claim 44 = .ok (.getfield 199, 3) := dk_180 0 199 (dk_at dksX0_claim_1 20 rfl rfl)
theorem dX0_claim_47 : decode cX0_claim 47 = .ok (.iconst 2, 1) := dk_5 (dk_at dksX0_claim_1 23 rfl rfl)
theorem dX0_claim_48 : decode cX0_claim 48 = .ok (.iaload, 1) := dk_46 (dk_at dksX0_claim_2 0 rfl rfl)
theorem dX0_claim_49 : decode cX0_claim 49 = .ok (.iload_n 1, 1) := dk_27 (dk_at dksX0_claim_2 1 rfl rfl)
theorem dX0_claim_50 : decode cX0_claim 50 = .ok (.ishr, 1) := dk_122 (dk_at dksX0_claim_2 2 rfl rfl)
theorem dX0_claim_51 : decode cX0_claim 51 = .ok (.iconst 1, 1) := dk_4 (dk_at dksX0_claim_2 3 rfl rfl)
theorem dX0_claim_52 : decode cX0_claim 52 = .ok (.iand, 1) := dk_126 (dk_at dksX0_claim_2 4 rfl rfl)
theorem dX0_claim_53 : decode cX0_claim 53 = .ok (.goto 14, 3) := dk_167 0 14 (dk_at dksX0_claim_2 5 rfl rfl)
theorem dX0_claim_56 : decode cX0_claim 56 = .ok (.aload_n 0, 1) := dk_42 (dk_at dksX0_claim_2 8 rfl rfl)
theorem dX0_claim_57 : decode cX0_claim 57 = .ok (.getfield 21, 3) := dk_180 0 21 (dk_at dksX0_claim_2 9 rfl rfl)
theorem dX0_claim_60 : decode cX0_claim 60 = .ok (.getfield 199, 3) := dk_180 0 199 (dk_at dksX0_claim_2 12 rfl rfl)
theorem dX0_claim_63 : decode cX0_claim 63 = .ok (.iconst 3, 1) := dk_6 (dk_at dksX0_claim_2 15 rfl rfl)
theorem dX0_claim_64 : decode cX0_claim 64 = .ok (.iload_n 1, 1) := dk_27 (dk_at dksX0_claim_2 16 rfl rfl)
theorem dX0_claim_65 : decode cX0_claim 65 = .ok (.iadd, 1) := dk_96 (dk_at dksX0_claim_2 17 rfl rfl)
theorem dX0_claim_66 : decode cX0_claim 66 = .ok (.iaload, 1) := dk_46 (dk_at dksX0_claim_2 18 rfl rfl)
theorem dX0_claim_67 : decode cX0_claim 67 = .ok (.ireturn, 1) := dk_172 (dk_at dksX0_claim_2 19 rfl rfl)
abbrev cX0_is : ByteArray := prog_1_method_48_code
def yX0_is : MethodName := ⟨RX0, "is", "(I)I"⟩
def dkwX0_is_3 : List UInt8 := [180, 0, 21, 180, 0, 199, 182, 0, 145, 172, 42, 182, 1, 39, 172, 42, 182, 0, 132, 172, 16, 254, 172]
abbrev dktX0_is_3 : List UInt8 := dkwX0_is_3 ++ []
def dkwX0_is_2 : List UInt8 := [42, 180, 0, 21, 180, 0, 199, 3, 46, 172, 42, 180, 0, 21, 180, 0, 199, 4, 46, 172, 42, 42]
abbrev dktX0_is_2 : List UInt8 := dkwX0_is_2 ++ dktX0_is_3
def dkwX0_is_1 : List UInt8 := [170, 0, 0, 0, 0, 0, 77, 0, 0, 0, 0, 0, 0, 0, 4, 0, 0, 0, 35, 0, 0, 0, 45, 0, 0, 0, 55, 0, 0, 0, 67, 0, 0, 0, 72]
abbrev dktX0_is_1 : List UInt8 := dkwX0_is_1 ++ dktX0_is_2
def dkwX0_is_0 : List UInt8 := [27]
abbrev dktX0_is_0 : List UInt8 := dkwX0_is_0 ++ dktX0_is_1
theorem dksX0_is_0 : cX0_is.data.toList.drop 0 = dktX0_is_0 := by decide +kernel
theorem dksX0_is_1 : cX0_is.data.toList.drop 1 = dktX0_is_1 := dk_seg dksX0_is_0 1 rfl rfl
theorem dksX0_is_2 : cX0_is.data.toList.drop 36 = dktX0_is_2 := dk_seg dksX0_is_1 35 rfl rfl
theorem dksX0_is_3 : cX0_is.data.toList.drop 58 = dktX0_is_3 := dk_seg dksX0_is_2 22 rfl rfl
theorem dX0_is_0 : decode cX0_is 0 = .ok (.iload_n 1, 1) := dk_27 (dk_at dksX0_is_0 0 rfl rfl)
theorem dX0_is_1 : decode cX0_is 1 = .ok (.tableswitch 77 0 4 #[35, 45, 55, 67, 72], 35) := by decide +kernel
theorem dX0_is_36 : decode cX0_is 36 = .ok (.aload_n 0, 1) := dk_42 (dk_at dksX0_is_2 0 rfl rfl)
theorem dX0_is_37 : decode cX0_is 37 = .ok (.getfield 21, 3) := dk_180 0 21 (dk_at dksX0_is_2 1 rfl rfl)
theorem dX0_is_40 : decode cX0_is 40 = .ok (.getfield 199, 3) := dk_180 0 199 (dk_at dksX0_is_2 4 rfl rfl)
theorem dX0_is_43 : decode cX0_is 43 = .ok (.iconst 0, 1) := dk_3 (dk_at dksX0_is_2 7 rfl rfl)
theorem dX0_is_44 : decode cX0_is 44 = .ok (.iaload, 1) := dk_46 (dk_at dksX0_is_2 8 rfl rfl)
theorem dX0_is_45 : decode cX0_is 45 = .ok (.ireturn, 1) := dk_172 (dk_at dksX0_is_2 9 rfl rfl)
theorem dX0_is_46 : decode cX0_is 46 = .ok (.aload_n 0, 1) := dk_42 (dk_at dksX0_is_2 10 rfl rfl)
theorem dX0_is_47 : decode cX0_is 47 = .ok (.getfield 21, 3) := dk_180 0 21 (dk_at dksX0_is_2 11 rfl rfl)
theorem dX0_is_50 : decode cX0_is 50 = .ok (.getfield 199, 3) := dk_180 0 199 (dk_at dksX0_is_2 14 rfl rfl)
theorem dX0_is_53 : decode cX0_is 53 = .ok (.iconst 1, 1) := dk_4 (dk_at dksX0_is_2 17 rfl rfl)
theorem dX0_is_54 : decode cX0_is 54 = .ok (.iaload, 1) := dk_46 (dk_at dksX0_is_2 18 rfl rfl)
theorem dX0_is_55 : decode cX0_is 55 = .ok (.ireturn, 1) := dk_172 (dk_at dksX0_is_2 19 rfl rfl)
theorem dX0_is_56 : decode cX0_is 56 = .ok (.aload_n 0, 1) := dk_42 (dk_at dksX0_is_2 20 rfl rfl)
theorem dX0_is_57 : decode cX0_is 57 = .ok (.aload_n 0, 1) := dk_42 (dk_at dksX0_is_2 21 rfl rfl)
theorem dX0_is_58 : decode cX0_is 58 = .ok (.getfield 21, 3) := dk_180 0 21 (dk_at dksX0_is_3 0 rfl rfl)
theorem dX0_is_61 : decode cX0_is 61 = .ok (.getfield 199, 3) := dk_180 0 199 (dk_at dksX0_is_3 3 rfl rfl)
theorem dX0_is_64 : decode cX0_is 64 = .ok (.invokevirtual 145, 3) := dk_182 0 145 (dk_at dksX0_is_3 6 rfl rfl)
theorem dX0_is_67 : decode cX0_is 67 = .ok (.ireturn, 1) := dk_172 (dk_at dksX0_is_3 9 rfl rfl)
theorem dX0_is_68 : decode cX0_is 68 = .ok (.aload_n 0, 1) := dk_42 (dk_at dksX0_is_3 10 rfl rfl)
theorem dX0_is_69 : decode cX0_is 69 = .ok (.invokevirtual 295, 3) := dk_182 1 39 (dk_at dksX0_is_3 11 rfl rfl)
theorem dX0_is_72 : decode cX0_is 72 = .ok (.ireturn, 1) := dk_172 (dk_at dksX0_is_3 14 rfl rfl)
theorem dX0_is_73 : decode cX0_is 73 = .ok (.aload_n 0, 1) := dk_42 (dk_at dksX0_is_3 15 rfl rfl)
theorem dX0_is_74 : decode cX0_is 74 = .ok (.invokevirtual 132, 3) := dk_182 0 132 (dk_at dksX0_is_3 16 rfl rfl)
theorem dX0_is_77 : decode cX0_is 77 = .ok (.ireturn, 1) := dk_172 (dk_at dksX0_is_3 19 rfl rfl)
theorem dX0_is_78 : decode cX0_is 78 = .ok (.bipush (-2), 2) := dk_16 254 (dk_at dksX0_is_3 20 rfl rfl)
theorem dX0_is_80 : decode cX0_is 80 = .ok (.ireturn, 1) := dk_172 (dk_at dksX0_is_3 22 rfl rfl)
abbrev cX0_barredNow : ByteArray := prog_1_method_47_code
def yX0_barredNow : MethodName := ⟨RX0, "barredNow", "()I"⟩
def dkwX0_barredNow_1 : List UInt8 := [158, 0, 9, 4, 28, 120, 167, 0, 4, 3, 128, 60, 132, 2, 1, 167, 255, 221, 27, 172]
abbrev dktX0_barredNow_1 : List UInt8 := dkwX0_barredNow_1 ++ []
def dkwX0_barredNow_0 : List UInt8 := [3, 60, 3, 61, 28, 42, 182, 0, 132, 162, 0, 33, 27, 42, 180, 0, 21, 180, 0, 199, 6, 28, 96, 46]
abbrev dktX0_barredNow_0 : List UInt8 := dkwX0_barredNow_0 ++ dktX0_barredNow_1
theorem dksX0_barredNow_0 : cX0_barredNow.data.toList.drop 0 = dktX0_barredNow_0 := by decide +kernel
theorem dksX0_barredNow_1 : cX0_barredNow.data.toList.drop 24 = dktX0_barredNow_1 := dk_seg dksX0_barredNow_0 24 rfl rfl
theorem dX0_barredNow_0 : decode cX0_barredNow 0 = .ok (.iconst 0, 1) := dk_3 (dk_at dksX0_barredNow_0 0 rfl rfl)
theorem dX0_barredNow_1 : decode cX0_barredNow 1 = .ok (.istore_n 1, 1) := dk_60 (dk_at dksX0_barredNow_0 1 rfl rfl)
theorem dX0_barredNow_2 : decode cX0_barredNow 2 = .ok (.iconst 0, 1) := dk_3 (dk_at dksX0_barredNow_0 2 rfl rfl)
theorem dX0_barredNow_3 : decode cX0_barredNow 3 = .ok (.istore_n 2, 1) := dk_61 (dk_at dksX0_barredNow_0 3 rfl rfl)
theorem dX0_barredNow_4 : decode cX0_barredNow 4 = .ok (.iload_n 2, 1) := dk_28 (dk_at dksX0_barredNow_0 4 rfl rfl)
theorem dX0_barredNow_5 : decode cX0_barredNow 5 = .ok (.aload_n 0, 1) := dk_42 (dk_at dksX0_barredNow_0 5 rfl rfl)
theorem dX0_barredNow_6 : decode cX0_barredNow 6 = .ok (.invokevirtual 132, 3) := dk_182 0 132 (dk_at dksX0_barredNow_0 6 rfl rfl)
theorem dX0_barredNow_9 : decode cX0_barredNow 9 = .ok (.if_icmp .ge 33, 3) := dk_162 0 33 (dk_at dksX0_barredNow_0 9 rfl rfl)
theorem dX0_barredNow_12 : decode cX0_barredNow 12 = .ok (.iload_n 1, 1) := dk_27 (dk_at dksX0_barredNow_0 12 rfl rfl)
theorem dX0_barredNow_13 : decode cX0_barredNow 13 = .ok (.aload_n 0, 1) := dk_42 (dk_at dksX0_barredNow_0 13 rfl rfl)
theorem dX0_barredNow_14 : decode cX0_barredNow 14 = .ok (.getfield 21, 3) := dk_180 0 21 (dk_at dksX0_barredNow_0 14 rfl rfl)
theorem dX0_barredNow_17 : decode cX0_barredNow 17 = .ok (.getfield 199, 3) := dk_180 0 199 (dk_at dksX0_barredNow_0 17 rfl rfl)
theorem dX0_barredNow_20 : decode cX0_barredNow 20 = .ok (.iconst 3, 1) := dk_6 (dk_at dksX0_barredNow_0 20 rfl rfl)
theorem dX0_barredNow_21 : decode cX0_barredNow 21 = .ok (.iload_n 2, 1) := dk_28 (dk_at dksX0_barredNow_0 21 rfl rfl)
theorem dX0_barredNow_22 : decode cX0_barredNow 22 = .ok (.iadd, 1) := dk_96 (dk_at dksX0_barredNow_0 22 rfl rfl)
theorem dX0_barredNow_23 : decode cX0_barredNow 23 = .ok (.iaload, 1) := dk_46 (dk_at dksX0_barredNow_0 23 rfl rfl)
theorem dX0_barredNow_24 : decode cX0_barredNow 24 = .ok (.ifCond .le 9, 3) := dk_158 0 9 (dk_at dksX0_barredNow_1 0 rfl rfl)
theorem dX0_barredNow_27 : decode cX0_barredNow 27 = .ok (.iconst 1, 1) := dk_4 (dk_at dksX0_barredNow_1 3 rfl rfl)
theorem dX0_barredNow_28 : decode cX0_barredNow 28 = .ok (.iload_n 2, 1) := dk_28 (dk_at dksX0_barredNow_1 4 rfl rfl)
theorem dX0_barredNow_29 : decode cX0_barredNow 29 = .ok (.ishl, 1) := dk_120 (dk_at dksX0_barredNow_1 5 rfl rfl)
theorem dX0_barredNow_30 : decode cX0_barredNow 30 = .ok (.goto 4, 3) := dk_167 0 4 (dk_at dksX0_barredNow_1 6 rfl rfl)
theorem dX0_barredNow_33 : decode cX0_barredNow 33 = .ok (.iconst 0, 1) := dk_3 (dk_at dksX0_barredNow_1 9 rfl rfl)
theorem dX0_barredNow_34 : decode cX0_barredNow 34 = .ok (.ior, 1) := dk_128 (dk_at dksX0_barredNow_1 10 rfl rfl)
theorem dX0_barredNow_35 : decode cX0_barredNow 35 = .ok (.istore_n 1, 1) := dk_60 (dk_at dksX0_barredNow_1 11 rfl rfl)
theorem dX0_barredNow_36 : decode cX0_barredNow 36 = .ok (.iinc 2 1, 3) := dk_132 2 1 (dk_at dksX0_barredNow_1 12 rfl rfl)
theorem dX0_barredNow_39 : decode cX0_barredNow 39 = .ok (.goto (-35), 3) := dk_167 255 221 (dk_at dksX0_barredNow_1 15 rfl rfl)
theorem dX0_barredNow_42 : decode cX0_barredNow 42 = .ok (.iload_n 1, 1) := dk_27 (dk_at dksX0_barredNow_1 18 rfl rfl)
theorem dX0_barredNow_43 : decode cX0_barredNow 43 = .ok (.ireturn, 1) := dk_172 (dk_at dksX0_barredNow_1 19 rfl rfl)
abbrev cX0_worth : ByteArray := prog_1_method_49_code
def yX0_worth : MethodName := ⟨RX0, "worth", "(II)I"⟩
def dkwX0_worth_1 : List UInt8 := [180, 0, 199, 27, 28, 182, 0, 184, 167, 0, 5, 16, 156, 172]
abbrev dktX0_worth_1 : List UInt8 := dkwX0_worth_1 ++ []
def dkwX0_worth_0 : List UInt8 := [42, 27, 182, 1, 36, 153, 0, 30, 28, 184, 0, 80, 153, 0, 23, 42, 42, 182, 0, 124, 42, 180, 0, 21]
abbrev dktX0_worth_0 : List UInt8 := dkwX0_worth_0 ++ dktX0_worth_1
theorem dksX0_worth_0 : cX0_worth.data.toList.drop 0 = dktX0_worth_0 := by decide +kernel
theorem dksX0_worth_1 : cX0_worth.data.toList.drop 24 = dktX0_worth_1 := dk_seg dksX0_worth_0 24 rfl rfl
theorem dX0_worth_0 : decode cX0_worth 0 = .ok (.aload_n 0, 1) := dk_42 (dk_at dksX0_worth_0 0 rfl rfl)
theorem dX0_worth_1 : decode cX0_worth 1 = .ok (.iload_n 1, 1) := dk_27 (dk_at dksX0_worth_0 1 rfl rfl)
theorem dX0_worth_2 : decode cX0_worth 2 = .ok (.invokevirtual 292, 3) := dk_182 1 36 (dk_at dksX0_worth_0 2 rfl rfl)
theorem dX0_worth_5 : decode cX0_worth 5 = .ok (.ifCond .eq 30, 3) := dk_153 0 30 (dk_at dksX0_worth_0 5 rfl rfl)
theorem dX0_worth_8 : decode cX0_worth 8 = .ok (.iload_n 2, 1) := dk_28 (dk_at dksX0_worth_0 8 rfl rfl)
theorem dX0_worth_9 : decode cX0_worth 9 = .ok (.invokestatic 80, 3) := dk_184 0 80 (dk_at dksX0_worth_0 9 rfl rfl)
theorem dX0_worth_12 : decode cX0_worth 12 = .ok (.ifCond .eq 23, 3) := dk_153 0 23 (dk_at dksX0_worth_0 12 rfl rfl)
theorem dX0_worth_15 : decode cX0_worth 15 = .ok (.aload_n 0, 1) := dk_42 (dk_at dksX0_worth_0 15 rfl rfl)
theorem dX0_worth_16 : decode cX0_worth 16 = .ok (.aload_n 0, 1) := dk_42 (dk_at dksX0_worth_0 16 rfl rfl)
theorem dX0_worth_17 : decode cX0_worth 17 = .ok (.invokevirtual 124, 3) := dk_182 0 124 (dk_at dksX0_worth_0 17 rfl rfl)
theorem dX0_worth_20 : decode cX0_worth 20 = .ok (.aload_n 0, 1) := dk_42 (dk_at dksX0_worth_0 20 rfl rfl)
theorem dX0_worth_21 : decode cX0_worth 21 = .ok (.getfield 21, 3) := dk_180 0 21 (dk_at dksX0_worth_0 21 rfl rfl)
theorem dX0_worth_24 : decode cX0_worth 24 = .ok (.getfield 199, 3) := dk_180 0 199 (dk_at dksX0_worth_1 0 rfl rfl)
theorem dX0_worth_27 : decode cX0_worth 27 = .ok (.iload_n 1, 1) := dk_27 (dk_at dksX0_worth_1 3 rfl rfl)
theorem dX0_worth_28 : decode cX0_worth 28 = .ok (.iload_n 2, 1) := dk_28 (dk_at dksX0_worth_1 4 rfl rfl)
theorem dX0_worth_29 : decode cX0_worth 29 = .ok (.invokevirtual 184, 3) := dk_182 0 184 (dk_at dksX0_worth_1 5 rfl rfl)
theorem dX0_worth_32 : decode cX0_worth 32 = .ok (.goto 5, 3) := dk_167 0 5 (dk_at dksX0_worth_1 8 rfl rfl)
theorem dX0_worth_35 : decode cX0_worth 35 = .ok (.bipush (-100), 2) := dk_16 156 (dk_at dksX0_worth_1 11 rfl rfl)
theorem dX0_worth_37 : decode cX0_worth 37 = .ok (.ireturn, 1) := dk_172 (dk_at dksX0_worth_1 13 rfl rfl)
abbrev cX0_book : ByteArray := prog_1_method_50_code
def yX0_book : MethodName := ⟨RX0, "book", "(II)I"⟩
def dkwX0_book_2 : List UInt8 := [180, 0, 21, 180, 0, 199, 16, 22, 8, 27, 104, 96, 28, 96, 46, 167, 0, 5, 16, 254, 172]
abbrev dktX0_book_2 : List UInt8 := dkwX0_book_2 ++ []
def dkwX0_book_1 : List UInt8 := [180, 0, 199, 16, 21, 46, 4, 100, 184, 0, 73, 153, 0, 31, 28, 3, 7, 184, 0, 73, 153, 0, 22, 42]
abbrev dktX0_book_1 : List UInt8 := dkwX0_book_1 ++ dktX0_book_2
def dkwX0_book_0 : List UInt8 := [27, 2, 160, 0, 14, 42, 180, 0, 21, 180, 0, 199, 16, 21, 46, 172, 27, 3, 42, 180, 0, 21]
abbrev dktX0_book_0 : List UInt8 := dkwX0_book_0 ++ dktX0_book_1
theorem dksX0_book_0 : cX0_book.data.toList.drop 0 = dktX0_book_0 := by decide +kernel
theorem dksX0_book_1 : cX0_book.data.toList.drop 22 = dktX0_book_1 := dk_seg dksX0_book_0 22 rfl rfl
theorem dksX0_book_2 : cX0_book.data.toList.drop 46 = dktX0_book_2 := dk_seg dksX0_book_1 24 rfl rfl
theorem dX0_book_0 : decode cX0_book 0 = .ok (.iload_n 1, 1) := dk_27 (dk_at dksX0_book_0 0 rfl rfl)
theorem dX0_book_1 : decode cX0_book 1 = .ok (.iconst (-1), 1) := dk_2 (dk_at dksX0_book_0 1 rfl rfl)
theorem dX0_book_2 : decode cX0_book 2 = .ok (.if_icmp .ne 14, 3) := dk_160 0 14 (dk_at dksX0_book_0 2 rfl rfl)
theorem dX0_book_5 : decode cX0_book 5 = .ok (.aload_n 0, 1) := dk_42 (dk_at dksX0_book_0 5 rfl rfl)
theorem dX0_book_6 : decode cX0_book 6 = .ok (.getfield 21, 3) := dk_180 0 21 (dk_at dksX0_book_0 6 rfl rfl)
theorem dX0_book_9 : decode cX0_book 9 = .ok (.getfield 199, 3) := dk_180 0 199 (dk_at dksX0_book_0 9 rfl rfl)
theorem dX0_book_12 : decode cX0_book 12 = .ok (.bipush 21, 2) := dk_16 21 (dk_at dksX0_book_0 12 rfl rfl)
theorem dX0_book_14 : decode cX0_book 14 = .ok (.iaload, 1) := dk_46 (dk_at dksX0_book_0 14 rfl rfl)
theorem dX0_book_15 : decode cX0_book 15 = .ok (.ireturn, 1) := dk_172 (dk_at dksX0_book_0 15 rfl rfl)
theorem dX0_book_16 : decode cX0_book 16 = .ok (.iload_n 1, 1) := dk_27 (dk_at dksX0_book_0 16 rfl rfl)
theorem dX0_book_17 : decode cX0_book 17 = .ok (.iconst 0, 1) := dk_3 (dk_at dksX0_book_0 17 rfl rfl)
theorem dX0_book_18 : decode cX0_book 18 = .ok (.aload_n 0, 1) := dk_42 (dk_at dksX0_book_0 18 rfl rfl)
theorem dX0_book_19 : decode cX0_book 19 = .ok (.getfield 21, 3) := dk_180 0 21 (dk_at dksX0_book_0 19 rfl rfl)
theorem dX0_book_22 : decode cX0_book 22 = .ok (.getfield 199, 3) := dk_180 0 199 (dk_at dksX0_book_1 0 rfl rfl)
theorem dX0_book_25 : decode cX0_book 25 = .ok (.bipush 21, 2) := dk_16 21 (dk_at dksX0_book_1 3 rfl rfl)
theorem dX0_book_27 : decode cX0_book 27 = .ok (.iaload, 1) := dk_46 (dk_at dksX0_book_1 5 rfl rfl)
theorem dX0_book_28 : decode cX0_book 28 = .ok (.iconst 1, 1) := dk_4 (dk_at dksX0_book_1 6 rfl rfl)
theorem dX0_book_29 : decode cX0_book 29 = .ok (.isub, 1) := dk_100 (dk_at dksX0_book_1 7 rfl rfl)
theorem dX0_book_30 : decode cX0_book 30 = .ok (.invokestatic 73, 3) := dk_184 0 73 (dk_at dksX0_book_1 8 rfl rfl)
theorem dX0_book_33 : decode cX0_book 33 = .ok (.ifCond .eq 31, 3) := dk_153 0 31 (dk_at dksX0_book_1 11 rfl rfl)
theorem dX0_book_36 : decode cX0_book 36 = .ok (.iload_n 2, 1) := dk_28 (dk_at dksX0_book_1 14 rfl rfl)
theorem dX0_book_37 : decode cX0_book 37 = .ok (.iconst 0, 1) := dk_3 (dk_at dksX0_book_1 15 rfl rfl)
theorem dX0_book_38 : decode cX0_book 38 = .ok (.iconst 4, 1) := dk_7 (dk_at dksX0_book_1 16 rfl rfl)
theorem dX0_book_39 : decode cX0_book 39 = .ok (.invokestatic 73, 3) := dk_184 0 73 (dk_at dksX0_book_1 17 rfl rfl)
theorem dX0_book_42 : decode cX0_book 42 = .ok (.ifCond .eq 22, 3) := dk_153 0 22 (dk_at dksX0_book_1 20 rfl rfl)
theorem dX0_book_45 : decode cX0_book 45 = .ok (.aload_n 0, 1) := dk_42 (dk_at dksX0_book_1 23 rfl rfl)
theorem dX0_book_46 : decode cX0_book 46 = .ok (.getfield 21, 3) := dk_180 0 21 (dk_at dksX0_book_2 0 rfl rfl)
theorem dX0_book_49 : decode cX0_book 49 = .ok (.getfield 199, 3) := dk_180 0 199 (dk_at dksX0_book_2 3 rfl rfl)
theorem dX0_book_52 : decode cX0_book 52 = .ok (.bipush 22, 2) := dk_16 22 (dk_at dksX0_book_2 6 rfl rfl)
theorem dX0_book_54 : decode cX0_book 54 = .ok (.iconst 5, 1) := dk_8 (dk_at dksX0_book_2 8 rfl rfl)
theorem dX0_book_55 : decode cX0_book 55 = .ok (.iload_n 1, 1) := dk_27 (dk_at dksX0_book_2 9 rfl rfl)
theorem dX0_book_56 : decode cX0_book 56 = .ok (.imul, 1) := dk_104 (dk_at dksX0_book_2 10 rfl rfl)
theorem dX0_book_57 : decode cX0_book 57 = .ok (.iadd, 1) := dk_96 (dk_at dksX0_book_2 11 rfl rfl)
theorem dX0_book_58 : decode cX0_book 58 = .ok (.iload_n 2, 1) := dk_28 (dk_at dksX0_book_2 12 rfl rfl)
theorem dX0_book_59 : decode cX0_book 59 = .ok (.iadd, 1) := dk_96 (dk_at dksX0_book_2 13 rfl rfl)
theorem dX0_book_60 : decode cX0_book 60 = .ok (.iaload, 1) := dk_46 (dk_at dksX0_book_2 14 rfl rfl)
theorem dX0_book_61 : decode cX0_book 61 = .ok (.goto 5, 3) := dk_167 0 5 (dk_at dksX0_book_2 15 rfl rfl)
theorem dX0_book_64 : decode cX0_book 64 = .ok (.bipush (-2), 2) := dk_16 254 (dk_at dksX0_book_2 18 rfl rfl)
theorem dX0_book_66 : decode cX0_book 66 = .ok (.ireturn, 1) := dk_172 (dk_at dksX0_book_2 20 rfl rfl)
abbrev cX0_foretold : ByteArray := prog_1_method_51_code
def yX0_foretold : MethodName := ⟨RX0, "foretold", "(III)I"⟩
def dkwX0_foretold_4 : List UInt8 := [16, 11, 167, 0, 5, 16, 16, 28, 96, 46, 172]
abbrev dktX0_foretold_4 : List UInt8 := dkwX0_foretold_4 ++ []
def dkwX0_foretold_3 : List UInt8 := [180, 0, 49, 182, 0, 205, 128, 54, 4, 132, 5, 1, 167, 255, 222, 42, 180, 0, 49, 29, 154, 0, 8]
abbrev dktX0_foretold_3 : List UInt8 := dkwX0_foretold_3 ++ dktX0_foretold_4
def dkwX0_foretold_2 : List UInt8 := [54, 5, 21, 5, 27, 162, 0, 34, 42, 180, 0, 49, 3, 46, 17, 39, 15, 162, 0, 22, 21, 4, 42, 42]
abbrev dktX0_foretold_2 : List UInt8 := dkwX0_foretold_2 ++ dktX0_foretold_3
def dkwX0_foretold_1 : List UInt8 := [154, 0, 6, 16, 254, 172, 42, 180, 0, 21, 180, 0, 199, 42, 180, 0, 49, 184, 1, 32, 3, 54, 4, 3]
abbrev dktX0_foretold_1 : List UInt8 := dkwX0_foretold_1 ++ dktX0_foretold_2
def dkwX0_foretold_0 : List UInt8 := [27, 4, 16, 60, 184, 0, 73, 153, 0, 20, 42, 28, 182, 1, 36, 153, 0, 12, 29, 3, 4, 184, 0, 73]
abbrev dktX0_foretold_0 : List UInt8 := dkwX0_foretold_0 ++ dktX0_foretold_1
theorem dksX0_foretold_0 : cX0_foretold.data.toList.drop 0 = dktX0_foretold_0 := by decide +kernel
theorem dksX0_foretold_1 : cX0_foretold.data.toList.drop 24 = dktX0_foretold_1 := dk_seg dksX0_foretold_0 24 rfl rfl
theorem dksX0_foretold_2 : cX0_foretold.data.toList.drop 48 = dktX0_foretold_2 := dk_seg dksX0_foretold_1 24 rfl rfl
theorem dksX0_foretold_3 : cX0_foretold.data.toList.drop 72 = dktX0_foretold_3 := dk_seg dksX0_foretold_2 24 rfl rfl
theorem dksX0_foretold_4 : cX0_foretold.data.toList.drop 95 = dktX0_foretold_4 := dk_seg dksX0_foretold_3 23 rfl rfl
theorem dX0_foretold_0 : decode cX0_foretold 0 = .ok (.iload_n 1, 1) := dk_27 (dk_at dksX0_foretold_0 0 rfl rfl)
theorem dX0_foretold_1 : decode cX0_foretold 1 = .ok (.iconst 1, 1) := dk_4 (dk_at dksX0_foretold_0 1 rfl rfl)
theorem dX0_foretold_2 : decode cX0_foretold 2 = .ok (.bipush 60, 2) := dk_16 60 (dk_at dksX0_foretold_0 2 rfl rfl)
theorem dX0_foretold_4 : decode cX0_foretold 4 = .ok (.invokestatic 73, 3) := dk_184 0 73 (dk_at dksX0_foretold_0 4 rfl rfl)
theorem dX0_foretold_7 : decode cX0_foretold 7 = .ok (.ifCond .eq 20, 3) := dk_153 0 20 (dk_at dksX0_foretold_0 7 rfl rfl)
theorem dX0_foretold_10 : decode cX0_foretold 10 = .ok (.aload_n 0, 1) := dk_42 (dk_at dksX0_foretold_0 10 rfl rfl)
theorem dX0_foretold_11 : decode cX0_foretold 11 = .ok (.iload_n 2, 1) := dk_28 (dk_at dksX0_foretold_0 11 rfl rfl)
theorem dX0_foretold_12 : decode cX0_foretold 12 = .ok (.invokevirtual 292, 3) := dk_182 1 36 (dk_at dksX0_foretold_0 12 rfl rfl)
theorem dX0_foretold_15 : decode cX0_foretold 15 = .ok (.ifCond .eq 12, 3) := dk_153 0 12 (dk_at dksX0_foretold_0 15 rfl rfl)
theorem dX0_foretold_18 : decode cX0_foretold 18 = .ok (.iload_n 3, 1) := dk_29 (dk_at dksX0_foretold_0 18 rfl rfl)
theorem dX0_foretold_19 : decode cX0_foretold 19 = .ok (.iconst 0, 1) := dk_3 (dk_at dksX0_foretold_0 19 rfl rfl)
theorem dX0_foretold_20 : decode cX0_foretold 20 = .ok (.iconst 1, 1) := dk_4 (dk_at dksX0_foretold_0 20 rfl rfl)
theorem dX0_foretold_21 : decode cX0_foretold 21 = .ok (.invokestatic 73, 3) := dk_184 0 73 (dk_at dksX0_foretold_0 21 rfl rfl)
theorem dX0_foretold_24 : decode cX0_foretold 24 = .ok (.ifCond .ne 6, 3) := dk_154 0 6 (dk_at dksX0_foretold_1 0 rfl rfl)
theorem dX0_foretold_27 : decode cX0_foretold 27 = .ok (.bipush (-2), 2) := dk_16 254 (dk_at dksX0_foretold_1 3 rfl rfl)
theorem dX0_foretold_29 : decode cX0_foretold 29 = .ok (.ireturn, 1) := dk_172 (dk_at dksX0_foretold_1 5 rfl rfl)
theorem dX0_foretold_30 : decode cX0_foretold 30 = .ok (.aload_n 0, 1) := dk_42 (dk_at dksX0_foretold_1 6 rfl rfl)
theorem dX0_foretold_31 : decode cX0_foretold 31 = .ok (.getfield 21, 3) := dk_180 0 21 (dk_at dksX0_foretold_1 7 rfl rfl)
theorem dX0_foretold_34 : decode cX0_foretold 34 = .ok (.getfield 199, 3) := dk_180 0 199 (dk_at dksX0_foretold_1 10 rfl rfl)
theorem dX0_foretold_37 : decode cX0_foretold 37 = .ok (.aload_n 0, 1) := dk_42 (dk_at dksX0_foretold_1 13 rfl rfl)
theorem dX0_foretold_38 : decode cX0_foretold 38 = .ok (.getfield 49, 3) := dk_180 0 49 (dk_at dksX0_foretold_1 14 rfl rfl)
theorem dX0_foretold_41 : decode cX0_foretold 41 = .ok (.invokestatic 288, 3) := dk_184 1 32 (dk_at dksX0_foretold_1 17 rfl rfl)
theorem dX0_foretold_44 : decode cX0_foretold 44 = .ok (.iconst 0, 1) := dk_3 (dk_at dksX0_foretold_1 20 rfl rfl)
theorem dX0_foretold_45 : decode cX0_foretold 45 = .ok (.istore 4, 2) := dk_54 4 (dk_at dksX0_foretold_1 21 rfl rfl)
theorem dX0_foretold_47 : decode cX0_foretold 47 = .ok (.iconst 0, 1) := dk_3 (dk_at dksX0_foretold_1 23 rfl rfl)
theorem dX0_foretold_48 : decode cX0_foretold 48 = .ok (.istore 5, 2) := dk_54 5 (dk_at dksX0_foretold_2 0 rfl rfl)
theorem dX0_foretold_50 : decode cX0_foretold 50 = .ok (.iload 5, 2) := dk_21 5 (dk_at dksX0_foretold_2 2 rfl rfl)
theorem dX0_foretold_52 : decode cX0_foretold 52 = .ok (.iload_n 1, 1) := dk_27 (dk_at dksX0_foretold_2 4 rfl rfl)
theorem dX0_foretold_53 : decode cX0_foretold 53 = .ok (.if_icmp .ge 34, 3) := dk_162 0 34 (dk_at dksX0_foretold_2 5 rfl rfl)
theorem dX0_foretold_56 : decode cX0_foretold 56 = .ok (.aload_n 0, 1) := dk_42 (dk_at dksX0_foretold_2 8 rfl rfl)
theorem dX0_foretold_57 : decode cX0_foretold 57 = .ok (.getfield 49, 3) := dk_180 0 49 (dk_at dksX0_foretold_2 9 rfl rfl)
theorem dX0_foretold_60 : decode cX0_foretold 60 = .ok (.iconst 0, 1) := dk_3 (dk_at dksX0_foretold_2 12 rfl rfl)
theorem dX0_foretold_61 : decode cX0_foretold 61 = .ok (.iaload, 1) := dk_46 (dk_at dksX0_foretold_2 13 rfl rfl)
theorem dX0_foretold_62 : decode cX0_foretold 62 = .ok (.sipush 9999, 3) := dk_17 39 15 (dk_at dksX0_foretold_2 14 rfl rfl)
theorem dX0_foretold_65 : decode cX0_foretold 65 = .ok (.if_icmp .ge 22, 3) := dk_162 0 22 (dk_at dksX0_foretold_2 17 rfl rfl)
theorem dX0_foretold_68 : decode cX0_foretold 68 = .ok (.iload 4, 2) := dk_21 4 (dk_at dksX0_foretold_2 20 rfl rfl)
theorem dX0_foretold_70 : decode cX0_foretold 70 = .ok (.aload_n 0, 1) := dk_42 (dk_at dksX0_foretold_2 22 rfl rfl)
theorem dX0_foretold_71 : decode cX0_foretold 71 = .ok (.aload_n 0, 1) := dk_42 (dk_at dksX0_foretold_2 23 rfl rfl)
theorem dX0_foretold_72 : decode cX0_foretold 72 = .ok (.getfield 49, 3) := dk_180 0 49 (dk_at dksX0_foretold_3 0 rfl rfl)
theorem dX0_foretold_75 : decode cX0_foretold 75 = .ok (.invokevirtual 205, 3) := dk_182 0 205 (dk_at dksX0_foretold_3 3 rfl rfl)
theorem dX0_foretold_78 : decode cX0_foretold 78 = .ok (.ior, 1) := dk_128 (dk_at dksX0_foretold_3 6 rfl rfl)
theorem dX0_foretold_79 : decode cX0_foretold 79 = .ok (.istore 4, 2) := dk_54 4 (dk_at dksX0_foretold_3 7 rfl rfl)
theorem dX0_foretold_81 : decode cX0_foretold 81 = .ok (.iinc 5 1, 3) := dk_132 5 1 (dk_at dksX0_foretold_3 9 rfl rfl)
theorem dX0_foretold_84 : decode cX0_foretold 84 = .ok (.goto (-34), 3) := dk_167 255 222 (dk_at dksX0_foretold_3 12 rfl rfl)
theorem dX0_foretold_87 : decode cX0_foretold 87 = .ok (.aload_n 0, 1) := dk_42 (dk_at dksX0_foretold_3 15 rfl rfl)
theorem dX0_foretold_88 : decode cX0_foretold 88 = .ok (.getfield 49, 3) := dk_180 0 49 (dk_at dksX0_foretold_3 16 rfl rfl)
theorem dX0_foretold_91 : decode cX0_foretold 91 = .ok (.iload_n 3, 1) := dk_29 (dk_at dksX0_foretold_3 19 rfl rfl)
theorem dX0_foretold_92 : decode cX0_foretold 92 = .ok (.ifCond .ne 8, 3) := dk_154 0 8 (dk_at dksX0_foretold_3 20 rfl rfl)
theorem dX0_foretold_95 : decode cX0_foretold 95 = .ok (.bipush 11, 2) := dk_16 11 (dk_at dksX0_foretold_4 0 rfl rfl)
theorem dX0_foretold_97 : decode cX0_foretold 97 = .ok (.goto 5, 3) := dk_167 0 5 (dk_at dksX0_foretold_4 2 rfl rfl)
theorem dX0_foretold_100 : decode cX0_foretold 100 = .ok (.bipush 16, 2) := dk_16 16 (dk_at dksX0_foretold_4 5 rfl rfl)
theorem dX0_foretold_102 : decode cX0_foretold 102 = .ok (.iload_n 2, 1) := dk_28 (dk_at dksX0_foretold_4 7 rfl rfl)
theorem dX0_foretold_103 : decode cX0_foretold 103 = .ok (.iadd, 1) := dk_96 (dk_at dksX0_foretold_4 8 rfl rfl)
theorem dX0_foretold_104 : decode cX0_foretold 104 = .ok (.iaload, 1) := dk_46 (dk_at dksX0_foretold_4 9 rfl rfl)
theorem dX0_foretold_105 : decode cX0_foretold 105 = .ok (.ireturn, 1) := dk_172 (dk_at dksX0_foretold_4 10 rfl rfl)
abbrev cX0_worlds : ByteArray := prog_1_method_52_code
def yX0_worlds : MethodName := ⟨RX0, "worlds", "(II)I"⟩
def dkwX0_worlds_2 : List UInt8 := [132, 4, 1, 167, 255, 241, 29, 154, 0, 8, 16, 254, 167, 0, 7, 29, 184, 1, 45, 172]
abbrev dktX0_worlds_2 : List UInt8 := dkwX0_worlds_2 ++ []
def dkwX0_worlds_1 : List UInt8 := [160, 0, 8, 29, 184, 0, 208, 172, 3, 54, 4, 21, 4, 28, 162, 0, 15, 29, 29, 4, 100, 126, 62]
abbrev dktX0_worlds_1 : List UInt8 := dkwX0_worlds_1 ++ dktX0_worlds_2
def dkwX0_worlds_0 : List UInt8 := [42, 27, 182, 1, 42, 153, 0, 8, 28, 2, 162, 0, 6, 16, 254, 172, 42, 27, 182, 0, 149, 62, 28, 2]
abbrev dktX0_worlds_0 : List UInt8 := dkwX0_worlds_0 ++ dktX0_worlds_1
theorem dksX0_worlds_0 : cX0_worlds.data.toList.drop 0 = dktX0_worlds_0 := by decide +kernel
theorem dksX0_worlds_1 : cX0_worlds.data.toList.drop 24 = dktX0_worlds_1 := dk_seg dksX0_worlds_0 24 rfl rfl
theorem dksX0_worlds_2 : cX0_worlds.data.toList.drop 47 = dktX0_worlds_2 := dk_seg dksX0_worlds_1 23 rfl rfl
theorem dX0_worlds_0 : decode cX0_worlds 0 = .ok (.aload_n 0, 1) := dk_42 (dk_at dksX0_worlds_0 0 rfl rfl)
theorem dX0_worlds_1 : decode cX0_worlds 1 = .ok (.iload_n 1, 1) := dk_27 (dk_at dksX0_worlds_0 1 rfl rfl)
theorem dX0_worlds_2 : decode cX0_worlds 2 = .ok (.invokevirtual 298, 3) := dk_182 1 42 (dk_at dksX0_worlds_0 2 rfl rfl)
theorem dX0_worlds_5 : decode cX0_worlds 5 = .ok (.ifCond .eq 8, 3) := dk_153 0 8 (dk_at dksX0_worlds_0 5 rfl rfl)
theorem dX0_worlds_8 : decode cX0_worlds 8 = .ok (.iload_n 2, 1) := dk_28 (dk_at dksX0_worlds_0 8 rfl rfl)
theorem dX0_worlds_9 : decode cX0_worlds 9 = .ok (.iconst (-1), 1) := dk_2 (dk_at dksX0_worlds_0 9 rfl rfl)
theorem dX0_worlds_10 : decode cX0_worlds 10 = .ok (.if_icmp .ge 6, 3) := dk_162 0 6 (dk_at dksX0_worlds_0 10 rfl rfl)
theorem dX0_worlds_13 : decode cX0_worlds 13 = .ok (.bipush (-2), 2) := dk_16 254 (dk_at dksX0_worlds_0 13 rfl rfl)
theorem dX0_worlds_15 : decode cX0_worlds 15 = .ok (.ireturn, 1) := dk_172 (dk_at dksX0_worlds_0 15 rfl rfl)
theorem dX0_worlds_16 : decode cX0_worlds 16 = .ok (.aload_n 0, 1) := dk_42 (dk_at dksX0_worlds_0 16 rfl rfl)
theorem dX0_worlds_17 : decode cX0_worlds 17 = .ok (.iload_n 1, 1) := dk_27 (dk_at dksX0_worlds_0 17 rfl rfl)
theorem dX0_worlds_18 : decode cX0_worlds 18 = .ok (.invokevirtual 149, 3) := dk_182 0 149 (dk_at dksX0_worlds_0 18 rfl rfl)
theorem dX0_worlds_21 : decode cX0_worlds 21 = .ok (.istore_n 3, 1) := dk_62 (dk_at dksX0_worlds_0 21 rfl rfl)
theorem dX0_worlds_22 : decode cX0_worlds 22 = .ok (.iload_n 2, 1) := dk_28 (dk_at dksX0_worlds_0 22 rfl rfl)
theorem dX0_worlds_23 : decode cX0_worlds 23 = .ok (.iconst (-1), 1) := dk_2 (dk_at dksX0_worlds_0 23 rfl rfl)
theorem dX0_worlds_24 : decode cX0_worlds 24 = .ok (.if_icmp .ne 8, 3) := dk_160 0 8 (dk_at dksX0_worlds_1 0 rfl rfl)
theorem dX0_worlds_27 : decode cX0_worlds 27 = .ok (.iload_n 3, 1) := dk_29 (dk_at dksX0_worlds_1 3 rfl rfl)
theorem dX0_worlds_28 : decode cX0_worlds 28 = .ok (.invokestatic 208, 3) := dk_184 0 208 (dk_at dksX0_worlds_1 4 rfl rfl)
theorem dX0_worlds_31 : decode cX0_worlds 31 = .ok (.ireturn, 1) := dk_172 (dk_at dksX0_worlds_1 7 rfl rfl)
theorem dX0_worlds_32 : decode cX0_worlds 32 = .ok (.iconst 0, 1) := dk_3 (dk_at dksX0_worlds_1 8 rfl rfl)
theorem dX0_worlds_33 : decode cX0_worlds 33 = .ok (.istore 4, 2) := dk_54 4 (dk_at dksX0_worlds_1 9 rfl rfl)
theorem dX0_worlds_35 : decode cX0_worlds 35 = .ok (.iload 4, 2) := dk_21 4 (dk_at dksX0_worlds_1 11 rfl rfl)
theorem dX0_worlds_37 : decode cX0_worlds 37 = .ok (.iload_n 2, 1) := dk_28 (dk_at dksX0_worlds_1 13 rfl rfl)
theorem dX0_worlds_38 : decode cX0_worlds 38 = .ok (.if_icmp .ge 15, 3) := dk_162 0 15 (dk_at dksX0_worlds_1 14 rfl rfl)
theorem dX0_worlds_41 : decode cX0_worlds 41 = .ok (.iload_n 3, 1) := dk_29 (dk_at dksX0_worlds_1 17 rfl rfl)
theorem dX0_worlds_42 : decode cX0_worlds 42 = .ok (.iload_n 3, 1) := dk_29 (dk_at dksX0_worlds_1 18 rfl rfl)
theorem dX0_worlds_43 : decode cX0_worlds 43 = .ok (.iconst 1, 1) := dk_4 (dk_at dksX0_worlds_1 19 rfl rfl)
theorem dX0_worlds_44 : decode cX0_worlds 44 = .ok (.isub, 1) := dk_100 (dk_at dksX0_worlds_1 20 rfl rfl)
theorem dX0_worlds_45 : decode cX0_worlds 45 = .ok (.iand, 1) := dk_126 (dk_at dksX0_worlds_1 21 rfl rfl)
theorem dX0_worlds_46 : decode cX0_worlds 46 = .ok (.istore_n 3, 1) := dk_62 (dk_at dksX0_worlds_1 22 rfl rfl)
theorem dX0_worlds_47 : decode cX0_worlds 47 = .ok (.iinc 4 1, 3) := dk_132 4 1 (dk_at dksX0_worlds_2 0 rfl rfl)
theorem dX0_worlds_50 : decode cX0_worlds 50 = .ok (.goto (-15), 3) := dk_167 255 241 (dk_at dksX0_worlds_2 3 rfl rfl)
theorem dX0_worlds_53 : decode cX0_worlds 53 = .ok (.iload_n 3, 1) := dk_29 (dk_at dksX0_worlds_2 6 rfl rfl)
theorem dX0_worlds_54 : decode cX0_worlds 54 = .ok (.ifCond .ne 8, 3) := dk_154 0 8 (dk_at dksX0_worlds_2 7 rfl rfl)
theorem dX0_worlds_57 : decode cX0_worlds 57 = .ok (.bipush (-2), 2) := dk_16 254 (dk_at dksX0_worlds_2 10 rfl rfl)
theorem dX0_worlds_59 : decode cX0_worlds 59 = .ok (.goto 7, 3) := dk_167 0 7 (dk_at dksX0_worlds_2 12 rfl rfl)
theorem dX0_worlds_62 : decode cX0_worlds 62 = .ok (.iload_n 3, 1) := dk_29 (dk_at dksX0_worlds_2 15 rfl rfl)
theorem dX0_worlds_63 : decode cX0_worlds 63 = .ok (.invokestatic 301, 3) := dk_184 1 45 (dk_at dksX0_worlds_2 16 rfl rfl)
theorem dX0_worlds_66 : decode cX0_worlds 66 = .ok (.ireturn, 1) := dk_172 (dk_at dksX0_worlds_2 19 rfl rfl)
abbrev cX0_areClaims : ByteArray := prog_1_method_22_code
def yX0_areClaims : MethodName := ⟨RX0, "areClaims", "(I)Z"⟩
def dkwX0_areClaims_0 : List UInt8 := [27, 3, 42, 182, 0, 134, 184, 0, 73, 172]
abbrev dktX0_areClaims_0 : List UInt8 := dkwX0_areClaims_0 ++ []
theorem dksX0_areClaims_0 : cX0_areClaims.data.toList.drop 0 = dktX0_areClaims_0 := by decide +kernel
theorem dX0_areClaims_0 : decode cX0_areClaims 0 = .ok (.iload_n 1, 1) := dk_27 (dk_at dksX0_areClaims_0 0 rfl rfl)
theorem dX0_areClaims_1 : decode cX0_areClaims 1 = .ok (.iconst 0, 1) := dk_3 (dk_at dksX0_areClaims_0 1 rfl rfl)
theorem dX0_areClaims_2 : decode cX0_areClaims 2 = .ok (.aload_n 0, 1) := dk_42 (dk_at dksX0_areClaims_0 2 rfl rfl)
theorem dX0_areClaims_3 : decode cX0_areClaims 3 = .ok (.invokevirtual 134, 3) := dk_182 0 134 (dk_at dksX0_areClaims_0 3 rfl rfl)
theorem dX0_areClaims_6 : decode cX0_areClaims 6 = .ok (.invokestatic 73, 3) := dk_184 0 73 (dk_at dksX0_areClaims_0 6 rfl rfl)
theorem dX0_areClaims_9 : decode cX0_areClaims 9 = .ok (.ireturn, 1) := dk_172 (dk_at dksX0_areClaims_0 9 rfl rfl)
abbrev cX0_follows : ByteArray := prog_1_method_54_code
def yX0_follows : MethodName := ⟨RX0, "follows", "(II)Z"⟩
def dkwX0_follows_1 : List UInt8 := [153, 0, 7, 4, 167, 0, 4, 3, 172]
abbrev dktX0_follows_1 : List UInt8 := dkwX0_follows_1 ++ []
def dkwX0_follows_0 : List UInt8 := [42, 27, 182, 1, 42, 153, 0, 24, 42, 28, 182, 0, 213, 153, 0, 16, 42, 27, 28, 182, 1, 48]
abbrev dktX0_follows_0 : List UInt8 := dkwX0_follows_0 ++ dktX0_follows_1
theorem dksX0_follows_0 : cX0_follows.data.toList.drop 0 = dktX0_follows_0 := by decide +kernel
theorem dksX0_follows_1 : cX0_follows.data.toList.drop 22 = dktX0_follows_1 := dk_seg dksX0_follows_0 22 rfl rfl
theorem dX0_follows_0 : decode cX0_follows 0 = .ok (.aload_n 0, 1) := dk_42 (dk_at dksX0_follows_0 0 rfl rfl)
theorem dX0_follows_1 : decode cX0_follows 1 = .ok (.iload_n 1, 1) := dk_27 (dk_at dksX0_follows_0 1 rfl rfl)
theorem dX0_follows_2 : decode cX0_follows 2 = .ok (.invokevirtual 298, 3) := dk_182 1 42 (dk_at dksX0_follows_0 2 rfl rfl)
theorem dX0_follows_5 : decode cX0_follows 5 = .ok (.ifCond .eq 24, 3) := dk_153 0 24 (dk_at dksX0_follows_0 5 rfl rfl)
theorem dX0_follows_8 : decode cX0_follows 8 = .ok (.aload_n 0, 1) := dk_42 (dk_at dksX0_follows_0 8 rfl rfl)
theorem dX0_follows_9 : decode cX0_follows 9 = .ok (.iload_n 2, 1) := dk_28 (dk_at dksX0_follows_0 9 rfl rfl)
theorem dX0_follows_10 : decode cX0_follows 10 = .ok (.invokevirtual 213, 3) := dk_182 0 213 (dk_at dksX0_follows_0 10 rfl rfl)
theorem dX0_follows_13 : decode cX0_follows 13 = .ok (.ifCond .eq 16, 3) := dk_153 0 16 (dk_at dksX0_follows_0 13 rfl rfl)
theorem dX0_follows_16 : decode cX0_follows 16 = .ok (.aload_n 0, 1) := dk_42 (dk_at dksX0_follows_0 16 rfl rfl)
theorem dX0_follows_17 : decode cX0_follows 17 = .ok (.iload_n 1, 1) := dk_27 (dk_at dksX0_follows_0 17 rfl rfl)
theorem dX0_follows_18 : decode cX0_follows 18 = .ok (.iload_n 2, 1) := dk_28 (dk_at dksX0_follows_0 18 rfl rfl)
theorem dX0_follows_19 : decode cX0_follows 19 = .ok (.invokevirtual 304, 3) := dk_182 1 48 (dk_at dksX0_follows_0 19 rfl rfl)
theorem dX0_follows_22 : decode cX0_follows 22 = .ok (.ifCond .eq 7, 3) := dk_153 0 7 (dk_at dksX0_follows_1 0 rfl rfl)
theorem dX0_follows_25 : decode cX0_follows 25 = .ok (.iconst 1, 1) := dk_4 (dk_at dksX0_follows_1 3 rfl rfl)
theorem dX0_follows_26 : decode cX0_follows 26 = .ok (.goto 4, 3) := dk_167 0 4 (dk_at dksX0_follows_1 4 rfl rfl)
theorem dX0_follows_29 : decode cX0_follows 29 = .ok (.iconst 0, 1) := dk_3 (dk_at dksX0_follows_1 7 rfl rfl)
theorem dX0_follows_30 : decode cX0_follows 30 = .ok (.ireturn, 1) := dk_172 (dk_at dksX0_follows_1 8 rfl rfl)
abbrev cX0_isFollowing : ByteArray := prog_1_method_53_code
def yX0_isFollowing : MethodName := ⟨RX0, "isFollowing", "(II)Z"⟩
def dkwX0_isFollowing_1 : List UInt8 := [3, 172]
abbrev dktX0_isFollowing_1 : List UInt8 := dkwX0_isFollowing_1 ++ []
def dkwX0_isFollowing_0 : List UInt8 := [42, 27, 182, 0, 149, 42, 182, 0, 124, 180, 0, 142, 28, 46, 2, 130, 126, 154, 0, 7, 4, 167, 0, 4]
abbrev dktX0_isFollowing_0 : List UInt8 := dkwX0_isFollowing_0 ++ dktX0_isFollowing_1
theorem dksX0_isFollowing_0 : cX0_isFollowing.data.toList.drop 0 = dktX0_isFollowing_0 := by decide +kernel
theorem dksX0_isFollowing_1 : cX0_isFollowing.data.toList.drop 24 = dktX0_isFollowing_1 := dk_seg dksX0_isFollowing_0 24 rfl rfl
theorem dX0_isFollowing_0 : decode cX0_isFollowing 0 = .ok (.aload_n 0, 1) := dk_42 (dk_at dksX0_isFollowing_0 0 rfl rfl)
theorem dX0_isFollowing_1 : decode cX0_isFollowing 1 = .ok (.iload_n 1, 1) := dk_27 (dk_at dksX0_isFollowing_0 1 rfl rfl)
theorem dX0_isFollowing_2 : decode cX0_isFollowing 2 = .ok (.invokevirtual 149, 3) := dk_182 0 149 (dk_at dksX0_isFollowing_0 2 rfl rfl)
theorem dX0_isFollowing_5 : decode cX0_isFollowing 5 = .ok (.aload_n 0, 1) := dk_42 (dk_at dksX0_isFollowing_0 5 rfl rfl)
theorem dX0_isFollowing_6 : decode cX0_isFollowing 6 = .ok (.invokevirtual 124, 3) := dk_182 0 124 (dk_at dksX0_isFollowing_0 6 rfl rfl)
theorem dX0_isFollowing_9 : decode cX0_isFollowing 9 = .ok (.getfield 142, 3) := dk_180 0 142 (dk_at dksX0_isFollowing_0 9 rfl rfl)
theorem dX0_isFollowing_12 : decode cX0_isFollowing 12 = .ok (.iload_n 2, 1) := dk_28 (dk_at dksX0_isFollowing_0 12 rfl rfl)
theorem dX0_isFollowing_13 : decode cX0_isFollowing 13 = .ok (.iaload, 1) := dk_46 (dk_at dksX0_isFollowing_0 13 rfl rfl)
theorem dX0_isFollowing_14 : decode cX0_isFollowing 14 = .ok (.iconst (-1), 1) := dk_2 (dk_at dksX0_isFollowing_0 14 rfl rfl)
theorem dX0_isFollowing_15 : decode cX0_isFollowing 15 = .ok (.ixor, 1) := dk_130 (dk_at dksX0_isFollowing_0 15 rfl rfl)
theorem dX0_isFollowing_16 : decode cX0_isFollowing 16 = .ok (.iand, 1) := dk_126 (dk_at dksX0_isFollowing_0 16 rfl rfl)
theorem dX0_isFollowing_17 : decode cX0_isFollowing 17 = .ok (.ifCond .ne 7, 3) := dk_154 0 7 (dk_at dksX0_isFollowing_0 17 rfl rfl)
theorem dX0_isFollowing_20 : decode cX0_isFollowing 20 = .ok (.iconst 1, 1) := dk_4 (dk_at dksX0_isFollowing_0 20 rfl rfl)
theorem dX0_isFollowing_21 : decode cX0_isFollowing 21 = .ok (.goto 4, 3) := dk_167 0 4 (dk_at dksX0_isFollowing_0 21 rfl rfl)
theorem dX0_isFollowing_24 : decode cX0_isFollowing 24 = .ok (.iconst 0, 1) := dk_3 (dk_at dksX0_isFollowing_1 0 rfl rfl)
theorem dX0_isFollowing_25 : decode cX0_isFollowing 25 = .ok (.ireturn, 1) := dk_172 (dk_at dksX0_isFollowing_1 1 rfl rfl)
abbrev cX0_alike : ByteArray := prog_1_method_55_code
def yX0_alike : MethodName := ⟨RX0, "alike", "(II)Z"⟩
def dkwX0_alike_1 : List UInt8 := [46, 42, 182, 0, 124, 180, 0, 142, 28, 46, 160, 0, 7, 4, 167, 0, 4, 3, 172]
abbrev dktX0_alike_1 : List UInt8 := dkwX0_alike_1 ++ []
def dkwX0_alike_0 : List UInt8 := [42, 27, 182, 0, 213, 153, 0, 36, 42, 28, 182, 0, 213, 153, 0, 28, 42, 182, 0, 124, 180, 0, 142, 27]
abbrev dktX0_alike_0 : List UInt8 := dkwX0_alike_0 ++ dktX0_alike_1
theorem dksX0_alike_0 : cX0_alike.data.toList.drop 0 = dktX0_alike_0 := by decide +kernel
theorem dksX0_alike_1 : cX0_alike.data.toList.drop 24 = dktX0_alike_1 := dk_seg dksX0_alike_0 24 rfl rfl
theorem dX0_alike_0 : decode cX0_alike 0 = .ok (.aload_n 0, 1) := dk_42 (dk_at dksX0_alike_0 0 rfl rfl)
theorem dX0_alike_1 : decode cX0_alike 1 = .ok (.iload_n 1, 1) := dk_27 (dk_at dksX0_alike_0 1 rfl rfl)
theorem dX0_alike_2 : decode cX0_alike 2 = .ok (.invokevirtual 213, 3) := dk_182 0 213 (dk_at dksX0_alike_0 2 rfl rfl)
theorem dX0_alike_5 : decode cX0_alike 5 = .ok (.ifCond .eq 36, 3) := dk_153 0 36 (dk_at dksX0_alike_0 5 rfl rfl)
theorem dX0_alike_8 : decode cX0_alike 8 = .ok (.aload_n 0, 1) := dk_42 (dk_at dksX0_alike_0 8 rfl rfl)
theorem dX0_alike_9 : decode cX0_alike 9 = .ok (.iload_n 2, 1) := dk_28 (dk_at dksX0_alike_0 9 rfl rfl)
theorem dX0_alike_10 : decode cX0_alike 10 = .ok (.invokevirtual 213, 3) := dk_182 0 213 (dk_at dksX0_alike_0 10 rfl rfl)
theorem dX0_alike_13 : decode cX0_alike 13 = .ok (.ifCond .eq 28, 3) := dk_153 0 28 (dk_at dksX0_alike_0 13 rfl rfl)
theorem dX0_alike_16 : decode cX0_alike 16 = .ok (.aload_n 0, 1) := dk_42 (dk_at dksX0_alike_0 16 rfl rfl)
theorem dX0_alike_17 : decode cX0_alike 17 = .ok (.invokevirtual 124, 3) := dk_182 0 124 (dk_at dksX0_alike_0 17 rfl rfl)
theorem dX0_alike_20 : decode cX0_alike 20 = .ok (.getfield 142, 3) := dk_180 0 142 (dk_at dksX0_alike_0 20 rfl rfl)
theorem dX0_alike_23 : decode cX0_alike 23 = .ok (.iload_n 1, 1) := dk_27 (dk_at dksX0_alike_0 23 rfl rfl)
theorem dX0_alike_24 : decode cX0_alike 24 = .ok (.iaload, 1) := dk_46 (dk_at dksX0_alike_1 0 rfl rfl)
theorem dX0_alike_25 : decode cX0_alike 25 = .ok (.aload_n 0, 1) := dk_42 (dk_at dksX0_alike_1 1 rfl rfl)
theorem dX0_alike_26 : decode cX0_alike 26 = .ok (.invokevirtual 124, 3) := dk_182 0 124 (dk_at dksX0_alike_1 2 rfl rfl)
theorem dX0_alike_29 : decode cX0_alike 29 = .ok (.getfield 142, 3) := dk_180 0 142 (dk_at dksX0_alike_1 5 rfl rfl)
theorem dX0_alike_32 : decode cX0_alike 32 = .ok (.iload_n 2, 1) := dk_28 (dk_at dksX0_alike_1 8 rfl rfl)
theorem dX0_alike_33 : decode cX0_alike 33 = .ok (.iaload, 1) := dk_46 (dk_at dksX0_alike_1 9 rfl rfl)
theorem dX0_alike_34 : decode cX0_alike 34 = .ok (.if_icmp .ne 7, 3) := dk_160 0 7 (dk_at dksX0_alike_1 10 rfl rfl)
theorem dX0_alike_37 : decode cX0_alike 37 = .ok (.iconst 1, 1) := dk_4 (dk_at dksX0_alike_1 13 rfl rfl)
theorem dX0_alike_38 : decode cX0_alike 38 = .ok (.goto 4, 3) := dk_167 0 4 (dk_at dksX0_alike_1 14 rfl rfl)
theorem dX0_alike_41 : decode cX0_alike 41 = .ok (.iconst 0, 1) := dk_3 (dk_at dksX0_alike_1 17 rfl rfl)
theorem dX0_alike_42 : decode cX0_alike 42 = .ok (.ireturn, 1) := dk_172 (dk_at dksX0_alike_1 18 rfl rfl)
abbrev cX0_letters : ByteArray := prog_1_method_56_code
def yX0_letters : MethodName := ⟨RX0, "letters", "(I)I"⟩
def dkwX0_letters_3 : List UInt8 := [132, 4, 1, 167, 255, 205, 132, 3, 1, 167, 255, 191, 28, 172]
abbrev dktX0_letters_3 : List UInt8 := dkwX0_letters_3 ++ []
def dkwX0_letters_2 : List UInt8 := [180, 0, 142, 27, 46, 21, 4, 4, 29, 120, 130, 184, 0, 138, 159, 0, 9, 28, 4, 29, 120, 128, 61]
abbrev dktX0_letters_2 : List UInt8 := dkwX0_letters_2 ++ dktX0_letters_3
def dkwX0_letters_1 : List UInt8 := [16, 16, 162, 0, 50, 42, 182, 0, 124, 180, 0, 142, 27, 46, 21, 4, 184, 0, 138, 42, 182, 0, 124]
abbrev dktX0_letters_1 : List UInt8 := dkwX0_letters_1 ++ dktX0_letters_2
def dkwX0_letters_0 : List UInt8 := [42, 27, 182, 0, 213, 154, 0, 5, 2, 172, 3, 61, 3, 62, 29, 7, 162, 0, 66, 3, 54, 4, 21, 4]
abbrev dktX0_letters_0 : List UInt8 := dkwX0_letters_0 ++ dktX0_letters_1
theorem dksX0_letters_0 : cX0_letters.data.toList.drop 0 = dktX0_letters_0 := by decide +kernel
theorem dksX0_letters_1 : cX0_letters.data.toList.drop 24 = dktX0_letters_1 := dk_seg dksX0_letters_0 24 rfl rfl
theorem dksX0_letters_2 : cX0_letters.data.toList.drop 47 = dktX0_letters_2 := dk_seg dksX0_letters_1 23 rfl rfl
theorem dksX0_letters_3 : cX0_letters.data.toList.drop 70 = dktX0_letters_3 := dk_seg dksX0_letters_2 23 rfl rfl
theorem dX0_letters_0 : decode cX0_letters 0 = .ok (.aload_n 0, 1) := dk_42 (dk_at dksX0_letters_0 0 rfl rfl)
theorem dX0_letters_1 : decode cX0_letters 1 = .ok (.iload_n 1, 1) := dk_27 (dk_at dksX0_letters_0 1 rfl rfl)
theorem dX0_letters_2 : decode cX0_letters 2 = .ok (.invokevirtual 213, 3) := dk_182 0 213 (dk_at dksX0_letters_0 2 rfl rfl)
theorem dX0_letters_5 : decode cX0_letters 5 = .ok (.ifCond .ne 5, 3) := dk_154 0 5 (dk_at dksX0_letters_0 5 rfl rfl)
theorem dX0_letters_8 : decode cX0_letters 8 = .ok (.iconst (-1), 1) := dk_2 (dk_at dksX0_letters_0 8 rfl rfl)
theorem dX0_letters_9 : decode cX0_letters 9 = .ok (.ireturn, 1) := dk_172 (dk_at dksX0_letters_0 9 rfl rfl)
theorem dX0_letters_10 : decode cX0_letters 10 = .ok (.iconst 0, 1) := dk_3 (dk_at dksX0_letters_0 10 rfl rfl)
theorem dX0_letters_11 : decode cX0_letters 11 = .ok (.istore_n 2, 1) := dk_61 (dk_at dksX0_letters_0 11 rfl rfl)
theorem dX0_letters_12 : decode cX0_letters 12 = .ok (.iconst 0, 1) := dk_3 (dk_at dksX0_letters_0 12 rfl rfl)
theorem dX0_letters_13 : decode cX0_letters 13 = .ok (.istore_n 3, 1) := dk_62 (dk_at dksX0_letters_0 13 rfl rfl)
theorem dX0_letters_14 : decode cX0_letters 14 = .ok (.iload_n 3, 1) := dk_29 (dk_at dksX0_letters_0 14 rfl rfl)
theorem dX0_letters_15 : decode cX0_letters 15 = .ok (.iconst 4, 1) := dk_7 (dk_at dksX0_letters_0 15 rfl rfl)
theorem dX0_letters_16 : decode cX0_letters 16 = .ok (.if_icmp .ge 66, 3) := dk_162 0 66 (dk_at dksX0_letters_0 16 rfl rfl)
theorem dX0_letters_19 : decode cX0_letters 19 = .ok (.iconst 0, 1) := dk_3 (dk_at dksX0_letters_0 19 rfl rfl)
theorem dX0_letters_20 : decode cX0_letters 20 = .ok (.istore 4, 2) := dk_54 4 (dk_at dksX0_letters_0 20 rfl rfl)
theorem dX0_letters_22 : decode cX0_letters 22 = .ok (.iload 4, 2) := dk_21 4 (dk_at dksX0_letters_0 22 rfl rfl)
theorem dX0_letters_24 : decode cX0_letters 24 = .ok (.bipush 16, 2) := dk_16 16 (dk_at dksX0_letters_1 0 rfl rfl)
theorem dX0_letters_26 : decode cX0_letters 26 = .ok (.if_icmp .ge 50, 3) := dk_162 0 50 (dk_at dksX0_letters_1 2 rfl rfl)
theorem dX0_letters_29 : decode cX0_letters 29 = .ok (.aload_n 0, 1) := dk_42 (dk_at dksX0_letters_1 5 rfl rfl)
theorem dX0_letters_30 : decode cX0_letters 30 = .ok (.invokevirtual 124, 3) := dk_182 0 124 (dk_at dksX0_letters_1 6 rfl rfl)
theorem dX0_letters_33 : decode cX0_letters 33 = .ok (.getfield 142, 3) := dk_180 0 142 (dk_at dksX0_letters_1 9 rfl rfl)
theorem dX0_letters_36 : decode cX0_letters 36 = .ok (.iload_n 1, 1) := dk_27 (dk_at dksX0_letters_1 12 rfl rfl)
theorem dX0_letters_37 : decode cX0_letters 37 = .ok (.iaload, 1) := dk_46 (dk_at dksX0_letters_1 13 rfl rfl)
theorem dX0_letters_38 : decode cX0_letters 38 = .ok (.iload 4, 2) := dk_21 4 (dk_at dksX0_letters_1 14 rfl rfl)
theorem dX0_letters_40 : decode cX0_letters 40 = .ok (.invokestatic 138, 3) := dk_184 0 138 (dk_at dksX0_letters_1 16 rfl rfl)
theorem dX0_letters_43 : decode cX0_letters 43 = .ok (.aload_n 0, 1) := dk_42 (dk_at dksX0_letters_1 19 rfl rfl)
theorem dX0_letters_44 : decode cX0_letters 44 = .ok (.invokevirtual 124, 3) := dk_182 0 124 (dk_at dksX0_letters_1 20 rfl rfl)
theorem dX0_letters_47 : decode cX0_letters 47 = .ok (.getfield 142, 3) := dk_180 0 142 (dk_at dksX0_letters_2 0 rfl rfl)
theorem dX0_letters_50 : decode cX0_letters 50 = .ok (.iload_n 1, 1) := dk_27 (dk_at dksX0_letters_2 3 rfl rfl)
theorem dX0_letters_51 : decode cX0_letters 51 = .ok (.iaload, 1) := dk_46 (dk_at dksX0_letters_2 4 rfl rfl)
theorem dX0_letters_52 : decode cX0_letters 52 = .ok (.iload 4, 2) := dk_21 4 (dk_at dksX0_letters_2 5 rfl rfl)
theorem dX0_letters_54 : decode cX0_letters 54 = .ok (.iconst 1, 1) := dk_4 (dk_at dksX0_letters_2 7 rfl rfl)
theorem dX0_letters_55 : decode cX0_letters 55 = .ok (.iload_n 3, 1) := dk_29 (dk_at dksX0_letters_2 8 rfl rfl)
theorem dX0_letters_56 : decode cX0_letters 56 = .ok (.ishl, 1) := dk_120 (dk_at dksX0_letters_2 9 rfl rfl)
theorem dX0_letters_57 : decode cX0_letters 57 = .ok (.ixor, 1) := dk_130 (dk_at dksX0_letters_2 10 rfl rfl)
theorem dX0_letters_58 : decode cX0_letters 58 = .ok (.invokestatic 138, 3) := dk_184 0 138 (dk_at dksX0_letters_2 11 rfl rfl)
theorem dX0_letters_61 : decode cX0_letters 61 = .ok (.if_icmp .eq 9, 3) := dk_159 0 9 (dk_at dksX0_letters_2 14 rfl rfl)
theorem dX0_letters_64 : decode cX0_letters 64 = .ok (.iload_n 2, 1) := dk_28 (dk_at dksX0_letters_2 17 rfl rfl)
theorem dX0_letters_65 : decode cX0_letters 65 = .ok (.iconst 1, 1) := dk_4 (dk_at dksX0_letters_2 18 rfl rfl)
theorem dX0_letters_66 : decode cX0_letters 66 = .ok (.iload_n 3, 1) := dk_29 (dk_at dksX0_letters_2 19 rfl rfl)
theorem dX0_letters_67 : decode cX0_letters 67 = .ok (.ishl, 1) := dk_120 (dk_at dksX0_letters_2 20 rfl rfl)
theorem dX0_letters_68 : decode cX0_letters 68 = .ok (.ior, 1) := dk_128 (dk_at dksX0_letters_2 21 rfl rfl)
theorem dX0_letters_69 : decode cX0_letters 69 = .ok (.istore_n 2, 1) := dk_61 (dk_at dksX0_letters_2 22 rfl rfl)
theorem dX0_letters_70 : decode cX0_letters 70 = .ok (.iinc 4 1, 3) := dk_132 4 1 (dk_at dksX0_letters_3 0 rfl rfl)
theorem dX0_letters_73 : decode cX0_letters 73 = .ok (.goto (-51), 3) := dk_167 255 205 (dk_at dksX0_letters_3 3 rfl rfl)
theorem dX0_letters_76 : decode cX0_letters 76 = .ok (.iinc 3 1, 3) := dk_132 3 1 (dk_at dksX0_letters_3 6 rfl rfl)
theorem dX0_letters_79 : decode cX0_letters 79 = .ok (.goto (-65), 3) := dk_167 255 191 (dk_at dksX0_letters_3 9 rfl rfl)
theorem dX0_letters_82 : decode cX0_letters 82 = .ok (.iload_n 2, 1) := dk_28 (dk_at dksX0_letters_3 12 rfl rfl)
theorem dX0_letters_83 : decode cX0_letters 83 = .ok (.ireturn, 1) := dk_172 (dk_at dksX0_letters_3 13 rfl rfl)
abbrev cX0_most : ByteArray := prog_1_method_58_code
def yX0_most : MethodName := ⟨RX0, "most", "(Z)I"⟩
def dkwX0_most_2 : List UInt8 := [167, 0, 4, 28, 172]
abbrev dktX0_most_2 : List UInt8 := dkwX0_most_2 ++ []
def dkwX0_most_1 : List UInt8 := [28, 184, 0, 208, 164, 0, 5, 29, 61, 132, 3, 1, 167, 255, 224, 27, 153, 0, 10, 28, 184, 0, 208]
abbrev dktX0_most_1 : List UInt8 := dkwX0_most_1 ++ dktX0_most_2
def dkwX0_most_0 : List UInt8 := [3, 61, 4, 62, 29, 42, 182, 0, 134, 163, 0, 30, 42, 29, 182, 1, 51, 153, 0, 16, 29, 184, 0, 208]
abbrev dktX0_most_0 : List UInt8 := dkwX0_most_0 ++ dktX0_most_1
theorem dksX0_most_0 : cX0_most.data.toList.drop 0 = dktX0_most_0 := by decide +kernel
theorem dksX0_most_1 : cX0_most.data.toList.drop 24 = dktX0_most_1 := dk_seg dksX0_most_0 24 rfl rfl
theorem dksX0_most_2 : cX0_most.data.toList.drop 47 = dktX0_most_2 := dk_seg dksX0_most_1 23 rfl rfl
theorem dX0_most_0 : decode cX0_most 0 = .ok (.iconst 0, 1) := dk_3 (dk_at dksX0_most_0 0 rfl rfl)
theorem dX0_most_1 : decode cX0_most 1 = .ok (.istore_n 2, 1) := dk_61 (dk_at dksX0_most_0 1 rfl rfl)
theorem dX0_most_2 : decode cX0_most 2 = .ok (.iconst 1, 1) := dk_4 (dk_at dksX0_most_0 2 rfl rfl)
theorem dX0_most_3 : decode cX0_most 3 = .ok (.istore_n 3, 1) := dk_62 (dk_at dksX0_most_0 3 rfl rfl)
theorem dX0_most_4 : decode cX0_most 4 = .ok (.iload_n 3, 1) := dk_29 (dk_at dksX0_most_0 4 rfl rfl)
theorem dX0_most_5 : decode cX0_most 5 = .ok (.aload_n 0, 1) := dk_42 (dk_at dksX0_most_0 5 rfl rfl)
theorem dX0_most_6 : decode cX0_most 6 = .ok (.invokevirtual 134, 3) := dk_182 0 134 (dk_at dksX0_most_0 6 rfl rfl)
theorem dX0_most_9 : decode cX0_most 9 = .ok (.if_icmp .gt 30, 3) := dk_163 0 30 (dk_at dksX0_most_0 9 rfl rfl)
theorem dX0_most_12 : decode cX0_most 12 = .ok (.aload_n 0, 1) := dk_42 (dk_at dksX0_most_0 12 rfl rfl)
theorem dX0_most_13 : decode cX0_most 13 = .ok (.iload_n 3, 1) := dk_29 (dk_at dksX0_most_0 13 rfl rfl)
theorem dX0_most_14 : decode cX0_most 14 = .ok (.invokevirtual 307, 3) := dk_182 1 51 (dk_at dksX0_most_0 14 rfl rfl)
theorem dX0_most_17 : decode cX0_most 17 = .ok (.ifCond .eq 16, 3) := dk_153 0 16 (dk_at dksX0_most_0 17 rfl rfl)
theorem dX0_most_20 : decode cX0_most 20 = .ok (.iload_n 3, 1) := dk_29 (dk_at dksX0_most_0 20 rfl rfl)
theorem dX0_most_21 : decode cX0_most 21 = .ok (.invokestatic 208, 3) := dk_184 0 208 (dk_at dksX0_most_0 21 rfl rfl)
theorem dX0_most_24 : decode cX0_most 24 = .ok (.iload_n 2, 1) := dk_28 (dk_at dksX0_most_1 0 rfl rfl)
theorem dX0_most_25 : decode cX0_most 25 = .ok (.invokestatic 208, 3) := dk_184 0 208 (dk_at dksX0_most_1 1 rfl rfl)
theorem dX0_most_28 : decode cX0_most 28 = .ok (.if_icmp .le 5, 3) := dk_164 0 5 (dk_at dksX0_most_1 4 rfl rfl)
theorem dX0_most_31 : decode cX0_most 31 = .ok (.iload_n 3, 1) := dk_29 (dk_at dksX0_most_1 7 rfl rfl)
theorem dX0_most_32 : decode cX0_most 32 = .ok (.istore_n 2, 1) := dk_61 (dk_at dksX0_most_1 8 rfl rfl)
theorem dX0_most_33 : decode cX0_most 33 = .ok (.iinc 3 1, 3) := dk_132 3 1 (dk_at dksX0_most_1 9 rfl rfl)
theorem dX0_most_36 : decode cX0_most 36 = .ok (.goto (-32), 3) := dk_167 255 224 (dk_at dksX0_most_1 12 rfl rfl)
theorem dX0_most_39 : decode cX0_most 39 = .ok (.iload_n 1, 1) := dk_27 (dk_at dksX0_most_1 15 rfl rfl)
theorem dX0_most_40 : decode cX0_most 40 = .ok (.ifCond .eq 10, 3) := dk_153 0 10 (dk_at dksX0_most_1 16 rfl rfl)
theorem dX0_most_43 : decode cX0_most 43 = .ok (.iload_n 2, 1) := dk_28 (dk_at dksX0_most_1 19 rfl rfl)
theorem dX0_most_44 : decode cX0_most 44 = .ok (.invokestatic 208, 3) := dk_184 0 208 (dk_at dksX0_most_1 20 rfl rfl)
theorem dX0_most_47 : decode cX0_most 47 = .ok (.goto 4, 3) := dk_167 0 4 (dk_at dksX0_most_2 0 rfl rfl)
theorem dX0_most_50 : decode cX0_most 50 = .ok (.iload_n 2, 1) := dk_28 (dk_at dksX0_most_2 3 rfl rfl)
theorem dX0_most_51 : decode cX0_most 51 = .ok (.ireturn, 1) := dk_172 (dk_at dksX0_most_2 4 rfl rfl)
abbrev cX0_isTogether : ByteArray := prog_1_method_57_code
def yX0_isTogether : MethodName := ⟨RX0, "isTogether", "(I)Z"⟩
def dkwX0_isTogether_0 : List UInt8 := [42, 27, 182, 0, 149, 153, 0, 7, 4, 167, 0, 4, 3, 172]
abbrev dktX0_isTogether_0 : List UInt8 := dkwX0_isTogether_0 ++ []
theorem dksX0_isTogether_0 : cX0_isTogether.data.toList.drop 0 = dktX0_isTogether_0 := by decide +kernel
theorem dX0_isTogether_0 : decode cX0_isTogether 0 = .ok (.aload_n 0, 1) := dk_42 (dk_at dksX0_isTogether_0 0 rfl rfl)
theorem dX0_isTogether_1 : decode cX0_isTogether 1 = .ok (.iload_n 1, 1) := dk_27 (dk_at dksX0_isTogether_0 1 rfl rfl)
theorem dX0_isTogether_2 : decode cX0_isTogether 2 = .ok (.invokevirtual 149, 3) := dk_182 0 149 (dk_at dksX0_isTogether_0 2 rfl rfl)
theorem dX0_isTogether_5 : decode cX0_isTogether 5 = .ok (.ifCond .eq 7, 3) := dk_153 0 7 (dk_at dksX0_isTogether_0 5 rfl rfl)
theorem dX0_isTogether_8 : decode cX0_isTogether 8 = .ok (.iconst 1, 1) := dk_4 (dk_at dksX0_isTogether_0 8 rfl rfl)
theorem dX0_isTogether_9 : decode cX0_isTogether 9 = .ok (.goto 4, 3) := dk_167 0 4 (dk_at dksX0_isTogether_0 9 rfl rfl)
theorem dX0_isTogether_12 : decode cX0_isTogether 12 = .ok (.iconst 0, 1) := dk_3 (dk_at dksX0_isTogether_0 12 rfl rfl)
theorem dX0_isTogether_13 : decode cX0_isTogether 13 = .ok (.ireturn, 1) := dk_172 (dk_at dksX0_isTogether_0 13 rfl rfl)
abbrev cX0_greatest : ByteArray := prog_1_method_60_code
def yX0_greatest : MethodName := ⟨RX0, "greatest", "(I)I"⟩
def dkwX0_greatest_2 : List UInt8 := [16, 254, 172]
abbrev dktX0_greatest_2 : List UInt8 := dkwX0_greatest_2 ++ []
def dkwX0_greatest_1 : List UInt8 := [27, 160, 0, 5, 29, 172, 132, 2, 1, 132, 3, 1, 167, 255, 224, 27, 2, 160, 0, 7, 28, 167, 0, 5]
abbrev dktX0_greatest_1 : List UInt8 := dkwX0_greatest_1 ++ dktX0_greatest_2
def dkwX0_greatest_0 : List UInt8 := [3, 61, 3, 62, 29, 42, 182, 0, 134, 163, 0, 30, 42, 29, 182, 1, 54, 154, 0, 6, 167, 0, 13, 28]
abbrev dktX0_greatest_0 : List UInt8 := dkwX0_greatest_0 ++ dktX0_greatest_1
theorem dksX0_greatest_0 : cX0_greatest.data.toList.drop 0 = dktX0_greatest_0 := by decide +kernel
theorem dksX0_greatest_1 : cX0_greatest.data.toList.drop 24 = dktX0_greatest_1 := dk_seg dksX0_greatest_0 24 rfl rfl
theorem dksX0_greatest_2 : cX0_greatest.data.toList.drop 48 = dktX0_greatest_2 := dk_seg dksX0_greatest_1 24 rfl rfl
theorem dX0_greatest_0 : decode cX0_greatest 0 = .ok (.iconst 0, 1) := dk_3 (dk_at dksX0_greatest_0 0 rfl rfl)
theorem dX0_greatest_1 : decode cX0_greatest 1 = .ok (.istore_n 2, 1) := dk_61 (dk_at dksX0_greatest_0 1 rfl rfl)
theorem dX0_greatest_2 : decode cX0_greatest 2 = .ok (.iconst 0, 1) := dk_3 (dk_at dksX0_greatest_0 2 rfl rfl)
theorem dX0_greatest_3 : decode cX0_greatest 3 = .ok (.istore_n 3, 1) := dk_62 (dk_at dksX0_greatest_0 3 rfl rfl)
theorem dX0_greatest_4 : decode cX0_greatest 4 = .ok (.iload_n 3, 1) := dk_29 (dk_at dksX0_greatest_0 4 rfl rfl)
theorem dX0_greatest_5 : decode cX0_greatest 5 = .ok (.aload_n 0, 1) := dk_42 (dk_at dksX0_greatest_0 5 rfl rfl)
theorem dX0_greatest_6 : decode cX0_greatest 6 = .ok (.invokevirtual 134, 3) := dk_182 0 134 (dk_at dksX0_greatest_0 6 rfl rfl)
theorem dX0_greatest_9 : decode cX0_greatest 9 = .ok (.if_icmp .gt 30, 3) := dk_163 0 30 (dk_at dksX0_greatest_0 9 rfl rfl)
theorem dX0_greatest_12 : decode cX0_greatest 12 = .ok (.aload_n 0, 1) := dk_42 (dk_at dksX0_greatest_0 12 rfl rfl)
theorem dX0_greatest_13 : decode cX0_greatest 13 = .ok (.iload_n 3, 1) := dk_29 (dk_at dksX0_greatest_0 13 rfl rfl)
theorem dX0_greatest_14 : decode cX0_greatest 14 = .ok (.invokevirtual 310, 3) := dk_182 1 54 (dk_at dksX0_greatest_0 14 rfl rfl)
theorem dX0_greatest_17 : decode cX0_greatest 17 = .ok (.ifCond .ne 6, 3) := dk_154 0 6 (dk_at dksX0_greatest_0 17 rfl rfl)
theorem dX0_greatest_20 : decode cX0_greatest 20 = .ok (.goto 13, 3) := dk_167 0 13 (dk_at dksX0_greatest_0 20 rfl rfl)
theorem dX0_greatest_23 : decode cX0_greatest 23 = .ok (.iload_n 2, 1) := dk_28 (dk_at dksX0_greatest_0 23 rfl rfl)
theorem dX0_greatest_24 : decode cX0_greatest 24 = .ok (.iload_n 1, 1) := dk_27 (dk_at dksX0_greatest_1 0 rfl rfl)
theorem dX0_greatest_25 : decode cX0_greatest 25 = .ok (.if_icmp .ne 5, 3) := dk_160 0 5 (dk_at dksX0_greatest_1 1 rfl rfl)
theorem dX0_greatest_28 : decode cX0_greatest 28 = .ok (.iload_n 3, 1) := dk_29 (dk_at dksX0_greatest_1 4 rfl rfl)
theorem dX0_greatest_29 : decode cX0_greatest 29 = .ok (.ireturn, 1) := dk_172 (dk_at dksX0_greatest_1 5 rfl rfl)
theorem dX0_greatest_30 : decode cX0_greatest 30 = .ok (.iinc 2 1, 3) := dk_132 2 1 (dk_at dksX0_greatest_1 6 rfl rfl)
theorem dX0_greatest_33 : decode cX0_greatest 33 = .ok (.iinc 3 1, 3) := dk_132 3 1 (dk_at dksX0_greatest_1 9 rfl rfl)
theorem dX0_greatest_36 : decode cX0_greatest 36 = .ok (.goto (-32), 3) := dk_167 255 224 (dk_at dksX0_greatest_1 12 rfl rfl)
theorem dX0_greatest_39 : decode cX0_greatest 39 = .ok (.iload_n 1, 1) := dk_27 (dk_at dksX0_greatest_1 15 rfl rfl)
theorem dX0_greatest_40 : decode cX0_greatest 40 = .ok (.iconst (-1), 1) := dk_2 (dk_at dksX0_greatest_1 16 rfl rfl)
theorem dX0_greatest_41 : decode cX0_greatest 41 = .ok (.if_icmp .ne 7, 3) := dk_160 0 7 (dk_at dksX0_greatest_1 17 rfl rfl)
theorem dX0_greatest_44 : decode cX0_greatest 44 = .ok (.iload_n 2, 1) := dk_28 (dk_at dksX0_greatest_1 20 rfl rfl)
theorem dX0_greatest_45 : decode cX0_greatest 45 = .ok (.goto 5, 3) := dk_167 0 5 (dk_at dksX0_greatest_1 21 rfl rfl)
theorem dX0_greatest_48 : decode cX0_greatest 48 = .ok (.bipush (-2), 2) := dk_16 254 (dk_at dksX0_greatest_2 0 rfl rfl)
theorem dX0_greatest_50 : decode cX0_greatest 50 = .ok (.ireturn, 1) := dk_172 (dk_at dksX0_greatest_2 2 rfl rfl)
abbrev cX0_isGreatest : ByteArray := prog_1_method_59_code
def yX0_isGreatest : MethodName := ⟨RX0, "isGreatest", "(I)Z"⟩
def dkwX0_isGreatest_2 : List UInt8 := [167, 255, 223, 4, 172]
abbrev dktX0_isGreatest_2 : List UInt8 := dkwX0_isGreatest_2 ++ []
def dkwX0_isGreatest_1 : List UInt8 := [184, 0, 138, 154, 0, 17, 42, 27, 4, 28, 120, 128, 182, 1, 51, 153, 0, 5, 3, 172, 132, 2, 1]
abbrev dktX0_isGreatest_1 : List UInt8 := dkwX0_isGreatest_1 ++ dktX0_isGreatest_2
def dkwX0_isGreatest_0 : List UInt8 := [42, 27, 182, 1, 51, 154, 0, 5, 3, 172, 3, 61, 28, 42, 182, 0, 132, 162, 0, 31, 27, 28]
abbrev dktX0_isGreatest_0 : List UInt8 := dkwX0_isGreatest_0 ++ dktX0_isGreatest_1
theorem dksX0_isGreatest_0 : cX0_isGreatest.data.toList.drop 0 = dktX0_isGreatest_0 := by decide +kernel
theorem dksX0_isGreatest_1 : cX0_isGreatest.data.toList.drop 22 = dktX0_isGreatest_1 := dk_seg dksX0_isGreatest_0 22 rfl rfl
theorem dksX0_isGreatest_2 : cX0_isGreatest.data.toList.drop 45 = dktX0_isGreatest_2 := dk_seg dksX0_isGreatest_1 23 rfl rfl
theorem dX0_isGreatest_0 : decode cX0_isGreatest 0 = .ok (.aload_n 0, 1) := dk_42 (dk_at dksX0_isGreatest_0 0 rfl rfl)
theorem dX0_isGreatest_1 : decode cX0_isGreatest 1 = .ok (.iload_n 1, 1) := dk_27 (dk_at dksX0_isGreatest_0 1 rfl rfl)
theorem dX0_isGreatest_2 : decode cX0_isGreatest 2 = .ok (.invokevirtual 307, 3) := dk_182 1 51 (dk_at dksX0_isGreatest_0 2 rfl rfl)
theorem dX0_isGreatest_5 : decode cX0_isGreatest 5 = .ok (.ifCond .ne 5, 3) := dk_154 0 5 (dk_at dksX0_isGreatest_0 5 rfl rfl)
theorem dX0_isGreatest_8 : decode cX0_isGreatest 8 = .ok (.iconst 0, 1) := dk_3 (dk_at dksX0_isGreatest_0 8 rfl rfl)
theorem dX0_isGreatest_9 : decode cX0_isGreatest 9 = .ok (.ireturn, 1) := dk_172 (dk_at dksX0_isGreatest_0 9 rfl rfl)
theorem dX0_isGreatest_10 : decode cX0_isGreatest 10 = .ok (.iconst 0, 1) := dk_3 (dk_at dksX0_isGreatest_0 10 rfl rfl)
theorem dX0_isGreatest_11 : decode cX0_isGreatest 11 = .ok (.istore_n 2, 1) := dk_61 (dk_at dksX0_isGreatest_0 11 rfl rfl)
theorem dX0_isGreatest_12 : decode cX0_isGreatest 12 = .ok (.iload_n 2, 1) := dk_28 (dk_at dksX0_isGreatest_0 12 rfl rfl)
theorem dX0_isGreatest_13 : decode cX0_isGreatest 13 = .ok (.aload_n 0, 1) := dk_42 (dk_at dksX0_isGreatest_0 13 rfl rfl)
theorem dX0_isGreatest_14 : decode cX0_isGreatest 14 = .ok (.invokevirtual 132, 3) := dk_182 0 132 (dk_at dksX0_isGreatest_0 14 rfl rfl)
theorem dX0_isGreatest_17 : decode cX0_isGreatest 17 = .ok (.if_icmp .ge 31, 3) := dk_162 0 31 (dk_at dksX0_isGreatest_0 17 rfl rfl)
theorem dX0_isGreatest_20 : decode cX0_isGreatest 20 = .ok (.iload_n 1, 1) := dk_27 (dk_at dksX0_isGreatest_0 20 rfl rfl)
theorem dX0_isGreatest_21 : decode cX0_isGreatest 21 = .ok (.iload_n 2, 1) := dk_28 (dk_at dksX0_isGreatest_0 21 rfl rfl)
theorem dX0_isGreatest_22 : decode cX0_isGreatest 22 = .ok (.invokestatic 138, 3) := dk_184 0 138 (dk_at dksX0_isGreatest_1 0 rfl rfl)
theorem dX0_isGreatest_25 : decode cX0_isGreatest 25 = .ok (.ifCond .ne 17, 3) := dk_154 0 17 (dk_at dksX0_isGreatest_1 3 rfl rfl)
theorem dX0_isGreatest_28 : decode cX0_isGreatest 28 = .ok (.aload_n 0, 1) := dk_42 (dk_at dksX0_isGreatest_1 6 rfl rfl)
theorem dX0_isGreatest_29 : decode cX0_isGreatest 29 = .ok (.iload_n 1, 1) := dk_27 (dk_at dksX0_isGreatest_1 7 rfl rfl)
theorem dX0_isGreatest_30 : decode cX0_isGreatest 30 = .ok (.iconst 1, 1) := dk_4 (dk_at dksX0_isGreatest_1 8 rfl rfl)
theorem dX0_isGreatest_31 : decode cX0_isGreatest 31 = .ok (.iload_n 2, 1) := dk_28 (dk_at dksX0_isGreatest_1 9 rfl rfl)
theorem dX0_isGreatest_32 : decode cX0_isGreatest 32 = .ok (.ishl, 1) := dk_120 (dk_at dksX0_isGreatest_1 10 rfl rfl)
theorem dX0_isGreatest_33 : decode cX0_isGreatest 33 = .ok (.ior, 1) := dk_128 (dk_at dksX0_isGreatest_1 11 rfl rfl)
theorem dX0_isGreatest_34 : decode cX0_isGreatest 34 = .ok (.invokevirtual 307, 3) := dk_182 1 51 (dk_at dksX0_isGreatest_1 12 rfl rfl)
theorem dX0_isGreatest_37 : decode cX0_isGreatest 37 = .ok (.ifCond .eq 5, 3) := dk_153 0 5 (dk_at dksX0_isGreatest_1 15 rfl rfl)
theorem dX0_isGreatest_40 : decode cX0_isGreatest 40 = .ok (.iconst 0, 1) := dk_3 (dk_at dksX0_isGreatest_1 18 rfl rfl)
theorem dX0_isGreatest_41 : decode cX0_isGreatest 41 = .ok (.ireturn, 1) := dk_172 (dk_at dksX0_isGreatest_1 19 rfl rfl)
theorem dX0_isGreatest_42 : decode cX0_isGreatest 42 = .ok (.iinc 2 1, 3) := dk_132 2 1 (dk_at dksX0_isGreatest_1 20 rfl rfl)
theorem dX0_isGreatest_45 : decode cX0_isGreatest 45 = .ok (.goto (-33), 3) := dk_167 255 223 (dk_at dksX0_isGreatest_2 0 rfl rfl)
theorem dX0_isGreatest_48 : decode cX0_isGreatest 48 = .ok (.iconst 1, 1) := dk_4 (dk_at dksX0_isGreatest_2 3 rfl rfl)
theorem dX0_isGreatest_49 : decode cX0_isGreatest 49 = .ok (.ireturn, 1) := dk_172 (dk_at dksX0_isGreatest_2 4 rfl rfl)
abbrev cX0_quarrel : ByteArray := prog_1_method_61_code
def yX0_quarrel : MethodName := ⟨RX0, "quarrel", "(Z)I"⟩
def dkwX0_quarrel_2 : List UInt8 := [153, 0, 15, 28, 2, 159, 0, 10, 28, 184, 0, 208, 167, 0, 4, 28, 172]
abbrev dktX0_quarrel_2 : List UInt8 := dkwX0_quarrel_2 ++ []
def dkwX0_quarrel_1 : List UInt8 := [159, 0, 14, 29, 184, 0, 208, 28, 184, 0, 208, 162, 0, 5, 29, 61, 132, 3, 1, 167, 255, 219, 27]
abbrev dktX0_quarrel_1 : List UInt8 := dkwX0_quarrel_1 ++ dktX0_quarrel_2
def dkwX0_quarrel_0 : List UInt8 := [2, 61, 4, 62, 29, 42, 182, 0, 134, 163, 0, 35, 42, 29, 182, 1, 51, 154, 0, 21, 28, 2]
abbrev dktX0_quarrel_0 : List UInt8 := dkwX0_quarrel_0 ++ dktX0_quarrel_1
theorem dksX0_quarrel_0 : cX0_quarrel.data.toList.drop 0 = dktX0_quarrel_0 := by decide +kernel
theorem dksX0_quarrel_1 : cX0_quarrel.data.toList.drop 22 = dktX0_quarrel_1 := dk_seg dksX0_quarrel_0 22 rfl rfl
theorem dksX0_quarrel_2 : cX0_quarrel.data.toList.drop 45 = dktX0_quarrel_2 := dk_seg dksX0_quarrel_1 23 rfl rfl
theorem dX0_quarrel_0 : decode cX0_quarrel 0 = .ok (.iconst (-1), 1) := dk_2 (dk_at dksX0_quarrel_0 0 rfl rfl)
theorem dX0_quarrel_1 : decode cX0_quarrel 1 = .ok (.istore_n 2, 1) := dk_61 (dk_at dksX0_quarrel_0 1 rfl rfl)
theorem dX0_quarrel_2 : decode cX0_quarrel 2 = .ok (.iconst 1, 1) := dk_4 (dk_at dksX0_quarrel_0 2 rfl rfl)
theorem dX0_quarrel_3 : decode cX0_quarrel 3 = .ok (.istore_n 3, 1) := dk_62 (dk_at dksX0_quarrel_0 3 rfl rfl)
theorem dX0_quarrel_4 : decode cX0_quarrel 4 = .ok (.iload_n 3, 1) := dk_29 (dk_at dksX0_quarrel_0 4 rfl rfl)
theorem dX0_quarrel_5 : decode cX0_quarrel 5 = .ok (.aload_n 0, 1) := dk_42 (dk_at dksX0_quarrel_0 5 rfl rfl)
theorem dX0_quarrel_6 : decode cX0_quarrel 6 = .ok (.invokevirtual 134, 3) := dk_182 0 134 (dk_at dksX0_quarrel_0 6 rfl rfl)
theorem dX0_quarrel_9 : decode cX0_quarrel 9 = .ok (.if_icmp .gt 35, 3) := dk_163 0 35 (dk_at dksX0_quarrel_0 9 rfl rfl)
theorem dX0_quarrel_12 : decode cX0_quarrel 12 = .ok (.aload_n 0, 1) := dk_42 (dk_at dksX0_quarrel_0 12 rfl rfl)
theorem dX0_quarrel_13 : decode cX0_quarrel 13 = .ok (.iload_n 3, 1) := dk_29 (dk_at dksX0_quarrel_0 13 rfl rfl)
theorem dX0_quarrel_14 : decode cX0_quarrel 14 = .ok (.invokevirtual 307, 3) := dk_182 1 51 (dk_at dksX0_quarrel_0 14 rfl rfl)
theorem dX0_quarrel_17 : decode cX0_quarrel 17 = .ok (.ifCond .ne 21, 3) := dk_154 0 21 (dk_at dksX0_quarrel_0 17 rfl rfl)
theorem dX0_quarrel_20 : decode cX0_quarrel 20 = .ok (.iload_n 2, 1) := dk_28 (dk_at dksX0_quarrel_0 20 rfl rfl)
theorem dX0_quarrel_21 : decode cX0_quarrel 21 = .ok (.iconst (-1), 1) := dk_2 (dk_at dksX0_quarrel_0 21 rfl rfl)
theorem dX0_quarrel_22 : decode cX0_quarrel 22 = .ok (.if_icmp .eq 14, 3) := dk_159 0 14 (dk_at dksX0_quarrel_1 0 rfl rfl)
theorem dX0_quarrel_25 : decode cX0_quarrel 25 = .ok (.iload_n 3, 1) := dk_29 (dk_at dksX0_quarrel_1 3 rfl rfl)
theorem dX0_quarrel_26 : decode cX0_quarrel 26 = .ok (.invokestatic 208, 3) := dk_184 0 208 (dk_at dksX0_quarrel_1 4 rfl rfl)
theorem dX0_quarrel_29 : decode cX0_quarrel 29 = .ok (.iload_n 2, 1) := dk_28 (dk_at dksX0_quarrel_1 7 rfl rfl)
theorem dX0_quarrel_30 : decode cX0_quarrel 30 = .ok (.invokestatic 208, 3) := dk_184 0 208 (dk_at dksX0_quarrel_1 8 rfl rfl)
theorem dX0_quarrel_33 : decode cX0_quarrel 33 = .ok (.if_icmp .ge 5, 3) := dk_162 0 5 (dk_at dksX0_quarrel_1 11 rfl rfl)
theorem dX0_quarrel_36 : decode cX0_quarrel 36 = .ok (.iload_n 3, 1) := dk_29 (dk_at dksX0_quarrel_1 14 rfl rfl)
theorem dX0_quarrel_37 : decode cX0_quarrel 37 = .ok (.istore_n 2, 1) := dk_61 (dk_at dksX0_quarrel_1 15 rfl rfl)
theorem dX0_quarrel_38 : decode cX0_quarrel 38 = .ok (.iinc 3 1, 3) := dk_132 3 1 (dk_at dksX0_quarrel_1 16 rfl rfl)
theorem dX0_quarrel_41 : decode cX0_quarrel 41 = .ok (.goto (-37), 3) := dk_167 255 219 (dk_at dksX0_quarrel_1 19 rfl rfl)
theorem dX0_quarrel_44 : decode cX0_quarrel 44 = .ok (.iload_n 1, 1) := dk_27 (dk_at dksX0_quarrel_1 22 rfl rfl)
theorem dX0_quarrel_45 : decode cX0_quarrel 45 = .ok (.ifCond .eq 15, 3) := dk_153 0 15 (dk_at dksX0_quarrel_2 0 rfl rfl)
theorem dX0_quarrel_48 : decode cX0_quarrel 48 = .ok (.iload_n 2, 1) := dk_28 (dk_at dksX0_quarrel_2 3 rfl rfl)
theorem dX0_quarrel_49 : decode cX0_quarrel 49 = .ok (.iconst (-1), 1) := dk_2 (dk_at dksX0_quarrel_2 4 rfl rfl)
theorem dX0_quarrel_50 : decode cX0_quarrel 50 = .ok (.if_icmp .eq 10, 3) := dk_159 0 10 (dk_at dksX0_quarrel_2 5 rfl rfl)
theorem dX0_quarrel_53 : decode cX0_quarrel 53 = .ok (.iload_n 2, 1) := dk_28 (dk_at dksX0_quarrel_2 8 rfl rfl)
theorem dX0_quarrel_54 : decode cX0_quarrel 54 = .ok (.invokestatic 208, 3) := dk_184 0 208 (dk_at dksX0_quarrel_2 9 rfl rfl)
theorem dX0_quarrel_57 : decode cX0_quarrel 57 = .ok (.goto 4, 3) := dk_167 0 4 (dk_at dksX0_quarrel_2 12 rfl rfl)
theorem dX0_quarrel_60 : decode cX0_quarrel 60 = .ok (.iload_n 2, 1) := dk_28 (dk_at dksX0_quarrel_2 15 rfl rfl)
theorem dX0_quarrel_61 : decode cX0_quarrel 61 = .ok (.ireturn, 1) := dk_172 (dk_at dksX0_quarrel_2 16 rfl rfl)
abbrev cX0_idle : ByteArray := prog_1_method_62_code
def yX0_idle : MethodName := ⟨RX0, "idle", "(I)I"⟩
def dkwX0_idle_2 : List UInt8 := [120, 167, 0, 4, 3, 128, 61, 132, 3, 1, 167, 255, 212, 28, 172]
abbrev dktX0_idle_2 : List UInt8 := dkwX0_idle_2 ++ []
def dkwX0_idle_1 : List UInt8 := [29, 184, 0, 138, 153, 0, 24, 42, 27, 4, 29, 120, 2, 130, 126, 29, 182, 1, 48, 153, 0, 9, 4, 29]
abbrev dktX0_idle_1 : List UInt8 := dkwX0_idle_1 ++ dktX0_idle_2
def dkwX0_idle_0 : List UInt8 := [42, 27, 182, 1, 42, 154, 0, 5, 2, 172, 3, 61, 3, 62, 29, 42, 182, 0, 132, 162, 0, 42, 28, 27]
abbrev dktX0_idle_0 : List UInt8 := dkwX0_idle_0 ++ dktX0_idle_1
theorem dksX0_idle_0 : cX0_idle.data.toList.drop 0 = dktX0_idle_0 := by decide +kernel
theorem dksX0_idle_1 : cX0_idle.data.toList.drop 24 = dktX0_idle_1 := dk_seg dksX0_idle_0 24 rfl rfl
theorem dksX0_idle_2 : cX0_idle.data.toList.drop 48 = dktX0_idle_2 := dk_seg dksX0_idle_1 24 rfl rfl
theorem dX0_idle_0 : decode cX0_idle 0 = .ok (.aload_n 0, 1) := dk_42 (dk_at dksX0_idle_0 0 rfl rfl)
theorem dX0_idle_1 : decode cX0_idle 1 = .ok (.iload_n 1, 1) := dk_27 (dk_at dksX0_idle_0 1 rfl rfl)
theorem dX0_idle_2 : decode cX0_idle 2 = .ok (.invokevirtual 298, 3) := dk_182 1 42 (dk_at dksX0_idle_0 2 rfl rfl)
theorem dX0_idle_5 : decode cX0_idle 5 = .ok (.ifCond .ne 5, 3) := dk_154 0 5 (dk_at dksX0_idle_0 5 rfl rfl)
theorem dX0_idle_8 : decode cX0_idle 8 = .ok (.iconst (-1), 1) := dk_2 (dk_at dksX0_idle_0 8 rfl rfl)
theorem dX0_idle_9 : decode cX0_idle 9 = .ok (.ireturn, 1) := dk_172 (dk_at dksX0_idle_0 9 rfl rfl)
theorem dX0_idle_10 : decode cX0_idle 10 = .ok (.iconst 0, 1) := dk_3 (dk_at dksX0_idle_0 10 rfl rfl)
theorem dX0_idle_11 : decode cX0_idle 11 = .ok (.istore_n 2, 1) := dk_61 (dk_at dksX0_idle_0 11 rfl rfl)
theorem dX0_idle_12 : decode cX0_idle 12 = .ok (.iconst 0, 1) := dk_3 (dk_at dksX0_idle_0 12 rfl rfl)
theorem dX0_idle_13 : decode cX0_idle 13 = .ok (.istore_n 3, 1) := dk_62 (dk_at dksX0_idle_0 13 rfl rfl)
theorem dX0_idle_14 : decode cX0_idle 14 = .ok (.iload_n 3, 1) := dk_29 (dk_at dksX0_idle_0 14 rfl rfl)
theorem dX0_idle_15 : decode cX0_idle 15 = .ok (.aload_n 0, 1) := dk_42 (dk_at dksX0_idle_0 15 rfl rfl)
theorem dX0_idle_16 : decode cX0_idle 16 = .ok (.invokevirtual 132, 3) := dk_182 0 132 (dk_at dksX0_idle_0 16 rfl rfl)
theorem dX0_idle_19 : decode cX0_idle 19 = .ok (.if_icmp .ge 42, 3) := dk_162 0 42 (dk_at dksX0_idle_0 19 rfl rfl)
theorem dX0_idle_22 : decode cX0_idle 22 = .ok (.iload_n 2, 1) := dk_28 (dk_at dksX0_idle_0 22 rfl rfl)
theorem dX0_idle_23 : decode cX0_idle 23 = .ok (.iload_n 1, 1) := dk_27 (dk_at dksX0_idle_0 23 rfl rfl)
theorem dX0_idle_24 : decode cX0_idle 24 = .ok (.iload_n 3, 1) := dk_29 (dk_at dksX0_idle_1 0 rfl rfl)
theorem dX0_idle_25 : decode cX0_idle 25 = .ok (.invokestatic 138, 3) := dk_184 0 138 (dk_at dksX0_idle_1 1 rfl rfl)
theorem dX0_idle_28 : decode cX0_idle 28 = .ok (.ifCond .eq 24, 3) := dk_153 0 24 (dk_at dksX0_idle_1 4 rfl rfl)
theorem dX0_idle_31 : decode cX0_idle 31 = .ok (.aload_n 0, 1) := dk_42 (dk_at dksX0_idle_1 7 rfl rfl)
theorem dX0_idle_32 : decode cX0_idle 32 = .ok (.iload_n 1, 1) := dk_27 (dk_at dksX0_idle_1 8 rfl rfl)
theorem dX0_idle_33 : decode cX0_idle 33 = .ok (.iconst 1, 1) := dk_4 (dk_at dksX0_idle_1 9 rfl rfl)
theorem dX0_idle_34 : decode cX0_idle 34 = .ok (.iload_n 3, 1) := dk_29 (dk_at dksX0_idle_1 10 rfl rfl)
theorem dX0_idle_35 : decode cX0_idle 35 = .ok (.ishl, 1) := dk_120 (dk_at dksX0_idle_1 11 rfl rfl)
theorem dX0_idle_36 : decode cX0_idle 36 = .ok (.iconst (-1), 1) := dk_2 (dk_at dksX0_idle_1 12 rfl rfl)
theorem dX0_idle_37 : decode cX0_idle 37 = .ok (.ixor, 1) := dk_130 (dk_at dksX0_idle_1 13 rfl rfl)
theorem dX0_idle_38 : decode cX0_idle 38 = .ok (.iand, 1) := dk_126 (dk_at dksX0_idle_1 14 rfl rfl)
theorem dX0_idle_39 : decode cX0_idle 39 = .ok (.iload_n 3, 1) := dk_29 (dk_at dksX0_idle_1 15 rfl rfl)
theorem dX0_idle_40 : decode cX0_idle 40 = .ok (.invokevirtual 304, 3) := dk_182 1 48 (dk_at dksX0_idle_1 16 rfl rfl)
theorem dX0_idle_43 : decode cX0_idle 43 = .ok (.ifCond .eq 9, 3) := dk_153 0 9 (dk_at dksX0_idle_1 19 rfl rfl)
theorem dX0_idle_46 : decode cX0_idle 46 = .ok (.iconst 1, 1) := dk_4 (dk_at dksX0_idle_1 22 rfl rfl)
theorem dX0_idle_47 : decode cX0_idle 47 = .ok (.iload_n 3, 1) := dk_29 (dk_at dksX0_idle_1 23 rfl rfl)
theorem dX0_idle_48 : decode cX0_idle 48 = .ok (.ishl, 1) := dk_120 (dk_at dksX0_idle_2 0 rfl rfl)
theorem dX0_idle_49 : decode cX0_idle 49 = .ok (.goto 4, 3) := dk_167 0 4 (dk_at dksX0_idle_2 1 rfl rfl)
theorem dX0_idle_52 : decode cX0_idle 52 = .ok (.iconst 0, 1) := dk_3 (dk_at dksX0_idle_2 4 rfl rfl)
theorem dX0_idle_53 : decode cX0_idle 53 = .ok (.ior, 1) := dk_128 (dk_at dksX0_idle_2 5 rfl rfl)
theorem dX0_idle_54 : decode cX0_idle 54 = .ok (.istore_n 2, 1) := dk_61 (dk_at dksX0_idle_2 6 rfl rfl)
theorem dX0_idle_55 : decode cX0_idle 55 = .ok (.iinc 3 1, 3) := dk_132 3 1 (dk_at dksX0_idle_2 7 rfl rfl)
theorem dX0_idle_58 : decode cX0_idle 58 = .ok (.goto (-44), 3) := dk_167 255 212 (dk_at dksX0_idle_2 10 rfl rfl)
theorem dX0_idle_61 : decode cX0_idle 61 = .ok (.iload_n 2, 1) := dk_28 (dk_at dksX0_idle_2 13 rfl rfl)
theorem dX0_idle_62 : decode cX0_idle 62 = .ok (.ireturn, 1) := dk_172 (dk_at dksX0_idle_2 14 rfl rfl)
abbrev cX0_against : ByteArray := prog_1_method_63_code
def yX0_against : MethodName := ⟨RX0, "against", "(I)I"⟩
def dkwX0_against_2 : List UInt8 := [132, 3, 1, 167, 255, 221, 28, 172]
abbrev dktX0_against_2 : List UInt8 := dkwX0_against_2 ++ []
def dkwX0_against_1 : List UInt8 := [4, 27, 120, 4, 29, 120, 128, 182, 1, 51, 153, 0, 7, 3, 167, 0, 6, 4, 29, 120, 128, 61]
abbrev dktX0_against_1 : List UInt8 := dkwX0_against_1 ++ dktX0_against_2
def dkwX0_against_0 : List UInt8 := [42, 27, 182, 0, 213, 154, 0, 5, 2, 172, 3, 61, 3, 62, 29, 42, 182, 0, 132, 162, 0, 33, 28, 42]
abbrev dktX0_against_0 : List UInt8 := dkwX0_against_0 ++ dktX0_against_1
theorem dksX0_against_0 : cX0_against.data.toList.drop 0 = dktX0_against_0 := by decide +kernel
theorem dksX0_against_1 : cX0_against.data.toList.drop 24 = dktX0_against_1 := dk_seg dksX0_against_0 24 rfl rfl
theorem dksX0_against_2 : cX0_against.data.toList.drop 46 = dktX0_against_2 := dk_seg dksX0_against_1 22 rfl rfl
theorem dX0_against_0 : decode cX0_against 0 = .ok (.aload_n 0, 1) := dk_42 (dk_at dksX0_against_0 0 rfl rfl)
theorem dX0_against_1 : decode cX0_against 1 = .ok (.iload_n 1, 1) := dk_27 (dk_at dksX0_against_0 1 rfl rfl)
theorem dX0_against_2 : decode cX0_against 2 = .ok (.invokevirtual 213, 3) := dk_182 0 213 (dk_at dksX0_against_0 2 rfl rfl)
theorem dX0_against_5 : decode cX0_against 5 = .ok (.ifCond .ne 5, 3) := dk_154 0 5 (dk_at dksX0_against_0 5 rfl rfl)
theorem dX0_against_8 : decode cX0_against 8 = .ok (.iconst (-1), 1) := dk_2 (dk_at dksX0_against_0 8 rfl rfl)
theorem dX0_against_9 : decode cX0_against 9 = .ok (.ireturn, 1) := dk_172 (dk_at dksX0_against_0 9 rfl rfl)
theorem dX0_against_10 : decode cX0_against 10 = .ok (.iconst 0, 1) := dk_3 (dk_at dksX0_against_0 10 rfl rfl)
theorem dX0_against_11 : decode cX0_against 11 = .ok (.istore_n 2, 1) := dk_61 (dk_at dksX0_against_0 11 rfl rfl)
theorem dX0_against_12 : decode cX0_against 12 = .ok (.iconst 0, 1) := dk_3 (dk_at dksX0_against_0 12 rfl rfl)
theorem dX0_against_13 : decode cX0_against 13 = .ok (.istore_n 3, 1) := dk_62 (dk_at dksX0_against_0 13 rfl rfl)
theorem dX0_against_14 : decode cX0_against 14 = .ok (.iload_n 3, 1) := dk_29 (dk_at dksX0_against_0 14 rfl rfl)
theorem dX0_against_15 : decode cX0_against 15 = .ok (.aload_n 0, 1) := dk_42 (dk_at dksX0_against_0 15 rfl rfl)
theorem dX0_against_16 : decode cX0_against 16 = .ok (.invokevirtual 132, 3) := dk_182 0 132 (dk_at dksX0_against_0 16 rfl rfl)
theorem dX0_against_19 : decode cX0_against 19 = .ok (.if_icmp .ge 33, 3) := dk_162 0 33 (dk_at dksX0_against_0 19 rfl rfl)
theorem dX0_against_22 : decode cX0_against 22 = .ok (.iload_n 2, 1) := dk_28 (dk_at dksX0_against_0 22 rfl rfl)
theorem dX0_against_23 : decode cX0_against 23 = .ok (.aload_n 0, 1) := dk_42 (dk_at dksX0_against_0 23 rfl rfl)
theorem dX0_against_24 : decode cX0_against 24 = .ok (.iconst 1, 1) := dk_4 (dk_at dksX0_against_1 0 rfl rfl)
theorem dX0_against_25 : decode cX0_against 25 = .ok (.iload_n 1, 1) := dk_27 (dk_at dksX0_against_1 1 rfl rfl)
theorem dX0_against_26 : decode cX0_against 26 = .ok (.ishl, 1) := dk_120 (dk_at dksX0_against_1 2 rfl rfl)
theorem dX0_against_27 : decode cX0_against 27 = .ok (.iconst 1, 1) := dk_4 (dk_at dksX0_against_1 3 rfl rfl)
theorem dX0_against_28 : decode cX0_against 28 = .ok (.iload_n 3, 1) := dk_29 (dk_at dksX0_against_1 4 rfl rfl)
theorem dX0_against_29 : decode cX0_against 29 = .ok (.ishl, 1) := dk_120 (dk_at dksX0_against_1 5 rfl rfl)
theorem dX0_against_30 : decode cX0_against 30 = .ok (.ior, 1) := dk_128 (dk_at dksX0_against_1 6 rfl rfl)
theorem dX0_against_31 : decode cX0_against 31 = .ok (.invokevirtual 307, 3) := dk_182 1 51 (dk_at dksX0_against_1 7 rfl rfl)
theorem dX0_against_34 : decode cX0_against 34 = .ok (.ifCond .eq 7, 3) := dk_153 0 7 (dk_at dksX0_against_1 10 rfl rfl)
theorem dX0_against_37 : decode cX0_against 37 = .ok (.iconst 0, 1) := dk_3 (dk_at dksX0_against_1 13 rfl rfl)
theorem dX0_against_38 : decode cX0_against 38 = .ok (.goto 6, 3) := dk_167 0 6 (dk_at dksX0_against_1 14 rfl rfl)
theorem dX0_against_41 : decode cX0_against 41 = .ok (.iconst 1, 1) := dk_4 (dk_at dksX0_against_1 17 rfl rfl)
theorem dX0_against_42 : decode cX0_against 42 = .ok (.iload_n 3, 1) := dk_29 (dk_at dksX0_against_1 18 rfl rfl)
theorem dX0_against_43 : decode cX0_against 43 = .ok (.ishl, 1) := dk_120 (dk_at dksX0_against_1 19 rfl rfl)
theorem dX0_against_44 : decode cX0_against 44 = .ok (.ior, 1) := dk_128 (dk_at dksX0_against_1 20 rfl rfl)
theorem dX0_against_45 : decode cX0_against 45 = .ok (.istore_n 2, 1) := dk_61 (dk_at dksX0_against_1 21 rfl rfl)
theorem dX0_against_46 : decode cX0_against 46 = .ok (.iinc 3 1, 3) := dk_132 3 1 (dk_at dksX0_against_2 0 rfl rfl)
theorem dX0_against_49 : decode cX0_against 49 = .ok (.goto (-35), 3) := dk_167 255 221 (dk_at dksX0_against_2 3 rfl rfl)
theorem dX0_against_52 : decode cX0_against 52 = .ok (.iload_n 2, 1) := dk_28 (dk_at dksX0_against_2 6 rfl rfl)
theorem dX0_against_53 : decode cX0_against 53 = .ok (.ireturn, 1) := dk_172 (dk_at dksX0_against_2 7 rfl rfl)
abbrev cX0_certain : ByteArray := prog_1_method_64_code
def yX0_certain : MethodName := ⟨RX0, "certain", "(IZ)I"⟩
def dkwX0_certain_2 : List UInt8 := [153, 0, 8, 21, 4, 167, 0, 7, 21, 4, 2, 130, 126, 62, 132, 4, 1, 167, 255, 217, 29, 172]
abbrev dktX0_certain_2 : List UInt8 := dkwX0_certain_2 ++ []
def dkwX0_certain_1 : List UInt8 := [21, 4, 16, 16, 162, 0, 38, 42, 27, 182, 0, 149, 21, 4, 184, 0, 138, 153, 0, 19, 29, 28]
abbrev dktX0_certain_1 : List UInt8 := dkwX0_certain_1 ++ dktX0_certain_2
def dkwX0_certain_0 : List UInt8 := [42, 27, 182, 1, 42, 153, 0, 11, 42, 27, 182, 1, 51, 154, 0, 5, 2, 172, 16, 15, 62, 3, 54, 4]
abbrev dktX0_certain_0 : List UInt8 := dkwX0_certain_0 ++ dktX0_certain_1
theorem dksX0_certain_0 : cX0_certain.data.toList.drop 0 = dktX0_certain_0 := by decide +kernel
theorem dksX0_certain_1 : cX0_certain.data.toList.drop 24 = dktX0_certain_1 := dk_seg dksX0_certain_0 24 rfl rfl
theorem dksX0_certain_2 : cX0_certain.data.toList.drop 46 = dktX0_certain_2 := dk_seg dksX0_certain_1 22 rfl rfl
theorem dX0_certain_0 : decode cX0_certain 0 = .ok (.aload_n 0, 1) := dk_42 (dk_at dksX0_certain_0 0 rfl rfl)
theorem dX0_certain_1 : decode cX0_certain 1 = .ok (.iload_n 1, 1) := dk_27 (dk_at dksX0_certain_0 1 rfl rfl)
theorem dX0_certain_2 : decode cX0_certain 2 = .ok (.invokevirtual 298, 3) := dk_182 1 42 (dk_at dksX0_certain_0 2 rfl rfl)
theorem dX0_certain_5 : decode cX0_certain 5 = .ok (.ifCond .eq 11, 3) := dk_153 0 11 (dk_at dksX0_certain_0 5 rfl rfl)
theorem dX0_certain_8 : decode cX0_certain 8 = .ok (.aload_n 0, 1) := dk_42 (dk_at dksX0_certain_0 8 rfl rfl)
theorem dX0_certain_9 : decode cX0_certain 9 = .ok (.iload_n 1, 1) := dk_27 (dk_at dksX0_certain_0 9 rfl rfl)
theorem dX0_certain_10 : decode cX0_certain 10 = .ok (.invokevirtual 307, 3) := dk_182 1 51 (dk_at dksX0_certain_0 10 rfl rfl)
theorem dX0_certain_13 : decode cX0_certain 13 = .ok (.ifCond .ne 5, 3) := dk_154 0 5 (dk_at dksX0_certain_0 13 rfl rfl)
theorem dX0_certain_16 : decode cX0_certain 16 = .ok (.iconst (-1), 1) := dk_2 (dk_at dksX0_certain_0 16 rfl rfl)
theorem dX0_certain_17 : decode cX0_certain 17 = .ok (.ireturn, 1) := dk_172 (dk_at dksX0_certain_0 17 rfl rfl)
theorem dX0_certain_18 : decode cX0_certain 18 = .ok (.bipush 15, 2) := dk_16 15 (dk_at dksX0_certain_0 18 rfl rfl)
theorem dX0_certain_20 : decode cX0_certain 20 = .ok (.istore_n 3, 1) := dk_62 (dk_at dksX0_certain_0 20 rfl rfl)
theorem dX0_certain_21 : decode cX0_certain 21 = .ok (.iconst 0, 1) := dk_3 (dk_at dksX0_certain_0 21 rfl rfl)
theorem dX0_certain_22 : decode cX0_certain 22 = .ok (.istore 4, 2) := dk_54 4 (dk_at dksX0_certain_0 22 rfl rfl)
theorem dX0_certain_24 : decode cX0_certain 24 = .ok (.iload 4, 2) := dk_21 4 (dk_at dksX0_certain_1 0 rfl rfl)
theorem dX0_certain_26 : decode cX0_certain 26 = .ok (.bipush 16, 2) := dk_16 16 (dk_at dksX0_certain_1 2 rfl rfl)
theorem dX0_certain_28 : decode cX0_certain 28 = .ok (.if_icmp .ge 38, 3) := dk_162 0 38 (dk_at dksX0_certain_1 4 rfl rfl)
theorem dX0_certain_31 : decode cX0_certain 31 = .ok (.aload_n 0, 1) := dk_42 (dk_at dksX0_certain_1 7 rfl rfl)
theorem dX0_certain_32 : decode cX0_certain 32 = .ok (.iload_n 1, 1) := dk_27 (dk_at dksX0_certain_1 8 rfl rfl)
theorem dX0_certain_33 : decode cX0_certain 33 = .ok (.invokevirtual 149, 3) := dk_182 0 149 (dk_at dksX0_certain_1 9 rfl rfl)
theorem dX0_certain_36 : decode cX0_certain 36 = .ok (.iload 4, 2) := dk_21 4 (dk_at dksX0_certain_1 12 rfl rfl)
theorem dX0_certain_38 : decode cX0_certain 38 = .ok (.invokestatic 138, 3) := dk_184 0 138 (dk_at dksX0_certain_1 14 rfl rfl)
theorem dX0_certain_41 : decode cX0_certain 41 = .ok (.ifCond .eq 19, 3) := dk_153 0 19 (dk_at dksX0_certain_1 17 rfl rfl)
theorem dX0_certain_44 : decode cX0_certain 44 = .ok (.iload_n 3, 1) := dk_29 (dk_at dksX0_certain_1 20 rfl rfl)
theorem dX0_certain_45 : decode cX0_certain 45 = .ok (.iload_n 2, 1) := dk_28 (dk_at dksX0_certain_1 21 rfl rfl)
theorem dX0_certain_46 : decode cX0_certain 46 = .ok (.ifCond .eq 8, 3) := dk_153 0 8 (dk_at dksX0_certain_2 0 rfl rfl)
theorem dX0_certain_49 : decode cX0_certain 49 = .ok (.iload 4, 2) := dk_21 4 (dk_at dksX0_certain_2 3 rfl rfl)
theorem dX0_certain_51 : decode cX0_certain 51 = .ok (.goto 7, 3) := dk_167 0 7 (dk_at dksX0_certain_2 5 rfl rfl)
theorem dX0_certain_54 : decode cX0_certain 54 = .ok (.iload 4, 2) := dk_21 4 (dk_at dksX0_certain_2 8 rfl rfl)
theorem dX0_certain_56 : decode cX0_certain 56 = .ok (.iconst (-1), 1) := dk_2 (dk_at dksX0_certain_2 10 rfl rfl)
theorem dX0_certain_57 : decode cX0_certain 57 = .ok (.ixor, 1) := dk_130 (dk_at dksX0_certain_2 11 rfl rfl)
theorem dX0_certain_58 : decode cX0_certain 58 = .ok (.iand, 1) := dk_126 (dk_at dksX0_certain_2 12 rfl rfl)
theorem dX0_certain_59 : decode cX0_certain 59 = .ok (.istore_n 3, 1) := dk_62 (dk_at dksX0_certain_2 13 rfl rfl)
theorem dX0_certain_60 : decode cX0_certain 60 = .ok (.iinc 4 1, 3) := dk_132 4 1 (dk_at dksX0_certain_2 14 rfl rfl)
theorem dX0_certain_63 : decode cX0_certain 63 = .ok (.goto (-39), 3) := dk_167 255 217 (dk_at dksX0_certain_2 17 rfl rfl)
theorem dX0_certain_66 : decode cX0_certain 66 = .ok (.iload_n 3, 1) := dk_29 (dk_at dksX0_certain_2 20 rfl rfl)
theorem dX0_certain_67 : decode cX0_certain 67 = .ok (.ireturn, 1) := dk_172 (dk_at dksX0_certain_2 21 rfl rfl)
abbrev cX0_ask : ByteArray := prog_1_method_65_code
def yX0_ask : MethodName := ⟨RX0, "ask", "(I)I"⟩
def dkwX0_ask_4 : List UInt8 := [100, 184, 1, 58, 62, 132, 5, 1, 167, 255, 189, 28, 172]
abbrev dktX0_ask_4 : List UInt8 := dkwX0_ask_4 ++ []
def dkwX0_ask_3 : List UInt8 := [21, 4, 21, 6, 100, 184, 1, 58, 29, 161, 0, 6, 167, 0, 17, 21, 5, 61, 21, 6, 21, 4, 21, 6]
abbrev dktX0_ask_3 : List UInt8 := dkwX0_ask_3 ++ dktX0_ask_4
def dkwX0_ask_2 : List UInt8 := [4, 21, 5, 120, 128, 182, 0, 149, 184, 0, 208, 54, 6, 27, 21, 5, 184, 0, 138, 154, 0, 34, 21, 6]
abbrev dktX0_ask_2 : List UInt8 := dkwX0_ask_2 ++ dktX0_ask_3
def dkwX0_ask_1 : List UInt8 := [42, 27, 182, 0, 149, 184, 0, 208, 54, 4, 3, 54, 5, 21, 5, 42, 182, 0, 132, 162, 0, 64, 42, 27]
abbrev dktX0_ask_1 : List UInt8 := dkwX0_ask_1 ++ dktX0_ask_2
def dkwX0_ask_0 : List UInt8 := [42, 27, 182, 1, 42, 153, 0, 11, 42, 27, 182, 1, 51, 154, 0, 5, 2, 172, 2, 61, 19, 1, 57, 62]
abbrev dktX0_ask_0 : List UInt8 := dkwX0_ask_0 ++ dktX0_ask_1
theorem dksX0_ask_0 : cX0_ask.data.toList.drop 0 = dktX0_ask_0 := by decide +kernel
theorem dksX0_ask_1 : cX0_ask.data.toList.drop 24 = dktX0_ask_1 := dk_seg dksX0_ask_0 24 rfl rfl
theorem dksX0_ask_2 : cX0_ask.data.toList.drop 48 = dktX0_ask_2 := dk_seg dksX0_ask_1 24 rfl rfl
theorem dksX0_ask_3 : cX0_ask.data.toList.drop 72 = dktX0_ask_3 := dk_seg dksX0_ask_2 24 rfl rfl
theorem dksX0_ask_4 : cX0_ask.data.toList.drop 96 = dktX0_ask_4 := dk_seg dksX0_ask_3 24 rfl rfl
theorem dX0_ask_0 : decode cX0_ask 0 = .ok (.aload_n 0, 1) := dk_42 (dk_at dksX0_ask_0 0 rfl rfl)
theorem dX0_ask_1 : decode cX0_ask 1 = .ok (.iload_n 1, 1) := dk_27 (dk_at dksX0_ask_0 1 rfl rfl)
theorem dX0_ask_2 : decode cX0_ask 2 = .ok (.invokevirtual 298, 3) := dk_182 1 42 (dk_at dksX0_ask_0 2 rfl rfl)
theorem dX0_ask_5 : decode cX0_ask 5 = .ok (.ifCond .eq 11, 3) := dk_153 0 11 (dk_at dksX0_ask_0 5 rfl rfl)
theorem dX0_ask_8 : decode cX0_ask 8 = .ok (.aload_n 0, 1) := dk_42 (dk_at dksX0_ask_0 8 rfl rfl)
theorem dX0_ask_9 : decode cX0_ask 9 = .ok (.iload_n 1, 1) := dk_27 (dk_at dksX0_ask_0 9 rfl rfl)
theorem dX0_ask_10 : decode cX0_ask 10 = .ok (.invokevirtual 307, 3) := dk_182 1 51 (dk_at dksX0_ask_0 10 rfl rfl)
theorem dX0_ask_13 : decode cX0_ask 13 = .ok (.ifCond .ne 5, 3) := dk_154 0 5 (dk_at dksX0_ask_0 13 rfl rfl)
theorem dX0_ask_16 : decode cX0_ask 16 = .ok (.iconst (-1), 1) := dk_2 (dk_at dksX0_ask_0 16 rfl rfl)
theorem dX0_ask_17 : decode cX0_ask 17 = .ok (.ireturn, 1) := dk_172 (dk_at dksX0_ask_0 17 rfl rfl)
theorem dX0_ask_18 : decode cX0_ask 18 = .ok (.iconst (-1), 1) := dk_2 (dk_at dksX0_ask_0 18 rfl rfl)
theorem dX0_ask_19 : decode cX0_ask 19 = .ok (.istore_n 2, 1) := dk_61 (dk_at dksX0_ask_0 19 rfl rfl)
theorem dX0_ask_20 : decode cX0_ask 20 = .ok (.ldc_w 313, 3) := dk_19 1 57 (dk_at dksX0_ask_0 20 rfl rfl)
theorem dX0_ask_23 : decode cX0_ask 23 = .ok (.istore_n 3, 1) := dk_62 (dk_at dksX0_ask_0 23 rfl rfl)
theorem dX0_ask_24 : decode cX0_ask 24 = .ok (.aload_n 0, 1) := dk_42 (dk_at dksX0_ask_1 0 rfl rfl)
theorem dX0_ask_25 : decode cX0_ask 25 = .ok (.iload_n 1, 1) := dk_27 (dk_at dksX0_ask_1 1 rfl rfl)
theorem dX0_ask_26 : decode cX0_ask 26 = .ok (.invokevirtual 149, 3) := dk_182 0 149 (dk_at dksX0_ask_1 2 rfl rfl)
theorem dX0_ask_29 : decode cX0_ask 29 = .ok (.invokestatic 208, 3) := dk_184 0 208 (dk_at dksX0_ask_1 5 rfl rfl)
theorem dX0_ask_32 : decode cX0_ask 32 = .ok (.istore 4, 2) := dk_54 4 (dk_at dksX0_ask_1 8 rfl rfl)
theorem dX0_ask_34 : decode cX0_ask 34 = .ok (.iconst 0, 1) := dk_3 (dk_at dksX0_ask_1 10 rfl rfl)
theorem dX0_ask_35 : decode cX0_ask 35 = .ok (.istore 5, 2) := dk_54 5 (dk_at dksX0_ask_1 11 rfl rfl)
theorem dX0_ask_37 : decode cX0_ask 37 = .ok (.iload 5, 2) := dk_21 5 (dk_at dksX0_ask_1 13 rfl rfl)
theorem dX0_ask_39 : decode cX0_ask 39 = .ok (.aload_n 0, 1) := dk_42 (dk_at dksX0_ask_1 15 rfl rfl)
theorem dX0_ask_40 : decode cX0_ask 40 = .ok (.invokevirtual 132, 3) := dk_182 0 132 (dk_at dksX0_ask_1 16 rfl rfl)
theorem dX0_ask_43 : decode cX0_ask 43 = .ok (.if_icmp .ge 64, 3) := dk_162 0 64 (dk_at dksX0_ask_1 19 rfl rfl)
theorem dX0_ask_46 : decode cX0_ask 46 = .ok (.aload_n 0, 1) := dk_42 (dk_at dksX0_ask_1 22 rfl rfl)
theorem dX0_ask_47 : decode cX0_ask 47 = .ok (.iload_n 1, 1) := dk_27 (dk_at dksX0_ask_1 23 rfl rfl)
theorem dX0_ask_48 : decode cX0_ask 48 = .ok (.iconst 1, 1) := dk_4 (dk_at dksX0_ask_2 0 rfl rfl)
theorem dX0_ask_49 : decode cX0_ask 49 = .ok (.iload 5, 2) := dk_21 5 (dk_at dksX0_ask_2 1 rfl rfl)
theorem dX0_ask_51 : decode cX0_ask 51 = .ok (.ishl, 1) := dk_120 (dk_at dksX0_ask_2 3 rfl rfl)
theorem dX0_ask_52 : decode cX0_ask 52 = .ok (.ior, 1) := dk_128 (dk_at dksX0_ask_2 4 rfl rfl)
theorem dX0_ask_53 : decode cX0_ask 53 = .ok (.invokevirtual 149, 3) := dk_182 0 149 (dk_at dksX0_ask_2 5 rfl rfl)
theorem dX0_ask_56 : decode cX0_ask 56 = .ok (.invokestatic 208, 3) := dk_184 0 208 (dk_at dksX0_ask_2 8 rfl rfl)
theorem dX0_ask_59 : decode cX0_ask 59 = .ok (.istore 6, 2) := dk_54 6 (dk_at dksX0_ask_2 11 rfl rfl)
theorem dX0_ask_61 : decode cX0_ask 61 = .ok (.iload_n 1, 1) := dk_27 (dk_at dksX0_ask_2 13 rfl rfl)
theorem dX0_ask_62 : decode cX0_ask 62 = .ok (.iload 5, 2) := dk_21 5 (dk_at dksX0_ask_2 14 rfl rfl)
theorem dX0_ask_64 : decode cX0_ask 64 = .ok (.invokestatic 138, 3) := dk_184 0 138 (dk_at dksX0_ask_2 16 rfl rfl)
theorem dX0_ask_67 : decode cX0_ask 67 = .ok (.ifCond .ne 34, 3) := dk_154 0 34 (dk_at dksX0_ask_2 19 rfl rfl)
theorem dX0_ask_70 : decode cX0_ask 70 = .ok (.iload 6, 2) := dk_21 6 (dk_at dksX0_ask_2 22 rfl rfl)
theorem dX0_ask_72 : decode cX0_ask 72 = .ok (.iload 4, 2) := dk_21 4 (dk_at dksX0_ask_3 0 rfl rfl)
theorem dX0_ask_74 : decode cX0_ask 74 = .ok (.iload 6, 2) := dk_21 6 (dk_at dksX0_ask_3 2 rfl rfl)
theorem dX0_ask_76 : decode cX0_ask 76 = .ok (.isub, 1) := dk_100 (dk_at dksX0_ask_3 4 rfl rfl)
theorem dX0_ask_77 : decode cX0_ask 77 = .ok (.invokestatic 314, 3) := dk_184 1 58 (dk_at dksX0_ask_3 5 rfl rfl)
theorem dX0_ask_80 : decode cX0_ask 80 = .ok (.iload_n 3, 1) := dk_29 (dk_at dksX0_ask_3 8 rfl rfl)
theorem dX0_ask_81 : decode cX0_ask 81 = .ok (.if_icmp .lt 6, 3) := dk_161 0 6 (dk_at dksX0_ask_3 9 rfl rfl)
theorem dX0_ask_84 : decode cX0_ask 84 = .ok (.goto 17, 3) := dk_167 0 17 (dk_at dksX0_ask_3 12 rfl rfl)
theorem dX0_ask_87 : decode cX0_ask 87 = .ok (.iload 5, 2) := dk_21 5 (dk_at dksX0_ask_3 15 rfl rfl)
theorem dX0_ask_89 : decode cX0_ask 89 = .ok (.istore_n 2, 1) := dk_61 (dk_at dksX0_ask_3 17 rfl rfl)
theorem dX0_ask_90 : decode cX0_ask 90 = .ok (.iload 6, 2) := dk_21 6 (dk_at dksX0_ask_3 18 rfl rfl)
theorem dX0_ask_92 : decode cX0_ask 92 = .ok (.iload 4, 2) := dk_21 4 (dk_at dksX0_ask_3 20 rfl rfl)
theorem dX0_ask_94 : decode cX0_ask 94 = .ok (.iload 6, 2) := dk_21 6 (dk_at dksX0_ask_3 22 rfl rfl)
theorem dX0_ask_96 : decode cX0_ask 96 = .ok (.isub, 1) := dk_100 (dk_at dksX0_ask_4 0 rfl rfl)
theorem dX0_ask_97 : decode cX0_ask 97 = .ok (.invokestatic 314, 3) := dk_184 1 58 (dk_at dksX0_ask_4 1 rfl rfl)
theorem dX0_ask_100 : decode cX0_ask 100 = .ok (.istore_n 3, 1) := dk_62 (dk_at dksX0_ask_4 4 rfl rfl)
theorem dX0_ask_101 : decode cX0_ask 101 = .ok (.iinc 5 1, 3) := dk_132 5 1 (dk_at dksX0_ask_4 5 rfl rfl)
theorem dX0_ask_104 : decode cX0_ask 104 = .ok (.goto (-67), 3) := dk_167 255 189 (dk_at dksX0_ask_4 8 rfl rfl)
theorem dX0_ask_107 : decode cX0_ask 107 = .ok (.iload_n 2, 1) := dk_28 (dk_at dksX0_ask_4 11 rfl rfl)
theorem dX0_ask_108 : decode cX0_ask 108 = .ok (.ireturn, 1) := dk_172 (dk_at dksX0_ask_4 12 rfl rfl)
abbrev cX0_likely : ByteArray := prog_1_method_67_code
def yX0_likely : MethodName := ⟨RX0, "likely", "(IIZ)I"⟩
def dkwX0_likely_2 : List UInt8 := [54, 5, 29, 153, 0, 8, 21, 4, 167, 0, 5, 21, 5, 21, 4, 21, 5, 184, 1, 60, 108, 172]
abbrev dktX0_likely_2 : List UInt8 := dkwX0_likely_2 ++ []
def dkwX0_likely_1 : List UInt8 := [2, 172, 42, 27, 182, 0, 149, 184, 0, 208, 54, 4, 42, 27, 4, 28, 120, 128, 182, 0, 149, 184, 0, 208]
abbrev dktX0_likely_1 : List UInt8 := dkwX0_likely_1 ++ dktX0_likely_2
def dkwX0_likely_0 : List UInt8 := [42, 27, 182, 1, 42, 153, 0, 19, 42, 28, 182, 0, 213, 153, 0, 11, 42, 27, 182, 1, 51, 154, 0, 5]
abbrev dktX0_likely_0 : List UInt8 := dkwX0_likely_0 ++ dktX0_likely_1
theorem dksX0_likely_0 : cX0_likely.data.toList.drop 0 = dktX0_likely_0 := by decide +kernel
theorem dksX0_likely_1 : cX0_likely.data.toList.drop 24 = dktX0_likely_1 := dk_seg dksX0_likely_0 24 rfl rfl
theorem dksX0_likely_2 : cX0_likely.data.toList.drop 48 = dktX0_likely_2 := dk_seg dksX0_likely_1 24 rfl rfl
theorem dX0_likely_0 : decode cX0_likely 0 = .ok (.aload_n 0, 1) := dk_42 (dk_at dksX0_likely_0 0 rfl rfl)
theorem dX0_likely_1 : decode cX0_likely 1 = .ok (.iload_n 1, 1) := dk_27 (dk_at dksX0_likely_0 1 rfl rfl)
theorem dX0_likely_2 : decode cX0_likely 2 = .ok (.invokevirtual 298, 3) := dk_182 1 42 (dk_at dksX0_likely_0 2 rfl rfl)
theorem dX0_likely_5 : decode cX0_likely 5 = .ok (.ifCond .eq 19, 3) := dk_153 0 19 (dk_at dksX0_likely_0 5 rfl rfl)
theorem dX0_likely_8 : decode cX0_likely 8 = .ok (.aload_n 0, 1) := dk_42 (dk_at dksX0_likely_0 8 rfl rfl)
theorem dX0_likely_9 : decode cX0_likely 9 = .ok (.iload_n 2, 1) := dk_28 (dk_at dksX0_likely_0 9 rfl rfl)
theorem dX0_likely_10 : decode cX0_likely 10 = .ok (.invokevirtual 213, 3) := dk_182 0 213 (dk_at dksX0_likely_0 10 rfl rfl)
theorem dX0_likely_13 : decode cX0_likely 13 = .ok (.ifCond .eq 11, 3) := dk_153 0 11 (dk_at dksX0_likely_0 13 rfl rfl)
theorem dX0_likely_16 : decode cX0_likely 16 = .ok (.aload_n 0, 1) := dk_42 (dk_at dksX0_likely_0 16 rfl rfl)
theorem dX0_likely_17 : decode cX0_likely 17 = .ok (.iload_n 1, 1) := dk_27 (dk_at dksX0_likely_0 17 rfl rfl)
theorem dX0_likely_18 : decode cX0_likely 18 = .ok (.invokevirtual 307, 3) := dk_182 1 51 (dk_at dksX0_likely_0 18 rfl rfl)
theorem dX0_likely_21 : decode cX0_likely 21 = .ok (.ifCond .ne 5, 3) := dk_154 0 5 (dk_at dksX0_likely_0 21 rfl rfl)
theorem dX0_likely_24 : decode cX0_likely 24 = .ok (.iconst (-1), 1) := dk_2 (dk_at dksX0_likely_1 0 rfl rfl)
theorem dX0_likely_25 : decode cX0_likely 25 = .ok (.ireturn, 1) := dk_172 (dk_at dksX0_likely_1 1 rfl rfl)
theorem dX0_likely_26 : decode cX0_likely 26 = .ok (.aload_n 0, 1) := dk_42 (dk_at dksX0_likely_1 2 rfl rfl)
theorem dX0_likely_27 : decode cX0_likely 27 = .ok (.iload_n 1, 1) := dk_27 (dk_at dksX0_likely_1 3 rfl rfl)
theorem dX0_likely_28 : decode cX0_likely 28 = .ok (.invokevirtual 149, 3) := dk_182 0 149 (dk_at dksX0_likely_1 4 rfl rfl)
theorem dX0_likely_31 : decode cX0_likely 31 = .ok (.invokestatic 208, 3) := dk_184 0 208 (dk_at dksX0_likely_1 7 rfl rfl)
theorem dX0_likely_34 : decode cX0_likely 34 = .ok (.istore 4, 2) := dk_54 4 (dk_at dksX0_likely_1 10 rfl rfl)
theorem dX0_likely_36 : decode cX0_likely 36 = .ok (.aload_n 0, 1) := dk_42 (dk_at dksX0_likely_1 12 rfl rfl)
theorem dX0_likely_37 : decode cX0_likely 37 = .ok (.iload_n 1, 1) := dk_27 (dk_at dksX0_likely_1 13 rfl rfl)
theorem dX0_likely_38 : decode cX0_likely 38 = .ok (.iconst 1, 1) := dk_4 (dk_at dksX0_likely_1 14 rfl rfl)
theorem dX0_likely_39 : decode cX0_likely 39 = .ok (.iload_n 2, 1) := dk_28 (dk_at dksX0_likely_1 15 rfl rfl)
theorem dX0_likely_40 : decode cX0_likely 40 = .ok (.ishl, 1) := dk_120 (dk_at dksX0_likely_1 16 rfl rfl)
theorem dX0_likely_41 : decode cX0_likely 41 = .ok (.ior, 1) := dk_128 (dk_at dksX0_likely_1 17 rfl rfl)
theorem dX0_likely_42 : decode cX0_likely 42 = .ok (.invokevirtual 149, 3) := dk_182 0 149 (dk_at dksX0_likely_1 18 rfl rfl)
theorem dX0_likely_45 : decode cX0_likely 45 = .ok (.invokestatic 208, 3) := dk_184 0 208 (dk_at dksX0_likely_1 21 rfl rfl)
theorem dX0_likely_48 : decode cX0_likely 48 = .ok (.istore 5, 2) := dk_54 5 (dk_at dksX0_likely_2 0 rfl rfl)
theorem dX0_likely_50 : decode cX0_likely 50 = .ok (.iload_n 3, 1) := dk_29 (dk_at dksX0_likely_2 2 rfl rfl)
theorem dX0_likely_51 : decode cX0_likely 51 = .ok (.ifCond .eq 8, 3) := dk_153 0 8 (dk_at dksX0_likely_2 3 rfl rfl)
theorem dX0_likely_54 : decode cX0_likely 54 = .ok (.iload 4, 2) := dk_21 4 (dk_at dksX0_likely_2 6 rfl rfl)
theorem dX0_likely_56 : decode cX0_likely 56 = .ok (.goto 5, 3) := dk_167 0 5 (dk_at dksX0_likely_2 8 rfl rfl)
theorem dX0_likely_59 : decode cX0_likely 59 = .ok (.iload 5, 2) := dk_21 5 (dk_at dksX0_likely_2 11 rfl rfl)
theorem dX0_likely_61 : decode cX0_likely 61 = .ok (.iload 4, 2) := dk_21 4 (dk_at dksX0_likely_2 13 rfl rfl)
theorem dX0_likely_63 : decode cX0_likely 63 = .ok (.iload 5, 2) := dk_21 5 (dk_at dksX0_likely_2 15 rfl rfl)
theorem dX0_likely_65 : decode cX0_likely 65 = .ok (.invokestatic 316, 3) := dk_184 1 60 (dk_at dksX0_likely_2 17 rfl rfl)
theorem dX0_likely_68 : decode cX0_likely 68 = .ok (.idiv, 1) := dk_108 (dk_at dksX0_likely_2 20 rfl rfl)
theorem dX0_likely_69 : decode cX0_likely 69 = .ok (.ireturn, 1) := dk_172 (dk_at dksX0_likely_2 21 rfl rfl)
abbrev cX0_common : ByteArray := prog_1_method_66_code
def yX0_common : MethodName := ⟨RX0, "common", "(II)I"⟩
def dkwX0_common_0 : List UInt8 := [27, 154, 0, 7, 26, 167, 0, 10, 27, 26, 27, 112, 184, 1, 60, 172]
abbrev dktX0_common_0 : List UInt8 := dkwX0_common_0 ++ []
theorem dksX0_common_0 : cX0_common.data.toList.drop 0 = dktX0_common_0 := by decide +kernel
theorem dX0_common_0 : decode cX0_common 0 = .ok (.iload_n 1, 1) := dk_27 (dk_at dksX0_common_0 0 rfl rfl)
theorem dX0_common_1 : decode cX0_common 1 = .ok (.ifCond .ne 7, 3) := dk_154 0 7 (dk_at dksX0_common_0 1 rfl rfl)
theorem dX0_common_4 : decode cX0_common 4 = .ok (.iload_n 0, 1) := dk_26 (dk_at dksX0_common_0 4 rfl rfl)
theorem dX0_common_5 : decode cX0_common 5 = .ok (.goto 10, 3) := dk_167 0 10 (dk_at dksX0_common_0 5 rfl rfl)
theorem dX0_common_8 : decode cX0_common 8 = .ok (.iload_n 1, 1) := dk_27 (dk_at dksX0_common_0 8 rfl rfl)
theorem dX0_common_9 : decode cX0_common 9 = .ok (.iload_n 0, 1) := dk_26 (dk_at dksX0_common_0 9 rfl rfl)
theorem dX0_common_10 : decode cX0_common 10 = .ok (.iload_n 1, 1) := dk_27 (dk_at dksX0_common_0 10 rfl rfl)
theorem dX0_common_11 : decode cX0_common 11 = .ok (.irem, 1) := dk_112 (dk_at dksX0_common_0 11 rfl rfl)
theorem dX0_common_12 : decode cX0_common 12 = .ok (.invokestatic 316, 3) := dk_184 1 60 (dk_at dksX0_common_0 12 rfl rfl)
theorem dX0_common_15 : decode cX0_common 15 = .ok (.ireturn, 1) := dk_172 (dk_at dksX0_common_0 15 rfl rfl)
abbrev cX0_debate : ByteArray := prog_1_method_69_code
def yX0_debate : MethodName := ⟨RX0, "debate", "(Z)I"⟩
def dkwX0_debate_2 : List UInt8 := [28, 120, 51, 154, 0, 5, 28, 172, 132, 2, 1, 167, 255, 222, 2, 172]
abbrev dktX0_debate_2 : List UInt8 := dkwX0_debate_2 ++ []
def dkwX0_debate_1 : List UInt8 := [61, 28, 42, 182, 0, 132, 162, 0, 32, 42, 4, 28, 120, 182, 1, 51, 153, 0, 16, 42, 180, 0, 52, 4]
abbrev dktX0_debate_1 : List UInt8 := dkwX0_debate_1 ++ dktX0_debate_2
def dkwX0_debate_0 : List UInt8 := [42, 182, 1, 63, 27, 154, 0, 18, 42, 180, 0, 52, 3, 51, 153, 0, 7, 4, 167, 0, 4, 3, 172, 3]
abbrev dktX0_debate_0 : List UInt8 := dkwX0_debate_0 ++ dktX0_debate_1
theorem dksX0_debate_0 : cX0_debate.data.toList.drop 0 = dktX0_debate_0 := by decide +kernel
theorem dksX0_debate_1 : cX0_debate.data.toList.drop 24 = dktX0_debate_1 := dk_seg dksX0_debate_0 24 rfl rfl
theorem dksX0_debate_2 : cX0_debate.data.toList.drop 48 = dktX0_debate_2 := dk_seg dksX0_debate_1 24 rfl rfl
theorem dX0_debate_0 : decode cX0_debate 0 = .ok (.aload_n 0, 1) := dk_42 (dk_at dksX0_debate_0 0 rfl rfl)
theorem dX0_debate_1 : decode cX0_debate 1 = .ok (.invokevirtual 319, 3) := dk_182 1 63 (dk_at dksX0_debate_0 1 rfl rfl)
theorem dX0_debate_4 : decode cX0_debate 4 = .ok (.iload_n 1, 1) := dk_27 (dk_at dksX0_debate_0 4 rfl rfl)
theorem dX0_debate_5 : decode cX0_debate 5 = .ok (.ifCond .ne 18, 3) := dk_154 0 18 (dk_at dksX0_debate_0 5 rfl rfl)
theorem dX0_debate_8 : decode cX0_debate 8 = .ok (.aload_n 0, 1) := dk_42 (dk_at dksX0_debate_0 8 rfl rfl)
theorem dX0_debate_9 : decode cX0_debate 9 = .ok (.getfield 52, 3) := dk_180 0 52 (dk_at dksX0_debate_0 9 rfl rfl)
theorem dX0_debate_12 : decode cX0_debate 12 = .ok (.iconst 0, 1) := dk_3 (dk_at dksX0_debate_0 12 rfl rfl)
theorem dX0_debate_13 : decode cX0_debate 13 = .ok (.baload, 1) := dk_51 (dk_at dksX0_debate_0 13 rfl rfl)
theorem dX0_debate_14 : decode cX0_debate 14 = .ok (.ifCond .eq 7, 3) := dk_153 0 7 (dk_at dksX0_debate_0 14 rfl rfl)
theorem dX0_debate_17 : decode cX0_debate 17 = .ok (.iconst 1, 1) := dk_4 (dk_at dksX0_debate_0 17 rfl rfl)
theorem dX0_debate_18 : decode cX0_debate 18 = .ok (.goto 4, 3) := dk_167 0 4 (dk_at dksX0_debate_0 18 rfl rfl)
theorem dX0_debate_21 : decode cX0_debate 21 = .ok (.iconst 0, 1) := dk_3 (dk_at dksX0_debate_0 21 rfl rfl)
theorem dX0_debate_22 : decode cX0_debate 22 = .ok (.ireturn, 1) := dk_172 (dk_at dksX0_debate_0 22 rfl rfl)
theorem dX0_debate_23 : decode cX0_debate 23 = .ok (.iconst 0, 1) := dk_3 (dk_at dksX0_debate_0 23 rfl rfl)
theorem dX0_debate_24 : decode cX0_debate 24 = .ok (.istore_n 2, 1) := dk_61 (dk_at dksX0_debate_1 0 rfl rfl)
theorem dX0_debate_25 : decode cX0_debate 25 = .ok (.iload_n 2, 1) := dk_28 (dk_at dksX0_debate_1 1 rfl rfl)
theorem dX0_debate_26 : decode cX0_debate 26 = .ok (.aload_n 0, 1) := dk_42 (dk_at dksX0_debate_1 2 rfl rfl)
theorem dX0_debate_27 : decode cX0_debate 27 = .ok (.invokevirtual 132, 3) := dk_182 0 132 (dk_at dksX0_debate_1 3 rfl rfl)
theorem dX0_debate_30 : decode cX0_debate 30 = .ok (.if_icmp .ge 32, 3) := dk_162 0 32 (dk_at dksX0_debate_1 6 rfl rfl)
theorem dX0_debate_33 : decode cX0_debate 33 = .ok (.aload_n 0, 1) := dk_42 (dk_at dksX0_debate_1 9 rfl rfl)
theorem dX0_debate_34 : decode cX0_debate 34 = .ok (.iconst 1, 1) := dk_4 (dk_at dksX0_debate_1 10 rfl rfl)
theorem dX0_debate_35 : decode cX0_debate 35 = .ok (.iload_n 2, 1) := dk_28 (dk_at dksX0_debate_1 11 rfl rfl)
theorem dX0_debate_36 : decode cX0_debate 36 = .ok (.ishl, 1) := dk_120 (dk_at dksX0_debate_1 12 rfl rfl)
theorem dX0_debate_37 : decode cX0_debate 37 = .ok (.invokevirtual 307, 3) := dk_182 1 51 (dk_at dksX0_debate_1 13 rfl rfl)
theorem dX0_debate_40 : decode cX0_debate 40 = .ok (.ifCond .eq 16, 3) := dk_153 0 16 (dk_at dksX0_debate_1 16 rfl rfl)
theorem dX0_debate_43 : decode cX0_debate 43 = .ok (.aload_n 0, 1) := dk_42 (dk_at dksX0_debate_1 19 rfl rfl)
theorem dX0_debate_44 : decode cX0_debate 44 = .ok (.getfield 52, 3) := dk_180 0 52 (dk_at dksX0_debate_1 20 rfl rfl)
theorem dX0_debate_47 : decode cX0_debate 47 = .ok (.iconst 1, 1) := dk_4 (dk_at dksX0_debate_1 23 rfl rfl)
theorem dX0_debate_48 : decode cX0_debate 48 = .ok (.iload_n 2, 1) := dk_28 (dk_at dksX0_debate_2 0 rfl rfl)
theorem dX0_debate_49 : decode cX0_debate 49 = .ok (.ishl, 1) := dk_120 (dk_at dksX0_debate_2 1 rfl rfl)
theorem dX0_debate_50 : decode cX0_debate 50 = .ok (.baload, 1) := dk_51 (dk_at dksX0_debate_2 2 rfl rfl)
theorem dX0_debate_51 : decode cX0_debate 51 = .ok (.ifCond .ne 5, 3) := dk_154 0 5 (dk_at dksX0_debate_2 3 rfl rfl)
theorem dX0_debate_54 : decode cX0_debate 54 = .ok (.iload_n 2, 1) := dk_28 (dk_at dksX0_debate_2 6 rfl rfl)
theorem dX0_debate_55 : decode cX0_debate 55 = .ok (.ireturn, 1) := dk_172 (dk_at dksX0_debate_2 7 rfl rfl)
theorem dX0_debate_56 : decode cX0_debate 56 = .ok (.iinc 2 1, 3) := dk_132 2 1 (dk_at dksX0_debate_2 8 rfl rfl)
theorem dX0_debate_59 : decode cX0_debate 59 = .ok (.goto (-34), 3) := dk_167 255 222 (dk_at dksX0_debate_2 11 rfl rfl)
theorem dX0_debate_62 : decode cX0_debate 62 = .ok (.iconst (-1), 1) := dk_2 (dk_at dksX0_debate_2 14 rfl rfl)
theorem dX0_debate_63 : decode cX0_debate 63 = .ok (.ireturn, 1) := dk_172 (dk_at dksX0_debate_2 15 rfl rfl)
abbrev cX0_laysWins : ByteArray := prog_1_method_68_code
def yX0_laysWins : MethodName := ⟨RX0, "laysWins", "()V"⟩
def dkwX0_laysWins_3 : List UInt8 := [128, 84, 132, 2, 1, 167, 255, 198, 132, 1, 255, 167, 255, 179, 177]
abbrev dktX0_laysWins_3 : List UInt8 := dkwX0_laysWins_3 ++ []
def dkwX0_laysWins_2 : List UInt8 := [182, 1, 51, 153, 0, 20, 42, 180, 0, 52, 27, 4, 28, 120, 128, 51, 154, 0, 7, 4, 167, 0, 4, 3]
abbrev dktX0_laysWins_2 : List UInt8 := dkwX0_laysWins_2 ++ dktX0_laysWins_3
def dkwX0_laysWins_1 : List UInt8 := [162, 0, 56, 42, 180, 0, 52, 27, 92, 51, 27, 28, 184, 0, 138, 154, 0, 32, 42, 27, 4, 28, 120, 128]
abbrev dktX0_laysWins_1 : List UInt8 := dkwX0_laysWins_1 ++ dktX0_laysWins_2
def dkwX0_laysWins_0 : List UInt8 := [42, 182, 0, 134, 60, 27, 155, 0, 79, 42, 180, 0, 52, 27, 3, 84, 3, 61, 28, 42, 182, 0, 132]
abbrev dktX0_laysWins_0 : List UInt8 := dkwX0_laysWins_0 ++ dktX0_laysWins_1
theorem dksX0_laysWins_0 : cX0_laysWins.data.toList.drop 0 = dktX0_laysWins_0 := by decide +kernel
theorem dksX0_laysWins_1 : cX0_laysWins.data.toList.drop 23 = dktX0_laysWins_1 := dk_seg dksX0_laysWins_0 23 rfl rfl
theorem dksX0_laysWins_2 : cX0_laysWins.data.toList.drop 47 = dktX0_laysWins_2 := dk_seg dksX0_laysWins_1 24 rfl rfl
theorem dksX0_laysWins_3 : cX0_laysWins.data.toList.drop 71 = dktX0_laysWins_3 := dk_seg dksX0_laysWins_2 24 rfl rfl
theorem dX0_laysWins_0 : decode cX0_laysWins 0 = .ok (.aload_n 0, 1) := dk_42 (dk_at dksX0_laysWins_0 0 rfl rfl)
theorem dX0_laysWins_1 : decode cX0_laysWins 1 = .ok (.invokevirtual 134, 3) := dk_182 0 134 (dk_at dksX0_laysWins_0 1 rfl rfl)
theorem dX0_laysWins_4 : decode cX0_laysWins 4 = .ok (.istore_n 1, 1) := dk_60 (dk_at dksX0_laysWins_0 4 rfl rfl)
theorem dX0_laysWins_5 : decode cX0_laysWins 5 = .ok (.iload_n 1, 1) := dk_27 (dk_at dksX0_laysWins_0 5 rfl rfl)
theorem dX0_laysWins_6 : decode cX0_laysWins 6 = .ok (.ifCond .lt 79, 3) := dk_155 0 79 (dk_at dksX0_laysWins_0 6 rfl rfl)
theorem dX0_laysWins_9 : decode cX0_laysWins 9 = .ok (.aload_n 0, 1) := dk_42 (dk_at dksX0_laysWins_0 9 rfl rfl)
theorem dX0_laysWins_10 : decode cX0_laysWins 10 = .ok (.getfield 52, 3) := dk_180 0 52 (dk_at dksX0_laysWins_0 10 rfl rfl)
theorem dX0_laysWins_13 : decode cX0_laysWins 13 = .ok (.iload_n 1, 1) := dk_27 (dk_at dksX0_laysWins_0 13 rfl rfl)
theorem dX0_laysWins_14 : decode cX0_laysWins 14 = .ok (.iconst 0, 1) := dk_3 (dk_at dksX0_laysWins_0 14 rfl rfl)
theorem dX0_laysWins_15 : decode cX0_laysWins 15 = .ok (.bastore, 1) := dk_84 (dk_at dksX0_laysWins_0 15 rfl rfl)
theorem dX0_laysWins_16 : decode cX0_laysWins 16 = .ok (.iconst 0, 1) := dk_3 (dk_at dksX0_laysWins_0 16 rfl rfl)
theorem dX0_laysWins_17 : decode cX0_laysWins 17 = .ok (.istore_n 2, 1) := dk_61 (dk_at dksX0_laysWins_0 17 rfl rfl)
theorem dX0_laysWins_18 : decode cX0_laysWins 18 = .ok (.iload_n 2, 1) := dk_28 (dk_at dksX0_laysWins_0 18 rfl rfl)
theorem dX0_laysWins_19 : decode cX0_laysWins 19 = .ok (.aload_n 0, 1) := dk_42 (dk_at dksX0_laysWins_0 19 rfl rfl)
theorem dX0_laysWins_20 : decode cX0_laysWins 20 = .ok (.invokevirtual 132, 3) := dk_182 0 132 (dk_at dksX0_laysWins_0 20 rfl rfl)
theorem dX0_laysWins_23 : decode cX0_laysWins 23 = .ok (.if_icmp .ge 56, 3) := dk_162 0 56 (dk_at dksX0_laysWins_1 0 rfl rfl)
theorem dX0_laysWins_26 : decode cX0_laysWins 26 = .ok (.aload_n 0, 1) := dk_42 (dk_at dksX0_laysWins_1 3 rfl rfl)
theorem dX0_laysWins_27 : decode cX0_laysWins 27 = .ok (.getfield 52, 3) := dk_180 0 52 (dk_at dksX0_laysWins_1 4 rfl rfl)
theorem dX0_laysWins_30 : decode cX0_laysWins 30 = .ok (.iload_n 1, 1) := dk_27 (dk_at dksX0_laysWins_1 7 rfl rfl)
theorem dX0_laysWins_31 : decode cX0_laysWins 31 = .ok (.dup2, 1) := dk_92 (dk_at dksX0_laysWins_1 8 rfl rfl)
theorem dX0_laysWins_32 : decode cX0_laysWins 32 = .ok (.baload, 1) := dk_51 (dk_at dksX0_laysWins_1 9 rfl rfl)
theorem dX0_laysWins_33 : decode cX0_laysWins 33 = .ok (.iload_n 1, 1) := dk_27 (dk_at dksX0_laysWins_1 10 rfl rfl)
theorem dX0_laysWins_34 : decode cX0_laysWins 34 = .ok (.iload_n 2, 1) := dk_28 (dk_at dksX0_laysWins_1 11 rfl rfl)
theorem dX0_laysWins_35 : decode cX0_laysWins 35 = .ok (.invokestatic 138, 3) := dk_184 0 138 (dk_at dksX0_laysWins_1 12 rfl rfl)
theorem dX0_laysWins_38 : decode cX0_laysWins 38 = .ok (.ifCond .ne 32, 3) := dk_154 0 32 (dk_at dksX0_laysWins_1 15 rfl rfl)
theorem dX0_laysWins_41 : decode cX0_laysWins 41 = .ok (.aload_n 0, 1) := dk_42 (dk_at dksX0_laysWins_1 18 rfl rfl)
theorem dX0_laysWins_42 : decode cX0_laysWins 42 = .ok (.iload_n 1, 1) := dk_27 (dk_at dksX0_laysWins_1 19 rfl rfl)
theorem dX0_laysWins_43 : decode cX0_laysWins 43 = .ok (.iconst 1, 1) := dk_4 (dk_at dksX0_laysWins_1 20 rfl rfl)
theorem dX0_laysWins_44 : decode cX0_laysWins 44 = .ok (.iload_n 2, 1) := dk_28 (dk_at dksX0_laysWins_1 21 rfl rfl)
theorem dX0_laysWins_45 : decode cX0_laysWins 45 = .ok (.ishl, 1) := dk_120 (dk_at dksX0_laysWins_1 22 rfl rfl)
theorem dX0_laysWins_46 : decode cX0_laysWins 46 = .ok (.ior, 1) := dk_128 (dk_at dksX0_laysWins_1 23 rfl rfl)
theorem dX0_laysWins_47 : decode cX0_laysWins 47 = .ok (.invokevirtual 307, 3) := dk_182 1 51 (dk_at dksX0_laysWins_2 0 rfl rfl)
theorem dX0_laysWins_50 : decode cX0_laysWins 50 = .ok (.ifCond .eq 20, 3) := dk_153 0 20 (dk_at dksX0_laysWins_2 3 rfl rfl)
theorem dX0_laysWins_53 : decode cX0_laysWins 53 = .ok (.aload_n 0, 1) := dk_42 (dk_at dksX0_laysWins_2 6 rfl rfl)
theorem dX0_laysWins_54 : decode cX0_laysWins 54 = .ok (.getfield 52, 3) := dk_180 0 52 (dk_at dksX0_laysWins_2 7 rfl rfl)
theorem dX0_laysWins_57 : decode cX0_laysWins 57 = .ok (.iload_n 1, 1) := dk_27 (dk_at dksX0_laysWins_2 10 rfl rfl)
theorem dX0_laysWins_58 : decode cX0_laysWins 58 = .ok (.iconst 1, 1) := dk_4 (dk_at dksX0_laysWins_2 11 rfl rfl)
theorem dX0_laysWins_59 : decode cX0_laysWins 59 = .ok (.iload_n 2, 1) := dk_28 (dk_at dksX0_laysWins_2 12 rfl rfl)
theorem dX0_laysWins_60 : decode cX0_laysWins 60 = .ok (.ishl, 1) := dk_120 (dk_at dksX0_laysWins_2 13 rfl rfl)
theorem dX0_laysWins_61 : decode cX0_laysWins 61 = .ok (.ior, 1) := dk_128 (dk_at dksX0_laysWins_2 14 rfl rfl)
theorem dX0_laysWins_62 : decode cX0_laysWins 62 = .ok (.baload, 1) := dk_51 (dk_at dksX0_laysWins_2 15 rfl rfl)
theorem dX0_laysWins_63 : decode cX0_laysWins 63 = .ok (.ifCond .ne 7, 3) := dk_154 0 7 (dk_at dksX0_laysWins_2 16 rfl rfl)
theorem dX0_laysWins_66 : decode cX0_laysWins 66 = .ok (.iconst 1, 1) := dk_4 (dk_at dksX0_laysWins_2 19 rfl rfl)
theorem dX0_laysWins_67 : decode cX0_laysWins 67 = .ok (.goto 4, 3) := dk_167 0 4 (dk_at dksX0_laysWins_2 20 rfl rfl)
theorem dX0_laysWins_70 : decode cX0_laysWins 70 = .ok (.iconst 0, 1) := dk_3 (dk_at dksX0_laysWins_2 23 rfl rfl)
theorem dX0_laysWins_71 : decode cX0_laysWins 71 = .ok (.ior, 1) := dk_128 (dk_at dksX0_laysWins_3 0 rfl rfl)
theorem dX0_laysWins_72 : decode cX0_laysWins 72 = .ok (.bastore, 1) := dk_84 (dk_at dksX0_laysWins_3 1 rfl rfl)
theorem dX0_laysWins_73 : decode cX0_laysWins 73 = .ok (.iinc 2 1, 3) := dk_132 2 1 (dk_at dksX0_laysWins_3 2 rfl rfl)
theorem dX0_laysWins_76 : decode cX0_laysWins 76 = .ok (.goto (-58), 3) := dk_167 255 198 (dk_at dksX0_laysWins_3 5 rfl rfl)
theorem dX0_laysWins_79 : decode cX0_laysWins 79 = .ok (.iinc 1 (-1), 3) := dk_132 1 255 (dk_at dksX0_laysWins_3 8 rfl rfl)
theorem dX0_laysWins_82 : decode cX0_laysWins 82 = .ok (.goto (-77), 3) := dk_167 255 179 (dk_at dksX0_laysWins_3 11 rfl rfl)
theorem dX0_laysWins_85 : decode cX0_laysWins 85 = .ok (.return_, 1) := dk_177 (dk_at dksX0_laysWins_3 14 rfl rfl)
abbrev cX0_lasts : ByteArray := prog_1_method_70_code
def yX0_lasts : MethodName := ⟨RX0, "lasts", "()I"⟩
def dkwX0_lasts_3 : List UInt8 := [132, 1, 1, 167, 255, 207, 16, 60, 172]
abbrev dktX0_lasts_3 : List UInt8 := dkwX0_lasts_3 ++ []
def dkwX0_lasts_2 : List UInt8 := [182, 0, 205, 4, 42, 182, 0, 69, 120, 4, 100, 160, 0, 12, 42, 182, 0, 69, 158, 0, 5, 27, 172]
abbrev dktX0_lasts_2 : List UInt8 := dkwX0_lasts_2 ++ dktX0_lasts_3
def dkwX0_lasts_1 : List UInt8 := [60, 27, 16, 60, 163, 0, 49, 42, 180, 0, 49, 3, 46, 17, 39, 15, 162, 0, 31, 42, 42, 180, 0, 49]
abbrev dktX0_lasts_1 : List UInt8 := dkwX0_lasts_1 ++ dktX0_lasts_2
def dkwX0_lasts_0 : List UInt8 := [42, 182, 0, 132, 154, 0, 5, 3, 172, 42, 180, 0, 21, 180, 0, 199, 42, 180, 0, 49, 184, 1, 32, 4]
abbrev dktX0_lasts_0 : List UInt8 := dkwX0_lasts_0 ++ dktX0_lasts_1
theorem dksX0_lasts_0 : cX0_lasts.data.toList.drop 0 = dktX0_lasts_0 := by decide +kernel
theorem dksX0_lasts_1 : cX0_lasts.data.toList.drop 24 = dktX0_lasts_1 := dk_seg dksX0_lasts_0 24 rfl rfl
theorem dksX0_lasts_2 : cX0_lasts.data.toList.drop 48 = dktX0_lasts_2 := dk_seg dksX0_lasts_1 24 rfl rfl
theorem dksX0_lasts_3 : cX0_lasts.data.toList.drop 71 = dktX0_lasts_3 := dk_seg dksX0_lasts_2 23 rfl rfl
theorem dX0_lasts_0 : decode cX0_lasts 0 = .ok (.aload_n 0, 1) := dk_42 (dk_at dksX0_lasts_0 0 rfl rfl)
theorem dX0_lasts_1 : decode cX0_lasts 1 = .ok (.invokevirtual 132, 3) := dk_182 0 132 (dk_at dksX0_lasts_0 1 rfl rfl)
theorem dX0_lasts_4 : decode cX0_lasts 4 = .ok (.ifCond .ne 5, 3) := dk_154 0 5 (dk_at dksX0_lasts_0 4 rfl rfl)
theorem dX0_lasts_7 : decode cX0_lasts 7 = .ok (.iconst 0, 1) := dk_3 (dk_at dksX0_lasts_0 7 rfl rfl)
theorem dX0_lasts_8 : decode cX0_lasts 8 = .ok (.ireturn, 1) := dk_172 (dk_at dksX0_lasts_0 8 rfl rfl)
theorem dX0_lasts_9 : decode cX0_lasts 9 = .ok (.aload_n 0, 1) := dk_42 (dk_at dksX0_lasts_0 9 rfl rfl)
theorem dX0_lasts_10 : decode cX0_lasts 10 = .ok (.getfield 21, 3) := dk_180 0 21 (dk_at dksX0_lasts_0 10 rfl rfl)
theorem dX0_lasts_13 : decode cX0_lasts 13 = .ok (.getfield 199, 3) := dk_180 0 199 (dk_at dksX0_lasts_0 13 rfl rfl)
theorem dX0_lasts_16 : decode cX0_lasts 16 = .ok (.aload_n 0, 1) := dk_42 (dk_at dksX0_lasts_0 16 rfl rfl)
theorem dX0_lasts_17 : decode cX0_lasts 17 = .ok (.getfield 49, 3) := dk_180 0 49 (dk_at dksX0_lasts_0 17 rfl rfl)
theorem dX0_lasts_20 : decode cX0_lasts 20 = .ok (.invokestatic 288, 3) := dk_184 1 32 (dk_at dksX0_lasts_0 20 rfl rfl)
theorem dX0_lasts_23 : decode cX0_lasts 23 = .ok (.iconst 1, 1) := dk_4 (dk_at dksX0_lasts_0 23 rfl rfl)
theorem dX0_lasts_24 : decode cX0_lasts 24 = .ok (.istore_n 1, 1) := dk_60 (dk_at dksX0_lasts_1 0 rfl rfl)
theorem dX0_lasts_25 : decode cX0_lasts 25 = .ok (.iload_n 1, 1) := dk_27 (dk_at dksX0_lasts_1 1 rfl rfl)
theorem dX0_lasts_26 : decode cX0_lasts 26 = .ok (.bipush 60, 2) := dk_16 60 (dk_at dksX0_lasts_1 2 rfl rfl)
theorem dX0_lasts_28 : decode cX0_lasts 28 = .ok (.if_icmp .gt 49, 3) := dk_163 0 49 (dk_at dksX0_lasts_1 4 rfl rfl)
theorem dX0_lasts_31 : decode cX0_lasts 31 = .ok (.aload_n 0, 1) := dk_42 (dk_at dksX0_lasts_1 7 rfl rfl)
theorem dX0_lasts_32 : decode cX0_lasts 32 = .ok (.getfield 49, 3) := dk_180 0 49 (dk_at dksX0_lasts_1 8 rfl rfl)
theorem dX0_lasts_35 : decode cX0_lasts 35 = .ok (.iconst 0, 1) := dk_3 (dk_at dksX0_lasts_1 11 rfl rfl)
theorem dX0_lasts_36 : decode cX0_lasts 36 = .ok (.iaload, 1) := dk_46 (dk_at dksX0_lasts_1 12 rfl rfl)
theorem dX0_lasts_37 : decode cX0_lasts 37 = .ok (.sipush 9999, 3) := dk_17 39 15 (dk_at dksX0_lasts_1 13 rfl rfl)
theorem dX0_lasts_40 : decode cX0_lasts 40 = .ok (.if_icmp .ge 31, 3) := dk_162 0 31 (dk_at dksX0_lasts_1 16 rfl rfl)
theorem dX0_lasts_43 : decode cX0_lasts 43 = .ok (.aload_n 0, 1) := dk_42 (dk_at dksX0_lasts_1 19 rfl rfl)
theorem dX0_lasts_44 : decode cX0_lasts 44 = .ok (.aload_n 0, 1) := dk_42 (dk_at dksX0_lasts_1 20 rfl rfl)
theorem dX0_lasts_45 : decode cX0_lasts 45 = .ok (.getfield 49, 3) := dk_180 0 49 (dk_at dksX0_lasts_1 21 rfl rfl)
theorem dX0_lasts_48 : decode cX0_lasts 48 = .ok (.invokevirtual 205, 3) := dk_182 0 205 (dk_at dksX0_lasts_2 0 rfl rfl)
theorem dX0_lasts_51 : decode cX0_lasts 51 = .ok (.iconst 1, 1) := dk_4 (dk_at dksX0_lasts_2 3 rfl rfl)
theorem dX0_lasts_52 : decode cX0_lasts 52 = .ok (.aload_n 0, 1) := dk_42 (dk_at dksX0_lasts_2 4 rfl rfl)
theorem dX0_lasts_53 : decode cX0_lasts 53 = .ok (.invokevirtual 69, 3) := dk_182 0 69 (dk_at dksX0_lasts_2 5 rfl rfl)
theorem dX0_lasts_56 : decode cX0_lasts 56 = .ok (.ishl, 1) := dk_120 (dk_at dksX0_lasts_2 8 rfl rfl)
theorem dX0_lasts_57 : decode cX0_lasts 57 = .ok (.iconst 1, 1) := dk_4 (dk_at dksX0_lasts_2 9 rfl rfl)
theorem dX0_lasts_58 : decode cX0_lasts 58 = .ok (.isub, 1) := dk_100 (dk_at dksX0_lasts_2 10 rfl rfl)
theorem dX0_lasts_59 : decode cX0_lasts 59 = .ok (.if_icmp .ne 12, 3) := dk_160 0 12 (dk_at dksX0_lasts_2 11 rfl rfl)
theorem dX0_lasts_62 : decode cX0_lasts 62 = .ok (.aload_n 0, 1) := dk_42 (dk_at dksX0_lasts_2 14 rfl rfl)
theorem dX0_lasts_63 : decode cX0_lasts 63 = .ok (.invokevirtual 69, 3) := dk_182 0 69 (dk_at dksX0_lasts_2 15 rfl rfl)
theorem dX0_lasts_66 : decode cX0_lasts 66 = .ok (.ifCond .le 5, 3) := dk_158 0 5 (dk_at dksX0_lasts_2 18 rfl rfl)
theorem dX0_lasts_69 : decode cX0_lasts 69 = .ok (.iload_n 1, 1) := dk_27 (dk_at dksX0_lasts_2 21 rfl rfl)
theorem dX0_lasts_70 : decode cX0_lasts 70 = .ok (.ireturn, 1) := dk_172 (dk_at dksX0_lasts_2 22 rfl rfl)
theorem dX0_lasts_71 : decode cX0_lasts 71 = .ok (.iinc 1 1, 3) := dk_132 1 1 (dk_at dksX0_lasts_3 0 rfl rfl)
theorem dX0_lasts_74 : decode cX0_lasts 74 = .ok (.goto (-49), 3) := dk_167 255 207 (dk_at dksX0_lasts_3 3 rfl rfl)
theorem dX0_lasts_77 : decode cX0_lasts 77 = .ok (.bipush 60, 2) := dk_16 60 (dk_at dksX0_lasts_3 6 rfl rfl)
theorem dX0_lasts_79 : decode cX0_lasts 79 = .ok (.ireturn, 1) := dk_172 (dk_at dksX0_lasts_3 8 rfl rfl)
abbrev cX0_choose : ByteArray := prog_1_method_75_code
def yX0_choose : MethodName := ⟨RX0, "choose", "(II)I"⟩
def dkwX0_choose_1 : List UInt8 := [180, 0, 56, 28, 46, 172]
abbrev dktX0_choose_1 : List UInt8 := dkwX0_choose_1 ++ []
def dkwX0_choose_0 : List UInt8 := [27, 184, 1, 73, 153, 0, 11, 42, 28, 182, 1, 36, 154, 0, 5, 2, 172, 42, 27, 182, 1, 76, 62, 42]
abbrev dktX0_choose_0 : List UInt8 := dkwX0_choose_0 ++ dktX0_choose_1
theorem dksX0_choose_0 : cX0_choose.data.toList.drop 0 = dktX0_choose_0 := by decide +kernel
theorem dksX0_choose_1 : cX0_choose.data.toList.drop 24 = dktX0_choose_1 := dk_seg dksX0_choose_0 24 rfl rfl
theorem dX0_choose_0 : decode cX0_choose 0 = .ok (.iload_n 1, 1) := dk_27 (dk_at dksX0_choose_0 0 rfl rfl)
theorem dX0_choose_1 : decode cX0_choose 1 = .ok (.invokestatic 329, 3) := dk_184 1 73 (dk_at dksX0_choose_0 1 rfl rfl)
theorem dX0_choose_4 : decode cX0_choose 4 = .ok (.ifCond .eq 11, 3) := dk_153 0 11 (dk_at dksX0_choose_0 4 rfl rfl)
theorem dX0_choose_7 : decode cX0_choose 7 = .ok (.aload_n 0, 1) := dk_42 (dk_at dksX0_choose_0 7 rfl rfl)
theorem dX0_choose_8 : decode cX0_choose 8 = .ok (.iload_n 2, 1) := dk_28 (dk_at dksX0_choose_0 8 rfl rfl)
theorem dX0_choose_9 : decode cX0_choose 9 = .ok (.invokevirtual 292, 3) := dk_182 1 36 (dk_at dksX0_choose_0 9 rfl rfl)
theorem dX0_choose_12 : decode cX0_choose 12 = .ok (.ifCond .ne 5, 3) := dk_154 0 5 (dk_at dksX0_choose_0 12 rfl rfl)
theorem dX0_choose_15 : decode cX0_choose 15 = .ok (.iconst (-1), 1) := dk_2 (dk_at dksX0_choose_0 15 rfl rfl)
theorem dX0_choose_16 : decode cX0_choose 16 = .ok (.ireturn, 1) := dk_172 (dk_at dksX0_choose_0 16 rfl rfl)
theorem dX0_choose_17 : decode cX0_choose 17 = .ok (.aload_n 0, 1) := dk_42 (dk_at dksX0_choose_0 17 rfl rfl)
theorem dX0_choose_18 : decode cX0_choose 18 = .ok (.iload_n 1, 1) := dk_27 (dk_at dksX0_choose_0 18 rfl rfl)
theorem dX0_choose_19 : decode cX0_choose 19 = .ok (.invokevirtual 332, 3) := dk_182 1 76 (dk_at dksX0_choose_0 19 rfl rfl)
theorem dX0_choose_22 : decode cX0_choose 22 = .ok (.istore_n 3, 1) := dk_62 (dk_at dksX0_choose_0 22 rfl rfl)
theorem dX0_choose_23 : decode cX0_choose 23 = .ok (.aload_n 0, 1) := dk_42 (dk_at dksX0_choose_0 23 rfl rfl)
theorem dX0_choose_24 : decode cX0_choose 24 = .ok (.getfield 56, 3) := dk_180 0 56 (dk_at dksX0_choose_1 0 rfl rfl)
theorem dX0_choose_27 : decode cX0_choose 27 = .ok (.iload_n 2, 1) := dk_28 (dk_at dksX0_choose_1 3 rfl rfl)
theorem dX0_choose_28 : decode cX0_choose 28 = .ok (.iaload, 1) := dk_46 (dk_at dksX0_choose_1 4 rfl rfl)
theorem dX0_choose_29 : decode cX0_choose 29 = .ok (.ireturn, 1) := dk_172 (dk_at dksX0_choose_1 5 rfl rfl)
abbrev cX0_isOrder : ByteArray := prog_1_method_72_code
def yX0_isOrder : MethodName := ⟨RX0, "isOrder", "(I)Z"⟩
def dkwX0_isOrder_2 : List UInt8 := [167, 0, 4, 3, 172]
abbrev dktX0_isOrder_2 : List UInt8 := dkwX0_isOrder_2 ++ []
def dkwX0_isOrder_1 : List UInt8 := [132, 2, 1, 167, 255, 234, 26, 3, 19, 1, 69, 184, 0, 73, 153, 0, 13, 27, 16, 31, 160, 0, 7, 4]
abbrev dktX0_isOrder_1 : List UInt8 := dkwX0_isOrder_1 ++ dktX0_isOrder_2
def dkwX0_isOrder_0 : List UInt8 := [3, 60, 3, 61, 28, 8, 162, 0, 23, 27, 4, 26, 28, 184, 1, 66, 108, 16, 10, 112, 120, 128, 60]
abbrev dktX0_isOrder_0 : List UInt8 := dkwX0_isOrder_0 ++ dktX0_isOrder_1
theorem dksX0_isOrder_0 : cX0_isOrder.data.toList.drop 0 = dktX0_isOrder_0 := by decide +kernel
theorem dksX0_isOrder_1 : cX0_isOrder.data.toList.drop 23 = dktX0_isOrder_1 := dk_seg dksX0_isOrder_0 23 rfl rfl
theorem dksX0_isOrder_2 : cX0_isOrder.data.toList.drop 47 = dktX0_isOrder_2 := dk_seg dksX0_isOrder_1 24 rfl rfl
theorem dX0_isOrder_0 : decode cX0_isOrder 0 = .ok (.iconst 0, 1) := dk_3 (dk_at dksX0_isOrder_0 0 rfl rfl)
theorem dX0_isOrder_1 : decode cX0_isOrder 1 = .ok (.istore_n 1, 1) := dk_60 (dk_at dksX0_isOrder_0 1 rfl rfl)
theorem dX0_isOrder_2 : decode cX0_isOrder 2 = .ok (.iconst 0, 1) := dk_3 (dk_at dksX0_isOrder_0 2 rfl rfl)
theorem dX0_isOrder_3 : decode cX0_isOrder 3 = .ok (.istore_n 2, 1) := dk_61 (dk_at dksX0_isOrder_0 3 rfl rfl)
theorem dX0_isOrder_4 : decode cX0_isOrder 4 = .ok (.iload_n 2, 1) := dk_28 (dk_at dksX0_isOrder_0 4 rfl rfl)
theorem dX0_isOrder_5 : decode cX0_isOrder 5 = .ok (.iconst 5, 1) := dk_8 (dk_at dksX0_isOrder_0 5 rfl rfl)
theorem dX0_isOrder_6 : decode cX0_isOrder 6 = .ok (.if_icmp .ge 23, 3) := dk_162 0 23 (dk_at dksX0_isOrder_0 6 rfl rfl)
theorem dX0_isOrder_9 : decode cX0_isOrder 9 = .ok (.iload_n 1, 1) := dk_27 (dk_at dksX0_isOrder_0 9 rfl rfl)
theorem dX0_isOrder_10 : decode cX0_isOrder 10 = .ok (.iconst 1, 1) := dk_4 (dk_at dksX0_isOrder_0 10 rfl rfl)
theorem dX0_isOrder_11 : decode cX0_isOrder 11 = .ok (.iload_n 0, 1) := dk_26 (dk_at dksX0_isOrder_0 11 rfl rfl)
theorem dX0_isOrder_12 : decode cX0_isOrder 12 = .ok (.iload_n 2, 1) := dk_28 (dk_at dksX0_isOrder_0 12 rfl rfl)
theorem dX0_isOrder_13 : decode cX0_isOrder 13 = .ok (.invokestatic 322, 3) := dk_184 1 66 (dk_at dksX0_isOrder_0 13 rfl rfl)
theorem dX0_isOrder_16 : decode cX0_isOrder 16 = .ok (.idiv, 1) := dk_108 (dk_at dksX0_isOrder_0 16 rfl rfl)
theorem dX0_isOrder_17 : decode cX0_isOrder 17 = .ok (.bipush 10, 2) := dk_16 10 (dk_at dksX0_isOrder_0 17 rfl rfl)
theorem dX0_isOrder_19 : decode cX0_isOrder 19 = .ok (.irem, 1) := dk_112 (dk_at dksX0_isOrder_0 19 rfl rfl)
theorem dX0_isOrder_20 : decode cX0_isOrder 20 = .ok (.ishl, 1) := dk_120 (dk_at dksX0_isOrder_0 20 rfl rfl)
theorem dX0_isOrder_21 : decode cX0_isOrder 21 = .ok (.ior, 1) := dk_128 (dk_at dksX0_isOrder_0 21 rfl rfl)
theorem dX0_isOrder_22 : decode cX0_isOrder 22 = .ok (.istore_n 1, 1) := dk_60 (dk_at dksX0_isOrder_0 22 rfl rfl)
theorem dX0_isOrder_23 : decode cX0_isOrder 23 = .ok (.iinc 2 1, 3) := dk_132 2 1 (dk_at dksX0_isOrder_1 0 rfl rfl)
theorem dX0_isOrder_26 : decode cX0_isOrder 26 = .ok (.goto (-22), 3) := dk_167 255 234 (dk_at dksX0_isOrder_1 3 rfl rfl)
theorem dX0_isOrder_29 : decode cX0_isOrder 29 = .ok (.iload_n 0, 1) := dk_26 (dk_at dksX0_isOrder_1 6 rfl rfl)
theorem dX0_isOrder_30 : decode cX0_isOrder 30 = .ok (.iconst 0, 1) := dk_3 (dk_at dksX0_isOrder_1 7 rfl rfl)
theorem dX0_isOrder_31 : decode cX0_isOrder 31 = .ok (.ldc_w 325, 3) := dk_19 1 69 (dk_at dksX0_isOrder_1 8 rfl rfl)
theorem dX0_isOrder_34 : decode cX0_isOrder 34 = .ok (.invokestatic 73, 3) := dk_184 0 73 (dk_at dksX0_isOrder_1 11 rfl rfl)
theorem dX0_isOrder_37 : decode cX0_isOrder 37 = .ok (.ifCond .eq 13, 3) := dk_153 0 13 (dk_at dksX0_isOrder_1 14 rfl rfl)
theorem dX0_isOrder_40 : decode cX0_isOrder 40 = .ok (.iload_n 1, 1) := dk_27 (dk_at dksX0_isOrder_1 17 rfl rfl)
theorem dX0_isOrder_41 : decode cX0_isOrder 41 = .ok (.bipush 31, 2) := dk_16 31 (dk_at dksX0_isOrder_1 18 rfl rfl)
theorem dX0_isOrder_43 : decode cX0_isOrder 43 = .ok (.if_icmp .ne 7, 3) := dk_160 0 7 (dk_at dksX0_isOrder_1 20 rfl rfl)
theorem dX0_isOrder_46 : decode cX0_isOrder 46 = .ok (.iconst 1, 1) := dk_4 (dk_at dksX0_isOrder_1 23 rfl rfl)
theorem dX0_isOrder_47 : decode cX0_isOrder 47 = .ok (.goto 4, 3) := dk_167 0 4 (dk_at dksX0_isOrder_2 0 rfl rfl)
theorem dX0_isOrder_50 : decode cX0_isOrder 50 = .ok (.iconst 0, 1) := dk_3 (dk_at dksX0_isOrder_2 3 rfl rfl)
theorem dX0_isOrder_51 : decode cX0_isOrder 51 = .ok (.ireturn, 1) := dk_172 (dk_at dksX0_isOrder_2 4 rfl rfl)
abbrev cX0_power : ByteArray := prog_1_method_71_code
def yX0_power : MethodName := ⟨RX0, "power", "(I)I"⟩
def dkwX0_power_0 : List UInt8 := [26, 154, 0, 7, 4, 167, 0, 12, 16, 10, 26, 4, 100, 184, 1, 66, 104, 172]
abbrev dktX0_power_0 : List UInt8 := dkwX0_power_0 ++ []
theorem dksX0_power_0 : cX0_power.data.toList.drop 0 = dktX0_power_0 := by decide +kernel
theorem dX0_power_0 : decode cX0_power 0 = .ok (.iload_n 0, 1) := dk_26 (dk_at dksX0_power_0 0 rfl rfl)
theorem dX0_power_1 : decode cX0_power 1 = .ok (.ifCond .ne 7, 3) := dk_154 0 7 (dk_at dksX0_power_0 1 rfl rfl)
theorem dX0_power_4 : decode cX0_power 4 = .ok (.iconst 1, 1) := dk_4 (dk_at dksX0_power_0 4 rfl rfl)
theorem dX0_power_5 : decode cX0_power 5 = .ok (.goto 12, 3) := dk_167 0 12 (dk_at dksX0_power_0 5 rfl rfl)
theorem dX0_power_8 : decode cX0_power 8 = .ok (.bipush 10, 2) := dk_16 10 (dk_at dksX0_power_0 8 rfl rfl)
theorem dX0_power_10 : decode cX0_power 10 = .ok (.iload_n 0, 1) := dk_26 (dk_at dksX0_power_0 10 rfl rfl)
theorem dX0_power_11 : decode cX0_power 11 = .ok (.iconst 1, 1) := dk_4 (dk_at dksX0_power_0 11 rfl rfl)
theorem dX0_power_12 : decode cX0_power 12 = .ok (.isub, 1) := dk_100 (dk_at dksX0_power_0 12 rfl rfl)
theorem dX0_power_13 : decode cX0_power 13 = .ok (.invokestatic 322, 3) := dk_184 1 66 (dk_at dksX0_power_0 13 rfl rfl)
theorem dX0_power_16 : decode cX0_power 16 = .ok (.imul, 1) := dk_104 (dk_at dksX0_power_0 16 rfl rfl)
theorem dX0_power_17 : decode cX0_power 17 = .ok (.ireturn, 1) := dk_172 (dk_at dksX0_power_0 17 rfl rfl)
abbrev cX0_choosesBy : ByteArray := prog_1_method_74_code
def yX0_choosesBy : MethodName := ⟨RX0, "choosesBy", "(I)I"⟩
def dkwX0_choosesBy_3 : List UInt8 := [180, 0, 87, 21, 5, 50, 42, 180, 0, 56, 21, 5, 46, 46, 96, 62, 132, 4, 255, 167, 255, 175, 29, 172]
abbrev dktX0_choosesBy_3 : List UInt8 := dkwX0_choosesBy_3 ++ []
def dkwX0_choosesBy_2 : List UInt8 := [182, 1, 70, 79, 28, 4, 42, 180, 0, 56, 21, 5, 46, 120, 2, 130, 126, 61, 29, 42, 180, 0, 21]
abbrev dktX0_choosesBy_2 : List UInt8 := dkwX0_choosesBy_2 ++ dktX0_choosesBy_3
def dkwX0_choosesBy_1 : List UInt8 := [54, 5, 21, 5, 42, 182, 0, 69, 161, 0, 6, 167, 0, 52, 42, 180, 0, 56, 21, 5, 42, 21, 5, 28]
abbrev dktX0_choosesBy_1 : List UInt8 := dkwX0_choosesBy_1 ++ dktX0_choosesBy_2
def dkwX0_choosesBy_0 : List UInt8 := [16, 31, 61, 3, 62, 7, 54, 4, 21, 4, 155, 0, 82, 27, 21, 4, 184, 1, 66, 108, 16, 10, 112]
abbrev dktX0_choosesBy_0 : List UInt8 := dkwX0_choosesBy_0 ++ dktX0_choosesBy_1
theorem dksX0_choosesBy_0 : cX0_choosesBy.data.toList.drop 0 = dktX0_choosesBy_0 := by decide +kernel
theorem dksX0_choosesBy_1 : cX0_choosesBy.data.toList.drop 23 = dktX0_choosesBy_1 := dk_seg dksX0_choosesBy_0 23 rfl rfl
theorem dksX0_choosesBy_2 : cX0_choosesBy.data.toList.drop 47 = dktX0_choosesBy_2 := dk_seg dksX0_choosesBy_1 24 rfl rfl
theorem dksX0_choosesBy_3 : cX0_choosesBy.data.toList.drop 70 = dktX0_choosesBy_3 := dk_seg dksX0_choosesBy_2 23 rfl rfl
theorem dX0_choosesBy_0 : decode cX0_choosesBy 0 = .ok (.bipush 31, 2) := dk_16 31 (dk_at dksX0_choosesBy_0 0 rfl rfl)
theorem dX0_choosesBy_2 : decode cX0_choosesBy 2 = .ok (.istore_n 2, 1) := dk_61 (dk_at dksX0_choosesBy_0 2 rfl rfl)
theorem dX0_choosesBy_3 : decode cX0_choosesBy 3 = .ok (.iconst 0, 1) := dk_3 (dk_at dksX0_choosesBy_0 3 rfl rfl)
theorem dX0_choosesBy_4 : decode cX0_choosesBy 4 = .ok (.istore_n 3, 1) := dk_62 (dk_at dksX0_choosesBy_0 4 rfl rfl)
theorem dX0_choosesBy_5 : decode cX0_choosesBy 5 = .ok (.iconst 4, 1) := dk_7 (dk_at dksX0_choosesBy_0 5 rfl rfl)
theorem dX0_choosesBy_6 : decode cX0_choosesBy 6 = .ok (.istore 4, 2) := dk_54 4 (dk_at dksX0_choosesBy_0 6 rfl rfl)
theorem dX0_choosesBy_8 : decode cX0_choosesBy 8 = .ok (.iload 4, 2) := dk_21 4 (dk_at dksX0_choosesBy_0 8 rfl rfl)
theorem dX0_choosesBy_10 : decode cX0_choosesBy 10 = .ok (.ifCond .lt 82, 3) := dk_155 0 82 (dk_at dksX0_choosesBy_0 10 rfl rfl)
theorem dX0_choosesBy_13 : decode cX0_choosesBy 13 = .ok (.iload_n 1, 1) := dk_27 (dk_at dksX0_choosesBy_0 13 rfl rfl)
theorem dX0_choosesBy_14 : decode cX0_choosesBy 14 = .ok (.iload 4, 2) := dk_21 4 (dk_at dksX0_choosesBy_0 14 rfl rfl)
theorem dX0_choosesBy_16 : decode cX0_choosesBy 16 = .ok (.invokestatic 322, 3) := dk_184 1 66 (dk_at dksX0_choosesBy_0 16 rfl rfl)
theorem dX0_choosesBy_19 : decode cX0_choosesBy 19 = .ok (.idiv, 1) := dk_108 (dk_at dksX0_choosesBy_0 19 rfl rfl)
theorem dX0_choosesBy_20 : decode cX0_choosesBy 20 = .ok (.bipush 10, 2) := dk_16 10 (dk_at dksX0_choosesBy_0 20 rfl rfl)
theorem dX0_choosesBy_22 : decode cX0_choosesBy 22 = .ok (.irem, 1) := dk_112 (dk_at dksX0_choosesBy_0 22 rfl rfl)
theorem dX0_choosesBy_23 : decode cX0_choosesBy 23 = .ok (.istore 5, 2) := dk_54 5 (dk_at dksX0_choosesBy_1 0 rfl rfl)
theorem dX0_choosesBy_25 : decode cX0_choosesBy 25 = .ok (.iload 5, 2) := dk_21 5 (dk_at dksX0_choosesBy_1 2 rfl rfl)
theorem dX0_choosesBy_27 : decode cX0_choosesBy 27 = .ok (.aload_n 0, 1) := dk_42 (dk_at dksX0_choosesBy_1 4 rfl rfl)
theorem dX0_choosesBy_28 : decode cX0_choosesBy 28 = .ok (.invokevirtual 69, 3) := dk_182 0 69 (dk_at dksX0_choosesBy_1 5 rfl rfl)
theorem dX0_choosesBy_31 : decode cX0_choosesBy 31 = .ok (.if_icmp .lt 6, 3) := dk_161 0 6 (dk_at dksX0_choosesBy_1 8 rfl rfl)
theorem dX0_choosesBy_34 : decode cX0_choosesBy 34 = .ok (.goto 52, 3) := dk_167 0 52 (dk_at dksX0_choosesBy_1 11 rfl rfl)
theorem dX0_choosesBy_37 : decode cX0_choosesBy 37 = .ok (.aload_n 0, 1) := dk_42 (dk_at dksX0_choosesBy_1 14 rfl rfl)
theorem dX0_choosesBy_38 : decode cX0_choosesBy 38 = .ok (.getfield 56, 3) := dk_180 0 56 (dk_at dksX0_choosesBy_1 15 rfl rfl)
theorem dX0_choosesBy_41 : decode cX0_choosesBy 41 = .ok (.iload 5, 2) := dk_21 5 (dk_at dksX0_choosesBy_1 18 rfl rfl)
theorem dX0_choosesBy_43 : decode cX0_choosesBy 43 = .ok (.aload_n 0, 1) := dk_42 (dk_at dksX0_choosesBy_1 20 rfl rfl)
theorem dX0_choosesBy_44 : decode cX0_choosesBy 44 = .ok (.iload 5, 2) := dk_21 5 (dk_at dksX0_choosesBy_1 21 rfl rfl)
theorem dX0_choosesBy_46 : decode cX0_choosesBy 46 = .ok (.iload_n 2, 1) := dk_28 (dk_at dksX0_choosesBy_1 23 rfl rfl)
theorem dX0_choosesBy_47 : decode cX0_choosesBy 47 = .ok (.invokevirtual 326, 3) := dk_182 1 70 (dk_at dksX0_choosesBy_2 0 rfl rfl)
theorem dX0_choosesBy_50 : decode cX0_choosesBy 50 = .ok (.iastore, 1) := dk_79 (dk_at dksX0_choosesBy_2 3 rfl rfl)
theorem dX0_choosesBy_51 : decode cX0_choosesBy 51 = .ok (.iload_n 2, 1) := dk_28 (dk_at dksX0_choosesBy_2 4 rfl rfl)
theorem dX0_choosesBy_52 : decode cX0_choosesBy 52 = .ok (.iconst 1, 1) := dk_4 (dk_at dksX0_choosesBy_2 5 rfl rfl)
theorem dX0_choosesBy_53 : decode cX0_choosesBy 53 = .ok (.aload_n 0, 1) := dk_42 (dk_at dksX0_choosesBy_2 6 rfl rfl)
theorem dX0_choosesBy_54 : decode cX0_choosesBy 54 = .ok (.getfield 56, 3) := dk_180 0 56 (dk_at dksX0_choosesBy_2 7 rfl rfl)
theorem dX0_choosesBy_57 : decode cX0_choosesBy 57 = .ok (.iload 5, 2) := dk_21 5 (dk_at dksX0_choosesBy_2 10 rfl rfl)
theorem dX0_choosesBy_59 : decode cX0_choosesBy 59 = .ok (.iaload, 1) := dk_46 (dk_at dksX0_choosesBy_2 12 rfl rfl)
theorem dX0_choosesBy_60 : decode cX0_choosesBy 60 = .ok (.ishl, 1) := dk_120 (dk_at dksX0_choosesBy_2 13 rfl rfl)
theorem dX0_choosesBy_61 : decode cX0_choosesBy 61 = .ok (.iconst (-1), 1) := dk_2 (dk_at dksX0_choosesBy_2 14 rfl rfl)
theorem dX0_choosesBy_62 : decode cX0_choosesBy 62 = .ok (.ixor, 1) := dk_130 (dk_at dksX0_choosesBy_2 15 rfl rfl)
theorem dX0_choosesBy_63 : decode cX0_choosesBy 63 = .ok (.iand, 1) := dk_126 (dk_at dksX0_choosesBy_2 16 rfl rfl)
theorem dX0_choosesBy_64 : decode cX0_choosesBy 64 = .ok (.istore_n 2, 1) := dk_61 (dk_at dksX0_choosesBy_2 17 rfl rfl)
theorem dX0_choosesBy_65 : decode cX0_choosesBy 65 = .ok (.iload_n 3, 1) := dk_29 (dk_at dksX0_choosesBy_2 18 rfl rfl)
theorem dX0_choosesBy_66 : decode cX0_choosesBy 66 = .ok (.aload_n 0, 1) := dk_42 (dk_at dksX0_choosesBy_2 19 rfl rfl)
theorem dX0_choosesBy_67 : decode cX0_choosesBy 67 = .ok (.getfield 21, 3) := dk_180 0 21 (dk_at dksX0_choosesBy_2 20 rfl rfl)
theorem dX0_choosesBy_70 : decode cX0_choosesBy 70 = .ok (.getfield 87, 3) := dk_180 0 87 (dk_at dksX0_choosesBy_3 0 rfl rfl)
theorem dX0_choosesBy_73 : decode cX0_choosesBy 73 = .ok (.iload 5, 2) := dk_21 5 (dk_at dksX0_choosesBy_3 3 rfl rfl)
theorem dX0_choosesBy_75 : decode cX0_choosesBy 75 = .ok (.aaload, 1) := dk_50 (dk_at dksX0_choosesBy_3 5 rfl rfl)
theorem dX0_choosesBy_76 : decode cX0_choosesBy 76 = .ok (.aload_n 0, 1) := dk_42 (dk_at dksX0_choosesBy_3 6 rfl rfl)
theorem dX0_choosesBy_77 : decode cX0_choosesBy 77 = .ok (.getfield 56, 3) := dk_180 0 56 (dk_at dksX0_choosesBy_3 7 rfl rfl)
theorem dX0_choosesBy_80 : decode cX0_choosesBy 80 = .ok (.iload 5, 2) := dk_21 5 (dk_at dksX0_choosesBy_3 10 rfl rfl)
theorem dX0_choosesBy_82 : decode cX0_choosesBy 82 = .ok (.iaload, 1) := dk_46 (dk_at dksX0_choosesBy_3 12 rfl rfl)
theorem dX0_choosesBy_83 : decode cX0_choosesBy 83 = .ok (.iaload, 1) := dk_46 (dk_at dksX0_choosesBy_3 13 rfl rfl)
theorem dX0_choosesBy_84 : decode cX0_choosesBy 84 = .ok (.iadd, 1) := dk_96 (dk_at dksX0_choosesBy_3 14 rfl rfl)
theorem dX0_choosesBy_85 : decode cX0_choosesBy 85 = .ok (.istore_n 3, 1) := dk_62 (dk_at dksX0_choosesBy_3 15 rfl rfl)
theorem dX0_choosesBy_86 : decode cX0_choosesBy 86 = .ok (.iinc 4 (-1), 3) := dk_132 4 255 (dk_at dksX0_choosesBy_3 16 rfl rfl)
theorem dX0_choosesBy_89 : decode cX0_choosesBy 89 = .ok (.goto (-81), 3) := dk_167 255 175 (dk_at dksX0_choosesBy_3 19 rfl rfl)
theorem dX0_choosesBy_92 : decode cX0_choosesBy 92 = .ok (.iload_n 3, 1) := dk_29 (dk_at dksX0_choosesBy_3 22 rfl rfl)
theorem dX0_choosesBy_93 : decode cX0_choosesBy 93 = .ok (.ireturn, 1) := dk_172 (dk_at dksX0_choosesBy_3 23 rfl rfl)
abbrev cX0_wantedOf : ByteArray := prog_1_method_73_code
def yX0_wantedOf : MethodName := ⟨RX0, "wantedOf", "(II)I"⟩
def dkwX0_wantedOf_2 : List UInt8 := [29, 46, 164, 0, 6, 21, 4, 62, 132, 4, 1, 167, 255, 204, 29, 172]
abbrev dktX0_wantedOf_2 : List UInt8 := dkwX0_wantedOf_2 ++ []
def dkwX0_wantedOf_1 : List UInt8 := [159, 0, 29, 42, 180, 0, 21, 180, 0, 87, 27, 50, 21, 4, 46, 42, 180, 0, 21, 180, 0, 87, 27, 50]
abbrev dktX0_wantedOf_1 : List UInt8 := dkwX0_wantedOf_1 ++ dktX0_wantedOf_2
def dkwX0_wantedOf_0 : List UInt8 := [2, 62, 3, 54, 4, 21, 4, 8, 162, 0, 52, 28, 21, 4, 184, 0, 138, 153, 0, 37, 29, 2]
abbrev dktX0_wantedOf_0 : List UInt8 := dkwX0_wantedOf_0 ++ dktX0_wantedOf_1
theorem dksX0_wantedOf_0 : cX0_wantedOf.data.toList.drop 0 = dktX0_wantedOf_0 := by decide +kernel
theorem dksX0_wantedOf_1 : cX0_wantedOf.data.toList.drop 22 = dktX0_wantedOf_1 := dk_seg dksX0_wantedOf_0 22 rfl rfl
theorem dksX0_wantedOf_2 : cX0_wantedOf.data.toList.drop 46 = dktX0_wantedOf_2 := dk_seg dksX0_wantedOf_1 24 rfl rfl
theorem dX0_wantedOf_0 : decode cX0_wantedOf 0 = .ok (.iconst (-1), 1) := dk_2 (dk_at dksX0_wantedOf_0 0 rfl rfl)
theorem dX0_wantedOf_1 : decode cX0_wantedOf 1 = .ok (.istore_n 3, 1) := dk_62 (dk_at dksX0_wantedOf_0 1 rfl rfl)
theorem dX0_wantedOf_2 : decode cX0_wantedOf 2 = .ok (.iconst 0, 1) := dk_3 (dk_at dksX0_wantedOf_0 2 rfl rfl)
theorem dX0_wantedOf_3 : decode cX0_wantedOf 3 = .ok (.istore 4, 2) := dk_54 4 (dk_at dksX0_wantedOf_0 3 rfl rfl)
theorem dX0_wantedOf_5 : decode cX0_wantedOf 5 = .ok (.iload 4, 2) := dk_21 4 (dk_at dksX0_wantedOf_0 5 rfl rfl)
theorem dX0_wantedOf_7 : decode cX0_wantedOf 7 = .ok (.iconst 5, 1) := dk_8 (dk_at dksX0_wantedOf_0 7 rfl rfl)
theorem dX0_wantedOf_8 : decode cX0_wantedOf 8 = .ok (.if_icmp .ge 52, 3) := dk_162 0 52 (dk_at dksX0_wantedOf_0 8 rfl rfl)
theorem dX0_wantedOf_11 : decode cX0_wantedOf 11 = .ok (.iload_n 2, 1) := dk_28 (dk_at dksX0_wantedOf_0 11 rfl rfl)
theorem dX0_wantedOf_12 : decode cX0_wantedOf 12 = .ok (.iload 4, 2) := dk_21 4 (dk_at dksX0_wantedOf_0 12 rfl rfl)
theorem dX0_wantedOf_14 : decode cX0_wantedOf 14 = .ok (.invokestatic 138, 3) := dk_184 0 138 (dk_at dksX0_wantedOf_0 14 rfl rfl)
theorem dX0_wantedOf_17 : decode cX0_wantedOf 17 = .ok (.ifCond .eq 37, 3) := dk_153 0 37 (dk_at dksX0_wantedOf_0 17 rfl rfl)
theorem dX0_wantedOf_20 : decode cX0_wantedOf 20 = .ok (.iload_n 3, 1) := dk_29 (dk_at dksX0_wantedOf_0 20 rfl rfl)
theorem dX0_wantedOf_21 : decode cX0_wantedOf 21 = .ok (.iconst (-1), 1) := dk_2 (dk_at dksX0_wantedOf_0 21 rfl rfl)
theorem dX0_wantedOf_22 : decode cX0_wantedOf 22 = .ok (.if_icmp .eq 29, 3) := dk_159 0 29 (dk_at dksX0_wantedOf_1 0 rfl rfl)
theorem dX0_wantedOf_25 : decode cX0_wantedOf 25 = .ok (.aload_n 0, 1) := dk_42 (dk_at dksX0_wantedOf_1 3 rfl rfl)
theorem dX0_wantedOf_26 : decode cX0_wantedOf 26 = .ok (.getfield 21, 3) := dk_180 0 21 (dk_at dksX0_wantedOf_1 4 rfl rfl)
theorem dX0_wantedOf_29 : decode cX0_wantedOf 29 = .ok (.getfield 87, 3) := dk_180 0 87 (dk_at dksX0_wantedOf_1 7 rfl rfl)
theorem dX0_wantedOf_32 : decode cX0_wantedOf 32 = .ok (.iload_n 1, 1) := dk_27 (dk_at dksX0_wantedOf_1 10 rfl rfl)
theorem dX0_wantedOf_33 : decode cX0_wantedOf 33 = .ok (.aaload, 1) := dk_50 (dk_at dksX0_wantedOf_1 11 rfl rfl)
theorem dX0_wantedOf_34 : decode cX0_wantedOf 34 = .ok (.iload 4, 2) := dk_21 4 (dk_at dksX0_wantedOf_1 12 rfl rfl)
theorem dX0_wantedOf_36 : decode cX0_wantedOf 36 = .ok (.iaload, 1) := dk_46 (dk_at dksX0_wantedOf_1 14 rfl rfl)
theorem dX0_wantedOf_37 : decode cX0_wantedOf 37 = .ok (.aload_n 0, 1) := dk_42 (dk_at dksX0_wantedOf_1 15 rfl rfl)
theorem dX0_wantedOf_38 : decode cX0_wantedOf 38 = .ok (.getfield 21, 3) := dk_180 0 21 (dk_at dksX0_wantedOf_1 16 rfl rfl)
theorem dX0_wantedOf_41 : decode cX0_wantedOf 41 = .ok (.getfield 87, 3) := dk_180 0 87 (dk_at dksX0_wantedOf_1 19 rfl rfl)
theorem dX0_wantedOf_44 : decode cX0_wantedOf 44 = .ok (.iload_n 1, 1) := dk_27 (dk_at dksX0_wantedOf_1 22 rfl rfl)
theorem dX0_wantedOf_45 : decode cX0_wantedOf 45 = .ok (.aaload, 1) := dk_50 (dk_at dksX0_wantedOf_1 23 rfl rfl)
theorem dX0_wantedOf_46 : decode cX0_wantedOf 46 = .ok (.iload_n 3, 1) := dk_29 (dk_at dksX0_wantedOf_2 0 rfl rfl)
theorem dX0_wantedOf_47 : decode cX0_wantedOf 47 = .ok (.iaload, 1) := dk_46 (dk_at dksX0_wantedOf_2 1 rfl rfl)
theorem dX0_wantedOf_48 : decode cX0_wantedOf 48 = .ok (.if_icmp .le 6, 3) := dk_164 0 6 (dk_at dksX0_wantedOf_2 2 rfl rfl)
theorem dX0_wantedOf_51 : decode cX0_wantedOf 51 = .ok (.iload 4, 2) := dk_21 4 (dk_at dksX0_wantedOf_2 5 rfl rfl)
theorem dX0_wantedOf_53 : decode cX0_wantedOf 53 = .ok (.istore_n 3, 1) := dk_62 (dk_at dksX0_wantedOf_2 7 rfl rfl)
theorem dX0_wantedOf_54 : decode cX0_wantedOf 54 = .ok (.iinc 4 1, 3) := dk_132 4 1 (dk_at dksX0_wantedOf_2 8 rfl rfl)
theorem dX0_wantedOf_57 : decode cX0_wantedOf 57 = .ok (.goto (-52), 3) := dk_167 255 204 (dk_at dksX0_wantedOf_2 11 rfl rfl)
theorem dX0_wantedOf_60 : decode cX0_wantedOf 60 = .ok (.iload_n 3, 1) := dk_29 (dk_at dksX0_wantedOf_2 14 rfl rfl)
theorem dX0_wantedOf_61 : decode cX0_wantedOf 61 = .ok (.ireturn, 1) := dk_172 (dk_at dksX0_wantedOf_2 15 rfl rfl)
abbrev cX0_best : ByteArray := prog_1_method_76_code
def yX0_best : MethodName := ⟨RX0, "best", "(Z)I"⟩
def dkwX0_best_2 : List UInt8 := [132, 4, 1, 167, 255, 214, 27, 153, 0, 7, 29, 167, 0, 4, 28, 172]
abbrev dktX0_best_2 : List UInt8 := dkwX0_best_2 ++ []
def dkwX0_best_1 : List UInt8 := [21, 4, 182, 1, 76, 28, 163, 0, 6, 167, 0, 13, 42, 21, 4, 182, 1, 76, 61, 21, 4, 62]
abbrev dktX0_best_1 : List UInt8 := dkwX0_best_1 ++ dktX0_best_2
def dkwX0_best_0 : List UInt8 := [2, 61, 2, 62, 3, 54, 4, 21, 4, 19, 1, 69, 163, 0, 40, 21, 4, 184, 1, 73, 153, 0, 26, 42]
abbrev dktX0_best_0 : List UInt8 := dkwX0_best_0 ++ dktX0_best_1
theorem dksX0_best_0 : cX0_best.data.toList.drop 0 = dktX0_best_0 := by decide +kernel
theorem dksX0_best_1 : cX0_best.data.toList.drop 24 = dktX0_best_1 := dk_seg dksX0_best_0 24 rfl rfl
theorem dksX0_best_2 : cX0_best.data.toList.drop 46 = dktX0_best_2 := dk_seg dksX0_best_1 22 rfl rfl
theorem dX0_best_0 : decode cX0_best 0 = .ok (.iconst (-1), 1) := dk_2 (dk_at dksX0_best_0 0 rfl rfl)
theorem dX0_best_1 : decode cX0_best 1 = .ok (.istore_n 2, 1) := dk_61 (dk_at dksX0_best_0 1 rfl rfl)
theorem dX0_best_2 : decode cX0_best 2 = .ok (.iconst (-1), 1) := dk_2 (dk_at dksX0_best_0 2 rfl rfl)
theorem dX0_best_3 : decode cX0_best 3 = .ok (.istore_n 3, 1) := dk_62 (dk_at dksX0_best_0 3 rfl rfl)
theorem dX0_best_4 : decode cX0_best 4 = .ok (.iconst 0, 1) := dk_3 (dk_at dksX0_best_0 4 rfl rfl)
theorem dX0_best_5 : decode cX0_best 5 = .ok (.istore 4, 2) := dk_54 4 (dk_at dksX0_best_0 5 rfl rfl)
theorem dX0_best_7 : decode cX0_best 7 = .ok (.iload 4, 2) := dk_21 4 (dk_at dksX0_best_0 7 rfl rfl)
theorem dX0_best_9 : decode cX0_best 9 = .ok (.ldc_w 325, 3) := dk_19 1 69 (dk_at dksX0_best_0 9 rfl rfl)
theorem dX0_best_12 : decode cX0_best 12 = .ok (.if_icmp .gt 40, 3) := dk_163 0 40 (dk_at dksX0_best_0 12 rfl rfl)
theorem dX0_best_15 : decode cX0_best 15 = .ok (.iload 4, 2) := dk_21 4 (dk_at dksX0_best_0 15 rfl rfl)
theorem dX0_best_17 : decode cX0_best 17 = .ok (.invokestatic 329, 3) := dk_184 1 73 (dk_at dksX0_best_0 17 rfl rfl)
theorem dX0_best_20 : decode cX0_best 20 = .ok (.ifCond .eq 26, 3) := dk_153 0 26 (dk_at dksX0_best_0 20 rfl rfl)
theorem dX0_best_23 : decode cX0_best 23 = .ok (.aload_n 0, 1) := dk_42 (dk_at dksX0_best_0 23 rfl rfl)
theorem dX0_best_24 : decode cX0_best 24 = .ok (.iload 4, 2) := dk_21 4 (dk_at dksX0_best_1 0 rfl rfl)
theorem dX0_best_26 : decode cX0_best 26 = .ok (.invokevirtual 332, 3) := dk_182 1 76 (dk_at dksX0_best_1 2 rfl rfl)
theorem dX0_best_29 : decode cX0_best 29 = .ok (.iload_n 2, 1) := dk_28 (dk_at dksX0_best_1 5 rfl rfl)
theorem dX0_best_30 : decode cX0_best 30 = .ok (.if_icmp .gt 6, 3) := dk_163 0 6 (dk_at dksX0_best_1 6 rfl rfl)
theorem dX0_best_33 : decode cX0_best 33 = .ok (.goto 13, 3) := dk_167 0 13 (dk_at dksX0_best_1 9 rfl rfl)
theorem dX0_best_36 : decode cX0_best 36 = .ok (.aload_n 0, 1) := dk_42 (dk_at dksX0_best_1 12 rfl rfl)
theorem dX0_best_37 : decode cX0_best 37 = .ok (.iload 4, 2) := dk_21 4 (dk_at dksX0_best_1 13 rfl rfl)
theorem dX0_best_39 : decode cX0_best 39 = .ok (.invokevirtual 332, 3) := dk_182 1 76 (dk_at dksX0_best_1 15 rfl rfl)
theorem dX0_best_42 : decode cX0_best 42 = .ok (.istore_n 2, 1) := dk_61 (dk_at dksX0_best_1 18 rfl rfl)
theorem dX0_best_43 : decode cX0_best 43 = .ok (.iload 4, 2) := dk_21 4 (dk_at dksX0_best_1 19 rfl rfl)
theorem dX0_best_45 : decode cX0_best 45 = .ok (.istore_n 3, 1) := dk_62 (dk_at dksX0_best_1 21 rfl rfl)
theorem dX0_best_46 : decode cX0_best 46 = .ok (.iinc 4 1, 3) := dk_132 4 1 (dk_at dksX0_best_2 0 rfl rfl)
theorem dX0_best_49 : decode cX0_best 49 = .ok (.goto (-42), 3) := dk_167 255 214 (dk_at dksX0_best_2 3 rfl rfl)
theorem dX0_best_52 : decode cX0_best 52 = .ok (.iload_n 1, 1) := dk_27 (dk_at dksX0_best_2 6 rfl rfl)
theorem dX0_best_53 : decode cX0_best 53 = .ok (.ifCond .eq 7, 3) := dk_153 0 7 (dk_at dksX0_best_2 7 rfl rfl)
theorem dX0_best_56 : decode cX0_best 56 = .ok (.iload_n 3, 1) := dk_29 (dk_at dksX0_best_2 10 rfl rfl)
theorem dX0_best_57 : decode cX0_best 57 = .ok (.goto 4, 3) := dk_167 0 4 (dk_at dksX0_best_2 11 rfl rfl)
theorem dX0_best_60 : decode cX0_best 60 = .ok (.iload_n 2, 1) := dk_28 (dk_at dksX0_best_2 14 rfl rfl)
theorem dX0_best_61 : decode cX0_best 61 = .ok (.ireturn, 1) := dk_172 (dk_at dksX0_best_2 15 rfl rfl)
abbrev cX0_trade : ByteArray := prog_1_method_79_code
def yX0_trade : MethodName := ⟨RX0, "trade", "(I)I"⟩
def dkwX0_trade_0 : List UInt8 := [42, 27, 182, 1, 36, 154, 0, 5, 2, 172, 42, 182, 1, 82, 61, 42, 180, 0, 56, 27, 46, 172]
abbrev dktX0_trade_0 : List UInt8 := dkwX0_trade_0 ++ []
theorem dksX0_trade_0 : cX0_trade.data.toList.drop 0 = dktX0_trade_0 := by decide +kernel
theorem dX0_trade_0 : decode cX0_trade 0 = .ok (.aload_n 0, 1) := dk_42 (dk_at dksX0_trade_0 0 rfl rfl)
theorem dX0_trade_1 : decode cX0_trade 1 = .ok (.iload_n 1, 1) := dk_27 (dk_at dksX0_trade_0 1 rfl rfl)
theorem dX0_trade_2 : decode cX0_trade 2 = .ok (.invokevirtual 292, 3) := dk_182 1 36 (dk_at dksX0_trade_0 2 rfl rfl)
theorem dX0_trade_5 : decode cX0_trade 5 = .ok (.ifCond .ne 5, 3) := dk_154 0 5 (dk_at dksX0_trade_0 5 rfl rfl)
theorem dX0_trade_8 : decode cX0_trade 8 = .ok (.iconst (-1), 1) := dk_2 (dk_at dksX0_trade_0 8 rfl rfl)
theorem dX0_trade_9 : decode cX0_trade 9 = .ok (.ireturn, 1) := dk_172 (dk_at dksX0_trade_0 9 rfl rfl)
theorem dX0_trade_10 : decode cX0_trade 10 = .ok (.aload_n 0, 1) := dk_42 (dk_at dksX0_trade_0 10 rfl rfl)
theorem dX0_trade_11 : decode cX0_trade 11 = .ok (.invokevirtual 338, 3) := dk_182 1 82 (dk_at dksX0_trade_0 11 rfl rfl)
theorem dX0_trade_14 : decode cX0_trade 14 = .ok (.istore_n 2, 1) := dk_61 (dk_at dksX0_trade_0 14 rfl rfl)
theorem dX0_trade_15 : decode cX0_trade 15 = .ok (.aload_n 0, 1) := dk_42 (dk_at dksX0_trade_0 15 rfl rfl)
theorem dX0_trade_16 : decode cX0_trade 16 = .ok (.getfield 56, 3) := dk_180 0 56 (dk_at dksX0_trade_0 16 rfl rfl)
theorem dX0_trade_19 : decode cX0_trade 19 = .ok (.iload_n 1, 1) := dk_27 (dk_at dksX0_trade_0 19 rfl rfl)
theorem dX0_trade_20 : decode cX0_trade 20 = .ok (.iaload, 1) := dk_46 (dk_at dksX0_trade_0 20 rfl rfl)
theorem dX0_trade_21 : decode cX0_trade 21 = .ok (.ireturn, 1) := dk_172 (dk_at dksX0_trade_0 21 rfl rfl)
abbrev cX0_trades : ByteArray := prog_1_method_78_code
def yX0_trades : MethodName := ⟨RX0, "trades", "()I"⟩
def dkwX0_trades_5 : List UInt8 := [167, 255, 221, 27, 29, 2, 130, 126, 60, 167, 255, 142, 28, 172]
abbrev dktX0_trades_5 : List UInt8 := dkwX0_trades_5 ++ []
def dkwX0_trades_4 : List UInt8 := [184, 0, 138, 153, 0, 17, 42, 180, 0, 56, 21, 4, 42, 21, 4, 27, 182, 1, 70, 79, 132, 4, 1]
abbrev dktX0_trades_4 : List UInt8 := dkwX0_trades_4 ++ dktX0_trades_5
def dkwX0_trades_3 : List UInt8 := [132, 2, 1, 132, 4, 1, 167, 255, 201, 3, 54, 4, 21, 4, 42, 182, 0, 69, 162, 0, 32, 29, 21, 4]
abbrev dktX0_trades_3 : List UInt8 := dkwX0_trades_3 ++ dktX0_trades_4
def dkwX0_trades_2 : List UInt8 := [21, 4, 27, 182, 1, 79, 54, 5, 21, 5, 29, 126, 153, 0, 6, 167, 0, 11, 29, 21, 5, 128, 62]
abbrev dktX0_trades_2 : List UInt8 := dkwX0_trades_2 ++ dktX0_trades_3
def dkwX0_trades_1 : List UInt8 := [182, 0, 69, 162, 0, 52, 27, 29, 2, 130, 126, 21, 4, 184, 0, 138, 154, 0, 6, 167, 0, 30, 42]
abbrev dktX0_trades_1 : List UInt8 := dkwX0_trades_1 ++ dktX0_trades_2
def dkwX0_trades_0 : List UInt8 := [4, 42, 182, 0, 69, 120, 4, 100, 60, 3, 61, 27, 153, 0, 116, 3, 62, 3, 54, 4, 21, 4, 42]
abbrev dktX0_trades_0 : List UInt8 := dkwX0_trades_0 ++ dktX0_trades_1
theorem dksX0_trades_0 : cX0_trades.data.toList.drop 0 = dktX0_trades_0 := by decide +kernel
theorem dksX0_trades_1 : cX0_trades.data.toList.drop 23 = dktX0_trades_1 := dk_seg dksX0_trades_0 23 rfl rfl
theorem dksX0_trades_2 : cX0_trades.data.toList.drop 46 = dktX0_trades_2 := dk_seg dksX0_trades_1 23 rfl rfl
theorem dksX0_trades_3 : cX0_trades.data.toList.drop 69 = dktX0_trades_3 := dk_seg dksX0_trades_2 23 rfl rfl
theorem dksX0_trades_4 : cX0_trades.data.toList.drop 93 = dktX0_trades_4 := dk_seg dksX0_trades_3 24 rfl rfl
theorem dksX0_trades_5 : cX0_trades.data.toList.drop 116 = dktX0_trades_5 := dk_seg dksX0_trades_4 23 rfl rfl
theorem dX0_trades_0 : decode cX0_trades 0 = .ok (.iconst 1, 1) := dk_4 (dk_at dksX0_trades_0 0 rfl rfl)
theorem dX0_trades_1 : decode cX0_trades 1 = .ok (.aload_n 0, 1) := dk_42 (dk_at dksX0_trades_0 1 rfl rfl)
theorem dX0_trades_2 : decode cX0_trades 2 = .ok (.invokevirtual 69, 3) := dk_182 0 69 (dk_at dksX0_trades_0 2 rfl rfl)
theorem dX0_trades_5 : decode cX0_trades 5 = .ok (.ishl, 1) := dk_120 (dk_at dksX0_trades_0 5 rfl rfl)
theorem dX0_trades_6 : decode cX0_trades 6 = .ok (.iconst 1, 1) := dk_4 (dk_at dksX0_trades_0 6 rfl rfl)
theorem dX0_trades_7 : decode cX0_trades 7 = .ok (.isub, 1) := dk_100 (dk_at dksX0_trades_0 7 rfl rfl)
theorem dX0_trades_8 : decode cX0_trades 8 = .ok (.istore_n 1, 1) := dk_60 (dk_at dksX0_trades_0 8 rfl rfl)
theorem dX0_trades_9 : decode cX0_trades 9 = .ok (.iconst 0, 1) := dk_3 (dk_at dksX0_trades_0 9 rfl rfl)
theorem dX0_trades_10 : decode cX0_trades 10 = .ok (.istore_n 2, 1) := dk_61 (dk_at dksX0_trades_0 10 rfl rfl)
theorem dX0_trades_11 : decode cX0_trades 11 = .ok (.iload_n 1, 1) := dk_27 (dk_at dksX0_trades_0 11 rfl rfl)
theorem dX0_trades_12 : decode cX0_trades 12 = .ok (.ifCond .eq 116, 3) := dk_153 0 116 (dk_at dksX0_trades_0 12 rfl rfl)
theorem dX0_trades_15 : decode cX0_trades 15 = .ok (.iconst 0, 1) := dk_3 (dk_at dksX0_trades_0 15 rfl rfl)
theorem dX0_trades_16 : decode cX0_trades 16 = .ok (.istore_n 3, 1) := dk_62 (dk_at dksX0_trades_0 16 rfl rfl)
theorem dX0_trades_17 : decode cX0_trades 17 = .ok (.iconst 0, 1) := dk_3 (dk_at dksX0_trades_0 17 rfl rfl)
theorem dX0_trades_18 : decode cX0_trades 18 = .ok (.istore 4, 2) := dk_54 4 (dk_at dksX0_trades_0 18 rfl rfl)
theorem dX0_trades_20 : decode cX0_trades 20 = .ok (.iload 4, 2) := dk_21 4 (dk_at dksX0_trades_0 20 rfl rfl)
theorem dX0_trades_22 : decode cX0_trades 22 = .ok (.aload_n 0, 1) := dk_42 (dk_at dksX0_trades_0 22 rfl rfl)
theorem dX0_trades_23 : decode cX0_trades 23 = .ok (.invokevirtual 69, 3) := dk_182 0 69 (dk_at dksX0_trades_1 0 rfl rfl)
theorem dX0_trades_26 : decode cX0_trades 26 = .ok (.if_icmp .ge 52, 3) := dk_162 0 52 (dk_at dksX0_trades_1 3 rfl rfl)
theorem dX0_trades_29 : decode cX0_trades 29 = .ok (.iload_n 1, 1) := dk_27 (dk_at dksX0_trades_1 6 rfl rfl)
theorem dX0_trades_30 : decode cX0_trades 30 = .ok (.iload_n 3, 1) := dk_29 (dk_at dksX0_trades_1 7 rfl rfl)
theorem dX0_trades_31 : decode cX0_trades 31 = .ok (.iconst (-1), 1) := dk_2 (dk_at dksX0_trades_1 8 rfl rfl)
theorem dX0_trades_32 : decode cX0_trades 32 = .ok (.ixor, 1) := dk_130 (dk_at dksX0_trades_1 9 rfl rfl)
theorem dX0_trades_33 : decode cX0_trades 33 = .ok (.iand, 1) := dk_126 (dk_at dksX0_trades_1 10 rfl rfl)
theorem dX0_trades_34 : decode cX0_trades 34 = .ok (.iload 4, 2) := dk_21 4 (dk_at dksX0_trades_1 11 rfl rfl)
theorem dX0_trades_36 : decode cX0_trades 36 = .ok (.invokestatic 138, 3) := dk_184 0 138 (dk_at dksX0_trades_1 13 rfl rfl)
theorem dX0_trades_39 : decode cX0_trades 39 = .ok (.ifCond .ne 6, 3) := dk_154 0 6 (dk_at dksX0_trades_1 16 rfl rfl)
theorem dX0_trades_42 : decode cX0_trades 42 = .ok (.goto 30, 3) := dk_167 0 30 (dk_at dksX0_trades_1 19 rfl rfl)
theorem dX0_trades_45 : decode cX0_trades 45 = .ok (.aload_n 0, 1) := dk_42 (dk_at dksX0_trades_1 22 rfl rfl)
theorem dX0_trades_46 : decode cX0_trades 46 = .ok (.iload 4, 2) := dk_21 4 (dk_at dksX0_trades_2 0 rfl rfl)
theorem dX0_trades_48 : decode cX0_trades 48 = .ok (.iload_n 1, 1) := dk_27 (dk_at dksX0_trades_2 2 rfl rfl)
theorem dX0_trades_49 : decode cX0_trades 49 = .ok (.invokevirtual 335, 3) := dk_182 1 79 (dk_at dksX0_trades_2 3 rfl rfl)
theorem dX0_trades_52 : decode cX0_trades 52 = .ok (.istore 5, 2) := dk_54 5 (dk_at dksX0_trades_2 6 rfl rfl)
theorem dX0_trades_54 : decode cX0_trades 54 = .ok (.iload 5, 2) := dk_21 5 (dk_at dksX0_trades_2 8 rfl rfl)
theorem dX0_trades_56 : decode cX0_trades 56 = .ok (.iload_n 3, 1) := dk_29 (dk_at dksX0_trades_2 10 rfl rfl)
theorem dX0_trades_57 : decode cX0_trades 57 = .ok (.iand, 1) := dk_126 (dk_at dksX0_trades_2 11 rfl rfl)
theorem dX0_trades_58 : decode cX0_trades 58 = .ok (.ifCond .eq 6, 3) := dk_153 0 6 (dk_at dksX0_trades_2 12 rfl rfl)
theorem dX0_trades_61 : decode cX0_trades 61 = .ok (.goto 11, 3) := dk_167 0 11 (dk_at dksX0_trades_2 15 rfl rfl)
theorem dX0_trades_64 : decode cX0_trades 64 = .ok (.iload_n 3, 1) := dk_29 (dk_at dksX0_trades_2 18 rfl rfl)
theorem dX0_trades_65 : decode cX0_trades 65 = .ok (.iload 5, 2) := dk_21 5 (dk_at dksX0_trades_2 19 rfl rfl)
theorem dX0_trades_67 : decode cX0_trades 67 = .ok (.ior, 1) := dk_128 (dk_at dksX0_trades_2 21 rfl rfl)
theorem dX0_trades_68 : decode cX0_trades 68 = .ok (.istore_n 3, 1) := dk_62 (dk_at dksX0_trades_2 22 rfl rfl)
theorem dX0_trades_69 : decode cX0_trades 69 = .ok (.iinc 2 1, 3) := dk_132 2 1 (dk_at dksX0_trades_3 0 rfl rfl)
theorem dX0_trades_72 : decode cX0_trades 72 = .ok (.iinc 4 1, 3) := dk_132 4 1 (dk_at dksX0_trades_3 3 rfl rfl)
theorem dX0_trades_75 : decode cX0_trades 75 = .ok (.goto (-55), 3) := dk_167 255 201 (dk_at dksX0_trades_3 6 rfl rfl)
theorem dX0_trades_78 : decode cX0_trades 78 = .ok (.iconst 0, 1) := dk_3 (dk_at dksX0_trades_3 9 rfl rfl)
theorem dX0_trades_79 : decode cX0_trades 79 = .ok (.istore 4, 2) := dk_54 4 (dk_at dksX0_trades_3 10 rfl rfl)
theorem dX0_trades_81 : decode cX0_trades 81 = .ok (.iload 4, 2) := dk_21 4 (dk_at dksX0_trades_3 12 rfl rfl)
theorem dX0_trades_83 : decode cX0_trades 83 = .ok (.aload_n 0, 1) := dk_42 (dk_at dksX0_trades_3 14 rfl rfl)
theorem dX0_trades_84 : decode cX0_trades 84 = .ok (.invokevirtual 69, 3) := dk_182 0 69 (dk_at dksX0_trades_3 15 rfl rfl)
theorem dX0_trades_87 : decode cX0_trades 87 = .ok (.if_icmp .ge 32, 3) := dk_162 0 32 (dk_at dksX0_trades_3 18 rfl rfl)
theorem dX0_trades_90 : decode cX0_trades 90 = .ok (.iload_n 3, 1) := dk_29 (dk_at dksX0_trades_3 21 rfl rfl)
theorem dX0_trades_91 : decode cX0_trades 91 = .ok (.iload 4, 2) := dk_21 4 (dk_at dksX0_trades_3 22 rfl rfl)
theorem dX0_trades_93 : decode cX0_trades 93 = .ok (.invokestatic 138, 3) := dk_184 0 138 (dk_at dksX0_trades_4 0 rfl rfl)
theorem dX0_trades_96 : decode cX0_trades 96 = .ok (.ifCond .eq 17, 3) := dk_153 0 17 (dk_at dksX0_trades_4 3 rfl rfl)
theorem dX0_trades_99 : decode cX0_trades 99 = .ok (.aload_n 0, 1) := dk_42 (dk_at dksX0_trades_4 6 rfl rfl)
theorem dX0_trades_100 : decode cX0_trades 100 = .ok (.getfield 56, 3) := dk_180 0 56 (dk_at dksX0_trades_4 7 rfl rfl)
theorem dX0_trades_103 : decode cX0_trades 103 = .ok (.iload 4, 2) := dk_21 4 (dk_at dksX0_trades_4 10 rfl rfl)
theorem dX0_trades_105 : decode cX0_trades 105 = .ok (.aload_n 0, 1) := dk_42 (dk_at dksX0_trades_4 12 rfl rfl)
theorem dX0_trades_106 : decode cX0_trades 106 = .ok (.iload 4, 2) := dk_21 4 (dk_at dksX0_trades_4 13 rfl rfl)
theorem dX0_trades_108 : decode cX0_trades 108 = .ok (.iload_n 1, 1) := dk_27 (dk_at dksX0_trades_4 15 rfl rfl)
theorem dX0_trades_109 : decode cX0_trades 109 = .ok (.invokevirtual 326, 3) := dk_182 1 70 (dk_at dksX0_trades_4 16 rfl rfl)
theorem dX0_trades_112 : decode cX0_trades 112 = .ok (.iastore, 1) := dk_79 (dk_at dksX0_trades_4 19 rfl rfl)
theorem dX0_trades_113 : decode cX0_trades 113 = .ok (.iinc 4 1, 3) := dk_132 4 1 (dk_at dksX0_trades_4 20 rfl rfl)
theorem dX0_trades_116 : decode cX0_trades 116 = .ok (.goto (-35), 3) := dk_167 255 221 (dk_at dksX0_trades_5 0 rfl rfl)
theorem dX0_trades_119 : decode cX0_trades 119 = .ok (.iload_n 1, 1) := dk_27 (dk_at dksX0_trades_5 3 rfl rfl)
theorem dX0_trades_120 : decode cX0_trades 120 = .ok (.iload_n 3, 1) := dk_29 (dk_at dksX0_trades_5 4 rfl rfl)
theorem dX0_trades_121 : decode cX0_trades 121 = .ok (.iconst (-1), 1) := dk_2 (dk_at dksX0_trades_5 5 rfl rfl)
theorem dX0_trades_122 : decode cX0_trades 122 = .ok (.ixor, 1) := dk_130 (dk_at dksX0_trades_5 6 rfl rfl)
theorem dX0_trades_123 : decode cX0_trades 123 = .ok (.iand, 1) := dk_126 (dk_at dksX0_trades_5 7 rfl rfl)
theorem dX0_trades_124 : decode cX0_trades 124 = .ok (.istore_n 1, 1) := dk_60 (dk_at dksX0_trades_5 8 rfl rfl)
theorem dX0_trades_125 : decode cX0_trades 125 = .ok (.goto (-114), 3) := dk_167 255 142 (dk_at dksX0_trades_5 9 rfl rfl)
theorem dX0_trades_128 : decode cX0_trades 128 = .ok (.iload_n 2, 1) := dk_28 (dk_at dksX0_trades_5 12 rfl rfl)
theorem dX0_trades_129 : decode cX0_trades 129 = .ok (.ireturn, 1) := dk_172 (dk_at dksX0_trades_5 13 rfl rfl)
abbrev cX0_ringOf : ByteArray := prog_1_method_77_code
def yX0_ringOf : MethodName := ⟨RX0, "ringOf", "(II)I"⟩
def dkwX0_ringOf_2 : List UInt8 := [21, 4, 28, 182, 1, 70, 54, 4, 167, 255, 231, 29, 172]
abbrev dktX0_ringOf_2 : List UInt8 := dkwX0_ringOf_2 ++ []
def dkwX0_ringOf_1 : List UInt8 := [132, 5, 1, 167, 255, 238, 29, 21, 4, 184, 0, 138, 154, 0, 22, 29, 4, 21, 4, 120, 128, 62, 42]
abbrev dktX0_ringOf_1 : List UInt8 := dkwX0_ringOf_1 ++ dktX0_ringOf_2
def dkwX0_ringOf_0 : List UInt8 := [3, 62, 27, 54, 4, 3, 54, 5, 21, 5, 8, 162, 0, 18, 42, 21, 4, 28, 182, 1, 70, 54, 4]
abbrev dktX0_ringOf_0 : List UInt8 := dkwX0_ringOf_0 ++ dktX0_ringOf_1
theorem dksX0_ringOf_0 : cX0_ringOf.data.toList.drop 0 = dktX0_ringOf_0 := by decide +kernel
theorem dksX0_ringOf_1 : cX0_ringOf.data.toList.drop 23 = dktX0_ringOf_1 := dk_seg dksX0_ringOf_0 23 rfl rfl
theorem dksX0_ringOf_2 : cX0_ringOf.data.toList.drop 46 = dktX0_ringOf_2 := dk_seg dksX0_ringOf_1 23 rfl rfl
theorem dX0_ringOf_0 : decode cX0_ringOf 0 = .ok (.iconst 0, 1) := dk_3 (dk_at dksX0_ringOf_0 0 rfl rfl)
theorem dX0_ringOf_1 : decode cX0_ringOf 1 = .ok (.istore_n 3, 1) := dk_62 (dk_at dksX0_ringOf_0 1 rfl rfl)
theorem dX0_ringOf_2 : decode cX0_ringOf 2 = .ok (.iload_n 1, 1) := dk_27 (dk_at dksX0_ringOf_0 2 rfl rfl)
theorem dX0_ringOf_3 : decode cX0_ringOf 3 = .ok (.istore 4, 2) := dk_54 4 (dk_at dksX0_ringOf_0 3 rfl rfl)
theorem dX0_ringOf_5 : decode cX0_ringOf 5 = .ok (.iconst 0, 1) := dk_3 (dk_at dksX0_ringOf_0 5 rfl rfl)
theorem dX0_ringOf_6 : decode cX0_ringOf 6 = .ok (.istore 5, 2) := dk_54 5 (dk_at dksX0_ringOf_0 6 rfl rfl)
theorem dX0_ringOf_8 : decode cX0_ringOf 8 = .ok (.iload 5, 2) := dk_21 5 (dk_at dksX0_ringOf_0 8 rfl rfl)
theorem dX0_ringOf_10 : decode cX0_ringOf 10 = .ok (.iconst 5, 1) := dk_8 (dk_at dksX0_ringOf_0 10 rfl rfl)
theorem dX0_ringOf_11 : decode cX0_ringOf 11 = .ok (.if_icmp .ge 18, 3) := dk_162 0 18 (dk_at dksX0_ringOf_0 11 rfl rfl)
theorem dX0_ringOf_14 : decode cX0_ringOf 14 = .ok (.aload_n 0, 1) := dk_42 (dk_at dksX0_ringOf_0 14 rfl rfl)
theorem dX0_ringOf_15 : decode cX0_ringOf 15 = .ok (.iload 4, 2) := dk_21 4 (dk_at dksX0_ringOf_0 15 rfl rfl)
theorem dX0_ringOf_17 : decode cX0_ringOf 17 = .ok (.iload_n 2, 1) := dk_28 (dk_at dksX0_ringOf_0 17 rfl rfl)
theorem dX0_ringOf_18 : decode cX0_ringOf 18 = .ok (.invokevirtual 326, 3) := dk_182 1 70 (dk_at dksX0_ringOf_0 18 rfl rfl)
theorem dX0_ringOf_21 : decode cX0_ringOf 21 = .ok (.istore 4, 2) := dk_54 4 (dk_at dksX0_ringOf_0 21 rfl rfl)
theorem dX0_ringOf_23 : decode cX0_ringOf 23 = .ok (.iinc 5 1, 3) := dk_132 5 1 (dk_at dksX0_ringOf_1 0 rfl rfl)
theorem dX0_ringOf_26 : decode cX0_ringOf 26 = .ok (.goto (-18), 3) := dk_167 255 238 (dk_at dksX0_ringOf_1 3 rfl rfl)
theorem dX0_ringOf_29 : decode cX0_ringOf 29 = .ok (.iload_n 3, 1) := dk_29 (dk_at dksX0_ringOf_1 6 rfl rfl)
theorem dX0_ringOf_30 : decode cX0_ringOf 30 = .ok (.iload 4, 2) := dk_21 4 (dk_at dksX0_ringOf_1 7 rfl rfl)
theorem dX0_ringOf_32 : decode cX0_ringOf 32 = .ok (.invokestatic 138, 3) := dk_184 0 138 (dk_at dksX0_ringOf_1 9 rfl rfl)
theorem dX0_ringOf_35 : decode cX0_ringOf 35 = .ok (.ifCond .ne 22, 3) := dk_154 0 22 (dk_at dksX0_ringOf_1 12 rfl rfl)
theorem dX0_ringOf_38 : decode cX0_ringOf 38 = .ok (.iload_n 3, 1) := dk_29 (dk_at dksX0_ringOf_1 15 rfl rfl)
theorem dX0_ringOf_39 : decode cX0_ringOf 39 = .ok (.iconst 1, 1) := dk_4 (dk_at dksX0_ringOf_1 16 rfl rfl)
theorem dX0_ringOf_40 : decode cX0_ringOf 40 = .ok (.iload 4, 2) := dk_21 4 (dk_at dksX0_ringOf_1 17 rfl rfl)
theorem dX0_ringOf_42 : decode cX0_ringOf 42 = .ok (.ishl, 1) := dk_120 (dk_at dksX0_ringOf_1 19 rfl rfl)
theorem dX0_ringOf_43 : decode cX0_ringOf 43 = .ok (.ior, 1) := dk_128 (dk_at dksX0_ringOf_1 20 rfl rfl)
theorem dX0_ringOf_44 : decode cX0_ringOf 44 = .ok (.istore_n 3, 1) := dk_62 (dk_at dksX0_ringOf_1 21 rfl rfl)
theorem dX0_ringOf_45 : decode cX0_ringOf 45 = .ok (.aload_n 0, 1) := dk_42 (dk_at dksX0_ringOf_1 22 rfl rfl)
theorem dX0_ringOf_46 : decode cX0_ringOf 46 = .ok (.iload 4, 2) := dk_21 4 (dk_at dksX0_ringOf_2 0 rfl rfl)
theorem dX0_ringOf_48 : decode cX0_ringOf 48 = .ok (.iload_n 2, 1) := dk_28 (dk_at dksX0_ringOf_2 2 rfl rfl)
theorem dX0_ringOf_49 : decode cX0_ringOf 49 = .ok (.invokevirtual 326, 3) := dk_182 1 70 (dk_at dksX0_ringOf_2 3 rfl rfl)
theorem dX0_ringOf_52 : decode cX0_ringOf 52 = .ok (.istore 4, 2) := dk_54 4 (dk_at dksX0_ringOf_2 6 rfl rfl)
theorem dX0_ringOf_54 : decode cX0_ringOf 54 = .ok (.goto (-25), 3) := dk_167 255 231 (dk_at dksX0_ringOf_2 8 rfl rfl)
theorem dX0_ringOf_57 : decode cX0_ringOf 57 = .ok (.iload_n 3, 1) := dk_29 (dk_at dksX0_ringOf_2 11 rfl rfl)
theorem dX0_ringOf_58 : decode cX0_ringOf 58 = .ok (.ireturn, 1) := dk_172 (dk_at dksX0_ringOf_2 12 rfl rfl)
abbrev cX0_rings : ByteArray := prog_1_method_80_code
def yX0_rings : MethodName := ⟨RX0, "rings", "()I"⟩
theorem dX0_rings_0 : decode cX0_rings 0 = .ok (.aload_n 0, 1) := by decide +kernel
theorem dX0_rings_1 : decode cX0_rings 1 = .ok (.invokevirtual 338, 3) := by decide +kernel
theorem dX0_rings_4 : decode cX0_rings 4 = .ok (.ireturn, 1) := by decide +kernel
abbrev cX0_price : ByteArray := prog_1_method_85_code
def yX0_price : MethodName := ⟨RX0, "price", "(I)I"⟩
def dkwX0_price_0 : List UInt8 := [27, 184, 0, 80, 154, 0, 5, 2, 172, 42, 182, 1, 100, 42, 180, 0, 59, 27, 46, 172]
abbrev dktX0_price_0 : List UInt8 := dkwX0_price_0 ++ []
theorem dksX0_price_0 : cX0_price.data.toList.drop 0 = dktX0_price_0 := by decide +kernel
theorem dX0_price_0 : decode cX0_price 0 = .ok (.iload_n 1, 1) := dk_27 (dk_at dksX0_price_0 0 rfl rfl)
theorem dX0_price_1 : decode cX0_price 1 = .ok (.invokestatic 80, 3) := dk_184 0 80 (dk_at dksX0_price_0 1 rfl rfl)
theorem dX0_price_4 : decode cX0_price 4 = .ok (.ifCond .ne 5, 3) := dk_154 0 5 (dk_at dksX0_price_0 4 rfl rfl)
theorem dX0_price_7 : decode cX0_price 7 = .ok (.iconst (-1), 1) := dk_2 (dk_at dksX0_price_0 7 rfl rfl)
theorem dX0_price_8 : decode cX0_price 8 = .ok (.ireturn, 1) := dk_172 (dk_at dksX0_price_0 8 rfl rfl)
theorem dX0_price_9 : decode cX0_price 9 = .ok (.aload_n 0, 1) := dk_42 (dk_at dksX0_price_0 9 rfl rfl)
theorem dX0_price_10 : decode cX0_price 10 = .ok (.invokevirtual 356, 3) := dk_182 1 100 (dk_at dksX0_price_0 10 rfl rfl)
theorem dX0_price_13 : decode cX0_price 13 = .ok (.aload_n 0, 1) := dk_42 (dk_at dksX0_price_0 13 rfl rfl)
theorem dX0_price_14 : decode cX0_price 14 = .ok (.getfield 59, 3) := dk_180 0 59 (dk_at dksX0_price_0 14 rfl rfl)
theorem dX0_price_17 : decode cX0_price 17 = .ok (.iload_n 1, 1) := dk_27 (dk_at dksX0_price_0 17 rfl rfl)
theorem dX0_price_18 : decode cX0_price 18 = .ok (.iaload, 1) := dk_46 (dk_at dksX0_price_0 18 rfl rfl)
theorem dX0_price_19 : decode cX0_price 19 = .ok (.ireturn, 1) := dk_172 (dk_at dksX0_price_0 19 rfl rfl)
abbrev cX0_laysPrices : ByteArray := prog_1_method_84_code
def yX0_laysPrices : MethodName := ⟨RX0, "laysPrices", "()V"⟩
def dkwX0_laysPrices_2 : List UInt8 := [182, 1, 97, 60, 167, 255, 219, 177]
abbrev dktX0_laysPrices_2 : List UInt8 := dkwX0_laysPrices_2 ++ []
def dkwX0_laysPrices_1 : List UInt8 := [162, 0, 23, 42, 180, 0, 59, 28, 92, 46, 27, 28, 122, 4, 126, 96, 79, 132, 2, 1, 167, 255, 234, 42]
abbrev dktX0_laysPrices_1 : List UInt8 := dkwX0_laysPrices_1 ++ dktX0_laysPrices_2
def dkwX0_laysPrices_0 : List UInt8 := [42, 180, 0, 59, 3, 184, 1, 91, 42, 182, 1, 97, 60, 27, 2, 159, 0, 38, 3, 61, 28, 8]
abbrev dktX0_laysPrices_0 : List UInt8 := dkwX0_laysPrices_0 ++ dktX0_laysPrices_1
theorem dksX0_laysPrices_0 : cX0_laysPrices.data.toList.drop 0 = dktX0_laysPrices_0 := by decide +kernel
theorem dksX0_laysPrices_1 : cX0_laysPrices.data.toList.drop 22 = dktX0_laysPrices_1 := dk_seg dksX0_laysPrices_0 22 rfl rfl
theorem dksX0_laysPrices_2 : cX0_laysPrices.data.toList.drop 46 = dktX0_laysPrices_2 := dk_seg dksX0_laysPrices_1 24 rfl rfl
theorem dX0_laysPrices_0 : decode cX0_laysPrices 0 = .ok (.aload_n 0, 1) := dk_42 (dk_at dksX0_laysPrices_0 0 rfl rfl)
theorem dX0_laysPrices_1 : decode cX0_laysPrices 1 = .ok (.getfield 59, 3) := dk_180 0 59 (dk_at dksX0_laysPrices_0 1 rfl rfl)
theorem dX0_laysPrices_4 : decode cX0_laysPrices 4 = .ok (.iconst 0, 1) := dk_3 (dk_at dksX0_laysPrices_0 4 rfl rfl)
theorem dX0_laysPrices_5 : decode cX0_laysPrices 5 = .ok (.invokestatic 347, 3) := dk_184 1 91 (dk_at dksX0_laysPrices_0 5 rfl rfl)
theorem dX0_laysPrices_8 : decode cX0_laysPrices 8 = .ok (.aload_n 0, 1) := dk_42 (dk_at dksX0_laysPrices_0 8 rfl rfl)
theorem dX0_laysPrices_9 : decode cX0_laysPrices 9 = .ok (.invokevirtual 353, 3) := dk_182 1 97 (dk_at dksX0_laysPrices_0 9 rfl rfl)
theorem dX0_laysPrices_12 : decode cX0_laysPrices 12 = .ok (.istore_n 1, 1) := dk_60 (dk_at dksX0_laysPrices_0 12 rfl rfl)
theorem dX0_laysPrices_13 : decode cX0_laysPrices 13 = .ok (.iload_n 1, 1) := dk_27 (dk_at dksX0_laysPrices_0 13 rfl rfl)
theorem dX0_laysPrices_14 : decode cX0_laysPrices 14 = .ok (.iconst (-1), 1) := dk_2 (dk_at dksX0_laysPrices_0 14 rfl rfl)
theorem dX0_laysPrices_15 : decode cX0_laysPrices 15 = .ok (.if_icmp .eq 38, 3) := dk_159 0 38 (dk_at dksX0_laysPrices_0 15 rfl rfl)
theorem dX0_laysPrices_18 : decode cX0_laysPrices 18 = .ok (.iconst 0, 1) := dk_3 (dk_at dksX0_laysPrices_0 18 rfl rfl)
theorem dX0_laysPrices_19 : decode cX0_laysPrices 19 = .ok (.istore_n 2, 1) := dk_61 (dk_at dksX0_laysPrices_0 19 rfl rfl)
theorem dX0_laysPrices_20 : decode cX0_laysPrices 20 = .ok (.iload_n 2, 1) := dk_28 (dk_at dksX0_laysPrices_0 20 rfl rfl)
theorem dX0_laysPrices_21 : decode cX0_laysPrices 21 = .ok (.iconst 5, 1) := dk_8 (dk_at dksX0_laysPrices_0 21 rfl rfl)
theorem dX0_laysPrices_22 : decode cX0_laysPrices 22 = .ok (.if_icmp .ge 23, 3) := dk_162 0 23 (dk_at dksX0_laysPrices_1 0 rfl rfl)
theorem dX0_laysPrices_25 : decode cX0_laysPrices 25 = .ok (.aload_n 0, 1) := dk_42 (dk_at dksX0_laysPrices_1 3 rfl rfl)
theorem dX0_laysPrices_26 : decode cX0_laysPrices 26 = .ok (.getfield 59, 3) := dk_180 0 59 (dk_at dksX0_laysPrices_1 4 rfl rfl)
theorem dX0_laysPrices_29 : decode cX0_laysPrices 29 = .ok (.iload_n 2, 1) := dk_28 (dk_at dksX0_laysPrices_1 7 rfl rfl)
theorem dX0_laysPrices_30 : decode cX0_laysPrices 30 = .ok (.dup2, 1) := dk_92 (dk_at dksX0_laysPrices_1 8 rfl rfl)
theorem dX0_laysPrices_31 : decode cX0_laysPrices 31 = .ok (.iaload, 1) := dk_46 (dk_at dksX0_laysPrices_1 9 rfl rfl)
theorem dX0_laysPrices_32 : decode cX0_laysPrices 32 = .ok (.iload_n 1, 1) := dk_27 (dk_at dksX0_laysPrices_1 10 rfl rfl)
theorem dX0_laysPrices_33 : decode cX0_laysPrices 33 = .ok (.iload_n 2, 1) := dk_28 (dk_at dksX0_laysPrices_1 11 rfl rfl)
theorem dX0_laysPrices_34 : decode cX0_laysPrices 34 = .ok (.ishr, 1) := dk_122 (dk_at dksX0_laysPrices_1 12 rfl rfl)
theorem dX0_laysPrices_35 : decode cX0_laysPrices 35 = .ok (.iconst 1, 1) := dk_4 (dk_at dksX0_laysPrices_1 13 rfl rfl)
theorem dX0_laysPrices_36 : decode cX0_laysPrices 36 = .ok (.iand, 1) := dk_126 (dk_at dksX0_laysPrices_1 14 rfl rfl)
theorem dX0_laysPrices_37 : decode cX0_laysPrices 37 = .ok (.iadd, 1) := dk_96 (dk_at dksX0_laysPrices_1 15 rfl rfl)
theorem dX0_laysPrices_38 : decode cX0_laysPrices 38 = .ok (.iastore, 1) := dk_79 (dk_at dksX0_laysPrices_1 16 rfl rfl)
theorem dX0_laysPrices_39 : decode cX0_laysPrices 39 = .ok (.iinc 2 1, 3) := dk_132 2 1 (dk_at dksX0_laysPrices_1 17 rfl rfl)
theorem dX0_laysPrices_42 : decode cX0_laysPrices 42 = .ok (.goto (-22), 3) := dk_167 255 234 (dk_at dksX0_laysPrices_1 20 rfl rfl)
theorem dX0_laysPrices_45 : decode cX0_laysPrices 45 = .ok (.aload_n 0, 1) := dk_42 (dk_at dksX0_laysPrices_1 23 rfl rfl)
theorem dX0_laysPrices_46 : decode cX0_laysPrices 46 = .ok (.invokevirtual 353, 3) := dk_182 1 97 (dk_at dksX0_laysPrices_2 0 rfl rfl)
theorem dX0_laysPrices_49 : decode cX0_laysPrices 49 = .ok (.istore_n 1, 1) := dk_60 (dk_at dksX0_laysPrices_2 3 rfl rfl)
theorem dX0_laysPrices_50 : decode cX0_laysPrices 50 = .ok (.goto (-37), 3) := dk_167 255 219 (dk_at dksX0_laysPrices_2 4 rfl rfl)
theorem dX0_laysPrices_53 : decode cX0_laysPrices 53 = .ok (.return_, 1) := dk_177 (dk_at dksX0_laysPrices_2 7 rfl rfl)
abbrev cX0_wantedSet : ByteArray := prog_1_method_83_code
def yX0_wantedSet : MethodName := ⟨RX0, "wantedSet", "()I"⟩
def dkwX0_wantedSet_1 : List UInt8 := [184, 0, 208, 27, 184, 0, 208, 162, 0, 5, 28, 60, 132, 2, 1, 167, 255, 221, 27, 172]
abbrev dktX0_wantedSet_1 : List UInt8 := dkwX0_wantedSet_1 ++ []
def dkwX0_wantedSet_0 : List UInt8 := [2, 60, 4, 61, 28, 16, 32, 162, 0, 35, 42, 28, 182, 1, 88, 153, 0, 21, 27, 2, 159, 0, 14, 28]
abbrev dktX0_wantedSet_0 : List UInt8 := dkwX0_wantedSet_0 ++ dktX0_wantedSet_1
theorem dksX0_wantedSet_0 : cX0_wantedSet.data.toList.drop 0 = dktX0_wantedSet_0 := by decide +kernel
theorem dksX0_wantedSet_1 : cX0_wantedSet.data.toList.drop 24 = dktX0_wantedSet_1 := dk_seg dksX0_wantedSet_0 24 rfl rfl
theorem dX0_wantedSet_0 : decode cX0_wantedSet 0 = .ok (.iconst (-1), 1) := dk_2 (dk_at dksX0_wantedSet_0 0 rfl rfl)
theorem dX0_wantedSet_1 : decode cX0_wantedSet 1 = .ok (.istore_n 1, 1) := dk_60 (dk_at dksX0_wantedSet_0 1 rfl rfl)
theorem dX0_wantedSet_2 : decode cX0_wantedSet 2 = .ok (.iconst 1, 1) := dk_4 (dk_at dksX0_wantedSet_0 2 rfl rfl)
theorem dX0_wantedSet_3 : decode cX0_wantedSet 3 = .ok (.istore_n 2, 1) := dk_61 (dk_at dksX0_wantedSet_0 3 rfl rfl)
theorem dX0_wantedSet_4 : decode cX0_wantedSet 4 = .ok (.iload_n 2, 1) := dk_28 (dk_at dksX0_wantedSet_0 4 rfl rfl)
theorem dX0_wantedSet_5 : decode cX0_wantedSet 5 = .ok (.bipush 32, 2) := dk_16 32 (dk_at dksX0_wantedSet_0 5 rfl rfl)
theorem dX0_wantedSet_7 : decode cX0_wantedSet 7 = .ok (.if_icmp .ge 35, 3) := dk_162 0 35 (dk_at dksX0_wantedSet_0 7 rfl rfl)
theorem dX0_wantedSet_10 : decode cX0_wantedSet 10 = .ok (.aload_n 0, 1) := dk_42 (dk_at dksX0_wantedSet_0 10 rfl rfl)
theorem dX0_wantedSet_11 : decode cX0_wantedSet 11 = .ok (.iload_n 2, 1) := dk_28 (dk_at dksX0_wantedSet_0 11 rfl rfl)
theorem dX0_wantedSet_12 : decode cX0_wantedSet 12 = .ok (.invokevirtual 344, 3) := dk_182 1 88 (dk_at dksX0_wantedSet_0 12 rfl rfl)
theorem dX0_wantedSet_15 : decode cX0_wantedSet 15 = .ok (.ifCond .eq 21, 3) := dk_153 0 21 (dk_at dksX0_wantedSet_0 15 rfl rfl)
theorem dX0_wantedSet_18 : decode cX0_wantedSet 18 = .ok (.iload_n 1, 1) := dk_27 (dk_at dksX0_wantedSet_0 18 rfl rfl)
theorem dX0_wantedSet_19 : decode cX0_wantedSet 19 = .ok (.iconst (-1), 1) := dk_2 (dk_at dksX0_wantedSet_0 19 rfl rfl)
theorem dX0_wantedSet_20 : decode cX0_wantedSet 20 = .ok (.if_icmp .eq 14, 3) := dk_159 0 14 (dk_at dksX0_wantedSet_0 20 rfl rfl)
theorem dX0_wantedSet_23 : decode cX0_wantedSet 23 = .ok (.iload_n 2, 1) := dk_28 (dk_at dksX0_wantedSet_0 23 rfl rfl)
theorem dX0_wantedSet_24 : decode cX0_wantedSet 24 = .ok (.invokestatic 208, 3) := dk_184 0 208 (dk_at dksX0_wantedSet_1 0 rfl rfl)
theorem dX0_wantedSet_27 : decode cX0_wantedSet 27 = .ok (.iload_n 1, 1) := dk_27 (dk_at dksX0_wantedSet_1 3 rfl rfl)
theorem dX0_wantedSet_28 : decode cX0_wantedSet 28 = .ok (.invokestatic 208, 3) := dk_184 0 208 (dk_at dksX0_wantedSet_1 4 rfl rfl)
theorem dX0_wantedSet_31 : decode cX0_wantedSet 31 = .ok (.if_icmp .ge 5, 3) := dk_162 0 5 (dk_at dksX0_wantedSet_1 7 rfl rfl)
theorem dX0_wantedSet_34 : decode cX0_wantedSet 34 = .ok (.iload_n 2, 1) := dk_28 (dk_at dksX0_wantedSet_1 10 rfl rfl)
theorem dX0_wantedSet_35 : decode cX0_wantedSet 35 = .ok (.istore_n 1, 1) := dk_60 (dk_at dksX0_wantedSet_1 11 rfl rfl)
theorem dX0_wantedSet_36 : decode cX0_wantedSet 36 = .ok (.iinc 2 1, 3) := dk_132 2 1 (dk_at dksX0_wantedSet_1 12 rfl rfl)
theorem dX0_wantedSet_39 : decode cX0_wantedSet 39 = .ok (.goto (-35), 3) := dk_167 255 221 (dk_at dksX0_wantedSet_1 15 rfl rfl)
theorem dX0_wantedSet_42 : decode cX0_wantedSet 42 = .ok (.iload_n 1, 1) := dk_27 (dk_at dksX0_wantedSet_1 18 rfl rfl)
theorem dX0_wantedSet_43 : decode cX0_wantedSet 43 = .ok (.ireturn, 1) := dk_172 (dk_at dksX0_wantedSet_1 19 rfl rfl)
abbrev cX0_areTooMany : ByteArray := prog_1_method_82_code
def yX0_areTooMany : MethodName := ⟨RX0, "areTooMany", "(I)Z"⟩
def dkwX0_areTooMany_2 : List UInt8 := [27, 184, 0, 208, 164, 0, 7, 4, 167, 0, 4, 3, 172]
abbrev dktX0_areTooMany_2 : List UInt8 := dkwX0_areTooMany_2 ++ []
def dkwX0_areTooMany_1 : List UInt8 := [182, 1, 85, 27, 2, 130, 126, 154, 0, 7, 4, 167, 0, 4, 3, 96, 61, 132, 3, 1, 167, 255, 217, 28]
abbrev dktX0_areTooMany_1 : List UInt8 := dkwX0_areTooMany_1 ++ dktX0_areTooMany_2
def dkwX0_areTooMany_0 : List UInt8 := [3, 61, 3, 62, 29, 42, 182, 0, 69, 162, 0, 37, 28, 42, 29, 182, 1, 85, 153, 0, 19, 42, 29]
abbrev dktX0_areTooMany_0 : List UInt8 := dkwX0_areTooMany_0 ++ dktX0_areTooMany_1
theorem dksX0_areTooMany_0 : cX0_areTooMany.data.toList.drop 0 = dktX0_areTooMany_0 := by decide +kernel
theorem dksX0_areTooMany_1 : cX0_areTooMany.data.toList.drop 23 = dktX0_areTooMany_1 := dk_seg dksX0_areTooMany_0 23 rfl rfl
theorem dksX0_areTooMany_2 : cX0_areTooMany.data.toList.drop 47 = dktX0_areTooMany_2 := dk_seg dksX0_areTooMany_1 24 rfl rfl
theorem dX0_areTooMany_0 : decode cX0_areTooMany 0 = .ok (.iconst 0, 1) := dk_3 (dk_at dksX0_areTooMany_0 0 rfl rfl)
theorem dX0_areTooMany_1 : decode cX0_areTooMany 1 = .ok (.istore_n 2, 1) := dk_61 (dk_at dksX0_areTooMany_0 1 rfl rfl)
theorem dX0_areTooMany_2 : decode cX0_areTooMany 2 = .ok (.iconst 0, 1) := dk_3 (dk_at dksX0_areTooMany_0 2 rfl rfl)
theorem dX0_areTooMany_3 : decode cX0_areTooMany 3 = .ok (.istore_n 3, 1) := dk_62 (dk_at dksX0_areTooMany_0 3 rfl rfl)
theorem dX0_areTooMany_4 : decode cX0_areTooMany 4 = .ok (.iload_n 3, 1) := dk_29 (dk_at dksX0_areTooMany_0 4 rfl rfl)
theorem dX0_areTooMany_5 : decode cX0_areTooMany 5 = .ok (.aload_n 0, 1) := dk_42 (dk_at dksX0_areTooMany_0 5 rfl rfl)
theorem dX0_areTooMany_6 : decode cX0_areTooMany 6 = .ok (.invokevirtual 69, 3) := dk_182 0 69 (dk_at dksX0_areTooMany_0 6 rfl rfl)
theorem dX0_areTooMany_9 : decode cX0_areTooMany 9 = .ok (.if_icmp .ge 37, 3) := dk_162 0 37 (dk_at dksX0_areTooMany_0 9 rfl rfl)
theorem dX0_areTooMany_12 : decode cX0_areTooMany 12 = .ok (.iload_n 2, 1) := dk_28 (dk_at dksX0_areTooMany_0 12 rfl rfl)
theorem dX0_areTooMany_13 : decode cX0_areTooMany 13 = .ok (.aload_n 0, 1) := dk_42 (dk_at dksX0_areTooMany_0 13 rfl rfl)
theorem dX0_areTooMany_14 : decode cX0_areTooMany 14 = .ok (.iload_n 3, 1) := dk_29 (dk_at dksX0_areTooMany_0 14 rfl rfl)
theorem dX0_areTooMany_15 : decode cX0_areTooMany 15 = .ok (.invokevirtual 341, 3) := dk_182 1 85 (dk_at dksX0_areTooMany_0 15 rfl rfl)
theorem dX0_areTooMany_18 : decode cX0_areTooMany 18 = .ok (.ifCond .eq 19, 3) := dk_153 0 19 (dk_at dksX0_areTooMany_0 18 rfl rfl)
theorem dX0_areTooMany_21 : decode cX0_areTooMany 21 = .ok (.aload_n 0, 1) := dk_42 (dk_at dksX0_areTooMany_0 21 rfl rfl)
theorem dX0_areTooMany_22 : decode cX0_areTooMany 22 = .ok (.iload_n 3, 1) := dk_29 (dk_at dksX0_areTooMany_0 22 rfl rfl)
theorem dX0_areTooMany_23 : decode cX0_areTooMany 23 = .ok (.invokevirtual 341, 3) := dk_182 1 85 (dk_at dksX0_areTooMany_1 0 rfl rfl)
theorem dX0_areTooMany_26 : decode cX0_areTooMany 26 = .ok (.iload_n 1, 1) := dk_27 (dk_at dksX0_areTooMany_1 3 rfl rfl)
theorem dX0_areTooMany_27 : decode cX0_areTooMany 27 = .ok (.iconst (-1), 1) := dk_2 (dk_at dksX0_areTooMany_1 4 rfl rfl)
theorem dX0_areTooMany_28 : decode cX0_areTooMany 28 = .ok (.ixor, 1) := dk_130 (dk_at dksX0_areTooMany_1 5 rfl rfl)
theorem dX0_areTooMany_29 : decode cX0_areTooMany 29 = .ok (.iand, 1) := dk_126 (dk_at dksX0_areTooMany_1 6 rfl rfl)
theorem dX0_areTooMany_30 : decode cX0_areTooMany 30 = .ok (.ifCond .ne 7, 3) := dk_154 0 7 (dk_at dksX0_areTooMany_1 7 rfl rfl)
theorem dX0_areTooMany_33 : decode cX0_areTooMany 33 = .ok (.iconst 1, 1) := dk_4 (dk_at dksX0_areTooMany_1 10 rfl rfl)
theorem dX0_areTooMany_34 : decode cX0_areTooMany 34 = .ok (.goto 4, 3) := dk_167 0 4 (dk_at dksX0_areTooMany_1 11 rfl rfl)
theorem dX0_areTooMany_37 : decode cX0_areTooMany 37 = .ok (.iconst 0, 1) := dk_3 (dk_at dksX0_areTooMany_1 14 rfl rfl)
theorem dX0_areTooMany_38 : decode cX0_areTooMany 38 = .ok (.iadd, 1) := dk_96 (dk_at dksX0_areTooMany_1 15 rfl rfl)
theorem dX0_areTooMany_39 : decode cX0_areTooMany 39 = .ok (.istore_n 2, 1) := dk_61 (dk_at dksX0_areTooMany_1 16 rfl rfl)
theorem dX0_areTooMany_40 : decode cX0_areTooMany 40 = .ok (.iinc 3 1, 3) := dk_132 3 1 (dk_at dksX0_areTooMany_1 17 rfl rfl)
theorem dX0_areTooMany_43 : decode cX0_areTooMany 43 = .ok (.goto (-39), 3) := dk_167 255 217 (dk_at dksX0_areTooMany_1 20 rfl rfl)
theorem dX0_areTooMany_46 : decode cX0_areTooMany 46 = .ok (.iload_n 2, 1) := dk_28 (dk_at dksX0_areTooMany_1 23 rfl rfl)
theorem dX0_areTooMany_47 : decode cX0_areTooMany 47 = .ok (.iload_n 1, 1) := dk_27 (dk_at dksX0_areTooMany_2 0 rfl rfl)
theorem dX0_areTooMany_48 : decode cX0_areTooMany 48 = .ok (.invokestatic 208, 3) := dk_184 0 208 (dk_at dksX0_areTooMany_2 1 rfl rfl)
theorem dX0_areTooMany_51 : decode cX0_areTooMany 51 = .ok (.if_icmp .le 7, 3) := dk_164 0 7 (dk_at dksX0_areTooMany_2 4 rfl rfl)
theorem dX0_areTooMany_54 : decode cX0_areTooMany 54 = .ok (.iconst 1, 1) := dk_4 (dk_at dksX0_areTooMany_2 7 rfl rfl)
theorem dX0_areTooMany_55 : decode cX0_areTooMany 55 = .ok (.goto 4, 3) := dk_167 0 4 (dk_at dksX0_areTooMany_2 8 rfl rfl)
theorem dX0_areTooMany_58 : decode cX0_areTooMany 58 = .ok (.iconst 0, 1) := dk_3 (dk_at dksX0_areTooMany_2 11 rfl rfl)
theorem dX0_areTooMany_59 : decode cX0_areTooMany 59 = .ok (.ireturn, 1) := dk_172 (dk_at dksX0_areTooMany_2 12 rfl rfl)
abbrev cX0_wouldHave : ByteArray := prog_1_method_81_code
def yX0_wouldHave : MethodName := ⟨RX0, "wouldHave", "(I)I"⟩
def dkwX0_wouldHave_3 : List UInt8 := [167, 255, 193, 29, 172]
abbrev dktX0_wouldHave_3 : List UInt8 := dkwX0_wouldHave_3 ++ []
def dkwX0_wouldHave_2 : List UInt8 := [164, 0, 10, 4, 21, 4, 120, 167, 0, 9, 29, 4, 21, 4, 120, 128, 62, 21, 5, 61, 132, 4, 1]
abbrev dktX0_wouldHave_2 : List UInt8 := dkwX0_wouldHave_2 ++ dktX0_wouldHave_3
def dkwX0_wouldHave_1 : List UInt8 := [46, 42, 180, 0, 59, 21, 4, 46, 100, 54, 5, 21, 5, 28, 162, 0, 6, 167, 0, 26, 21, 5, 28]
abbrev dktX0_wouldHave_1 : List UInt8 := dkwX0_wouldHave_1 ++ dktX0_wouldHave_2
def dkwX0_wouldHave_0 : List UInt8 := [4, 61, 3, 62, 3, 54, 4, 21, 4, 8, 162, 0, 63, 42, 180, 0, 21, 180, 0, 87, 27, 50, 21, 4]
abbrev dktX0_wouldHave_0 : List UInt8 := dkwX0_wouldHave_0 ++ dktX0_wouldHave_1
theorem dksX0_wouldHave_0 : cX0_wouldHave.data.toList.drop 0 = dktX0_wouldHave_0 := by decide +kernel
theorem dksX0_wouldHave_1 : cX0_wouldHave.data.toList.drop 24 = dktX0_wouldHave_1 := dk_seg dksX0_wouldHave_0 24 rfl rfl
theorem dksX0_wouldHave_2 : cX0_wouldHave.data.toList.drop 47 = dktX0_wouldHave_2 := dk_seg dksX0_wouldHave_1 23 rfl rfl
theorem dksX0_wouldHave_3 : cX0_wouldHave.data.toList.drop 70 = dktX0_wouldHave_3 := dk_seg dksX0_wouldHave_2 23 rfl rfl
theorem dX0_wouldHave_0 : decode cX0_wouldHave 0 = .ok (.iconst 1, 1) := dk_4 (dk_at dksX0_wouldHave_0 0 rfl rfl)
theorem dX0_wouldHave_1 : decode cX0_wouldHave 1 = .ok (.istore_n 2, 1) := dk_61 (dk_at dksX0_wouldHave_0 1 rfl rfl)
theorem dX0_wouldHave_2 : decode cX0_wouldHave 2 = .ok (.iconst 0, 1) := dk_3 (dk_at dksX0_wouldHave_0 2 rfl rfl)
theorem dX0_wouldHave_3 : decode cX0_wouldHave 3 = .ok (.istore_n 3, 1) := dk_62 (dk_at dksX0_wouldHave_0 3 rfl rfl)
theorem dX0_wouldHave_4 : decode cX0_wouldHave 4 = .ok (.iconst 0, 1) := dk_3 (dk_at dksX0_wouldHave_0 4 rfl rfl)
theorem dX0_wouldHave_5 : decode cX0_wouldHave 5 = .ok (.istore 4, 2) := dk_54 4 (dk_at dksX0_wouldHave_0 5 rfl rfl)
theorem dX0_wouldHave_7 : decode cX0_wouldHave 7 = .ok (.iload 4, 2) := dk_21 4 (dk_at dksX0_wouldHave_0 7 rfl rfl)
theorem dX0_wouldHave_9 : decode cX0_wouldHave 9 = .ok (.iconst 5, 1) := dk_8 (dk_at dksX0_wouldHave_0 9 rfl rfl)
theorem dX0_wouldHave_10 : decode cX0_wouldHave 10 = .ok (.if_icmp .ge 63, 3) := dk_162 0 63 (dk_at dksX0_wouldHave_0 10 rfl rfl)
theorem dX0_wouldHave_13 : decode cX0_wouldHave 13 = .ok (.aload_n 0, 1) := dk_42 (dk_at dksX0_wouldHave_0 13 rfl rfl)
theorem dX0_wouldHave_14 : decode cX0_wouldHave 14 = .ok (.getfield 21, 3) := dk_180 0 21 (dk_at dksX0_wouldHave_0 14 rfl rfl)
theorem dX0_wouldHave_17 : decode cX0_wouldHave 17 = .ok (.getfield 87, 3) := dk_180 0 87 (dk_at dksX0_wouldHave_0 17 rfl rfl)
theorem dX0_wouldHave_20 : decode cX0_wouldHave 20 = .ok (.iload_n 1, 1) := dk_27 (dk_at dksX0_wouldHave_0 20 rfl rfl)
theorem dX0_wouldHave_21 : decode cX0_wouldHave 21 = .ok (.aaload, 1) := dk_50 (dk_at dksX0_wouldHave_0 21 rfl rfl)
theorem dX0_wouldHave_22 : decode cX0_wouldHave 22 = .ok (.iload 4, 2) := dk_21 4 (dk_at dksX0_wouldHave_0 22 rfl rfl)
theorem dX0_wouldHave_24 : decode cX0_wouldHave 24 = .ok (.iaload, 1) := dk_46 (dk_at dksX0_wouldHave_1 0 rfl rfl)
theorem dX0_wouldHave_25 : decode cX0_wouldHave 25 = .ok (.aload_n 0, 1) := dk_42 (dk_at dksX0_wouldHave_1 1 rfl rfl)
theorem dX0_wouldHave_26 : decode cX0_wouldHave 26 = .ok (.getfield 59, 3) := dk_180 0 59 (dk_at dksX0_wouldHave_1 2 rfl rfl)
theorem dX0_wouldHave_29 : decode cX0_wouldHave 29 = .ok (.iload 4, 2) := dk_21 4 (dk_at dksX0_wouldHave_1 5 rfl rfl)
theorem dX0_wouldHave_31 : decode cX0_wouldHave 31 = .ok (.iaload, 1) := dk_46 (dk_at dksX0_wouldHave_1 7 rfl rfl)
theorem dX0_wouldHave_32 : decode cX0_wouldHave 32 = .ok (.isub, 1) := dk_100 (dk_at dksX0_wouldHave_1 8 rfl rfl)
theorem dX0_wouldHave_33 : decode cX0_wouldHave 33 = .ok (.istore 5, 2) := dk_54 5 (dk_at dksX0_wouldHave_1 9 rfl rfl)
theorem dX0_wouldHave_35 : decode cX0_wouldHave 35 = .ok (.iload 5, 2) := dk_21 5 (dk_at dksX0_wouldHave_1 11 rfl rfl)
theorem dX0_wouldHave_37 : decode cX0_wouldHave 37 = .ok (.iload_n 2, 1) := dk_28 (dk_at dksX0_wouldHave_1 13 rfl rfl)
theorem dX0_wouldHave_38 : decode cX0_wouldHave 38 = .ok (.if_icmp .ge 6, 3) := dk_162 0 6 (dk_at dksX0_wouldHave_1 14 rfl rfl)
theorem dX0_wouldHave_41 : decode cX0_wouldHave 41 = .ok (.goto 26, 3) := dk_167 0 26 (dk_at dksX0_wouldHave_1 17 rfl rfl)
theorem dX0_wouldHave_44 : decode cX0_wouldHave 44 = .ok (.iload 5, 2) := dk_21 5 (dk_at dksX0_wouldHave_1 20 rfl rfl)
theorem dX0_wouldHave_46 : decode cX0_wouldHave 46 = .ok (.iload_n 2, 1) := dk_28 (dk_at dksX0_wouldHave_1 22 rfl rfl)
theorem dX0_wouldHave_47 : decode cX0_wouldHave 47 = .ok (.if_icmp .le 10, 3) := dk_164 0 10 (dk_at dksX0_wouldHave_2 0 rfl rfl)
theorem dX0_wouldHave_50 : decode cX0_wouldHave 50 = .ok (.iconst 1, 1) := dk_4 (dk_at dksX0_wouldHave_2 3 rfl rfl)
theorem dX0_wouldHave_51 : decode cX0_wouldHave 51 = .ok (.iload 4, 2) := dk_21 4 (dk_at dksX0_wouldHave_2 4 rfl rfl)
theorem dX0_wouldHave_53 : decode cX0_wouldHave 53 = .ok (.ishl, 1) := dk_120 (dk_at dksX0_wouldHave_2 6 rfl rfl)
theorem dX0_wouldHave_54 : decode cX0_wouldHave 54 = .ok (.goto 9, 3) := dk_167 0 9 (dk_at dksX0_wouldHave_2 7 rfl rfl)
theorem dX0_wouldHave_57 : decode cX0_wouldHave 57 = .ok (.iload_n 3, 1) := dk_29 (dk_at dksX0_wouldHave_2 10 rfl rfl)
theorem dX0_wouldHave_58 : decode cX0_wouldHave 58 = .ok (.iconst 1, 1) := dk_4 (dk_at dksX0_wouldHave_2 11 rfl rfl)
theorem dX0_wouldHave_59 : decode cX0_wouldHave 59 = .ok (.iload 4, 2) := dk_21 4 (dk_at dksX0_wouldHave_2 12 rfl rfl)
theorem dX0_wouldHave_61 : decode cX0_wouldHave 61 = .ok (.ishl, 1) := dk_120 (dk_at dksX0_wouldHave_2 14 rfl rfl)
theorem dX0_wouldHave_62 : decode cX0_wouldHave 62 = .ok (.ior, 1) := dk_128 (dk_at dksX0_wouldHave_2 15 rfl rfl)
theorem dX0_wouldHave_63 : decode cX0_wouldHave 63 = .ok (.istore_n 3, 1) := dk_62 (dk_at dksX0_wouldHave_2 16 rfl rfl)
theorem dX0_wouldHave_64 : decode cX0_wouldHave 64 = .ok (.iload 5, 2) := dk_21 5 (dk_at dksX0_wouldHave_2 17 rfl rfl)
theorem dX0_wouldHave_66 : decode cX0_wouldHave 66 = .ok (.istore_n 2, 1) := dk_61 (dk_at dksX0_wouldHave_2 19 rfl rfl)
theorem dX0_wouldHave_67 : decode cX0_wouldHave 67 = .ok (.iinc 4 1, 3) := dk_132 4 1 (dk_at dksX0_wouldHave_2 20 rfl rfl)
theorem dX0_wouldHave_70 : decode cX0_wouldHave 70 = .ok (.goto (-63), 3) := dk_167 255 193 (dk_at dksX0_wouldHave_3 0 rfl rfl)
theorem dX0_wouldHave_73 : decode cX0_wouldHave 73 = .ok (.iload_n 3, 1) := dk_29 (dk_at dksX0_wouldHave_3 3 rfl rfl)
theorem dX0_wouldHave_74 : decode cX0_wouldHave 74 = .ok (.ireturn, 1) := dk_172 (dk_at dksX0_wouldHave_3 4 rfl rfl)
abbrev cX0_sold : ByteArray := prog_1_method_87_code
def yX0_sold : MethodName := ⟨RX0, "sold", "(I)I"⟩
def dkwX0_sold_1 : List UInt8 := [42, 180, 0, 56, 27, 46, 167, 0, 4, 2, 172]
abbrev dktX0_sold_1 : List UInt8 := dkwX0_sold_1 ++ []
def dkwX0_sold_0 : List UInt8 := [42, 27, 182, 1, 36, 154, 0, 5, 2, 172, 42, 182, 1, 100, 42, 3, 16, 31, 182, 1, 103, 153, 0, 12]
abbrev dktX0_sold_0 : List UInt8 := dkwX0_sold_0 ++ dktX0_sold_1
theorem dksX0_sold_0 : cX0_sold.data.toList.drop 0 = dktX0_sold_0 := by decide +kernel
theorem dksX0_sold_1 : cX0_sold.data.toList.drop 24 = dktX0_sold_1 := dk_seg dksX0_sold_0 24 rfl rfl
theorem dX0_sold_0 : decode cX0_sold 0 = .ok (.aload_n 0, 1) := dk_42 (dk_at dksX0_sold_0 0 rfl rfl)
theorem dX0_sold_1 : decode cX0_sold 1 = .ok (.iload_n 1, 1) := dk_27 (dk_at dksX0_sold_0 1 rfl rfl)
theorem dX0_sold_2 : decode cX0_sold 2 = .ok (.invokevirtual 292, 3) := dk_182 1 36 (dk_at dksX0_sold_0 2 rfl rfl)
theorem dX0_sold_5 : decode cX0_sold 5 = .ok (.ifCond .ne 5, 3) := dk_154 0 5 (dk_at dksX0_sold_0 5 rfl rfl)
theorem dX0_sold_8 : decode cX0_sold 8 = .ok (.iconst (-1), 1) := dk_2 (dk_at dksX0_sold_0 8 rfl rfl)
theorem dX0_sold_9 : decode cX0_sold 9 = .ok (.ireturn, 1) := dk_172 (dk_at dksX0_sold_0 9 rfl rfl)
theorem dX0_sold_10 : decode cX0_sold 10 = .ok (.aload_n 0, 1) := dk_42 (dk_at dksX0_sold_0 10 rfl rfl)
theorem dX0_sold_11 : decode cX0_sold 11 = .ok (.invokevirtual 356, 3) := dk_182 1 100 (dk_at dksX0_sold_0 11 rfl rfl)
theorem dX0_sold_14 : decode cX0_sold 14 = .ok (.aload_n 0, 1) := dk_42 (dk_at dksX0_sold_0 14 rfl rfl)
theorem dX0_sold_15 : decode cX0_sold 15 = .ok (.iconst 0, 1) := dk_3 (dk_at dksX0_sold_0 15 rfl rfl)
theorem dX0_sold_16 : decode cX0_sold 16 = .ok (.bipush 31, 2) := dk_16 31 (dk_at dksX0_sold_0 16 rfl rfl)
theorem dX0_sold_18 : decode cX0_sold 18 = .ok (.invokevirtual 359, 3) := dk_182 1 103 (dk_at dksX0_sold_0 18 rfl rfl)
theorem dX0_sold_21 : decode cX0_sold 21 = .ok (.ifCond .eq 12, 3) := dk_153 0 12 (dk_at dksX0_sold_0 21 rfl rfl)
theorem dX0_sold_24 : decode cX0_sold 24 = .ok (.aload_n 0, 1) := dk_42 (dk_at dksX0_sold_1 0 rfl rfl)
theorem dX0_sold_25 : decode cX0_sold 25 = .ok (.getfield 56, 3) := dk_180 0 56 (dk_at dksX0_sold_1 1 rfl rfl)
theorem dX0_sold_28 : decode cX0_sold 28 = .ok (.iload_n 1, 1) := dk_27 (dk_at dksX0_sold_1 4 rfl rfl)
theorem dX0_sold_29 : decode cX0_sold 29 = .ok (.iaload, 1) := dk_46 (dk_at dksX0_sold_1 5 rfl rfl)
theorem dX0_sold_30 : decode cX0_sold 30 = .ok (.goto 4, 3) := dk_167 0 4 (dk_at dksX0_sold_1 6 rfl rfl)
theorem dX0_sold_33 : decode cX0_sold 33 = .ok (.iconst (-1), 1) := dk_2 (dk_at dksX0_sold_1 9 rfl rfl)
theorem dX0_sold_34 : decode cX0_sold 34 = .ok (.ireturn, 1) := dk_172 (dk_at dksX0_sold_1 10 rfl rfl)
abbrev cX0_sells : ByteArray := prog_1_method_86_code
def yX0_sells : MethodName := ⟨RX0, "sells", "(II)Z"⟩
def dkwX0_sells_3 : List UInt8 := [154, 0, 6, 167, 0, 13, 42, 180, 0, 56, 27, 21, 4, 79, 4, 172, 132, 4, 1, 167, 255, 205, 3, 172]
abbrev dktX0_sells_3 : List UInt8 := dkwX0_sells_3 ++ []
def dkwX0_sells_2 : List UInt8 := [21, 4, 184, 0, 138, 153, 0, 34, 42, 27, 4, 96, 28, 4, 21, 4, 120, 2, 130, 126, 182, 1, 103]
abbrev dktX0_sells_2 : List UInt8 := dkwX0_sells_2 ++ dktX0_sells_3
def dkwX0_sells_1 : List UInt8 := [154, 0, 12, 42, 27, 4, 96, 28, 182, 1, 103, 172, 3, 54, 4, 21, 4, 8, 162, 0, 51, 29, 28, 126]
abbrev dktX0_sells_1 : List UInt8 := dkwX0_sells_1 ++ dktX0_sells_2
def dkwX0_sells_0 : List UInt8 := [27, 42, 182, 0, 69, 160, 0, 5, 4, 172, 42, 180, 0, 56, 27, 2, 79, 42, 27, 182, 1, 85, 62, 29]
abbrev dktX0_sells_0 : List UInt8 := dkwX0_sells_0 ++ dktX0_sells_1
theorem dksX0_sells_0 : cX0_sells.data.toList.drop 0 = dktX0_sells_0 := by decide +kernel
theorem dksX0_sells_1 : cX0_sells.data.toList.drop 24 = dktX0_sells_1 := dk_seg dksX0_sells_0 24 rfl rfl
theorem dksX0_sells_2 : cX0_sells.data.toList.drop 48 = dktX0_sells_2 := dk_seg dksX0_sells_1 24 rfl rfl
theorem dksX0_sells_3 : cX0_sells.data.toList.drop 71 = dktX0_sells_3 := dk_seg dksX0_sells_2 23 rfl rfl
theorem dX0_sells_0 : decode cX0_sells 0 = .ok (.iload_n 1, 1) := dk_27 (dk_at dksX0_sells_0 0 rfl rfl)
theorem dX0_sells_1 : decode cX0_sells 1 = .ok (.aload_n 0, 1) := dk_42 (dk_at dksX0_sells_0 1 rfl rfl)
theorem dX0_sells_2 : decode cX0_sells 2 = .ok (.invokevirtual 69, 3) := dk_182 0 69 (dk_at dksX0_sells_0 2 rfl rfl)
theorem dX0_sells_5 : decode cX0_sells 5 = .ok (.if_icmp .ne 5, 3) := dk_160 0 5 (dk_at dksX0_sells_0 5 rfl rfl)
theorem dX0_sells_8 : decode cX0_sells 8 = .ok (.iconst 1, 1) := dk_4 (dk_at dksX0_sells_0 8 rfl rfl)
theorem dX0_sells_9 : decode cX0_sells 9 = .ok (.ireturn, 1) := dk_172 (dk_at dksX0_sells_0 9 rfl rfl)
theorem dX0_sells_10 : decode cX0_sells 10 = .ok (.aload_n 0, 1) := dk_42 (dk_at dksX0_sells_0 10 rfl rfl)
theorem dX0_sells_11 : decode cX0_sells 11 = .ok (.getfield 56, 3) := dk_180 0 56 (dk_at dksX0_sells_0 11 rfl rfl)
theorem dX0_sells_14 : decode cX0_sells 14 = .ok (.iload_n 1, 1) := dk_27 (dk_at dksX0_sells_0 14 rfl rfl)
theorem dX0_sells_15 : decode cX0_sells 15 = .ok (.iconst (-1), 1) := dk_2 (dk_at dksX0_sells_0 15 rfl rfl)
theorem dX0_sells_16 : decode cX0_sells 16 = .ok (.iastore, 1) := dk_79 (dk_at dksX0_sells_0 16 rfl rfl)
theorem dX0_sells_17 : decode cX0_sells 17 = .ok (.aload_n 0, 1) := dk_42 (dk_at dksX0_sells_0 17 rfl rfl)
theorem dX0_sells_18 : decode cX0_sells 18 = .ok (.iload_n 1, 1) := dk_27 (dk_at dksX0_sells_0 18 rfl rfl)
theorem dX0_sells_19 : decode cX0_sells 19 = .ok (.invokevirtual 341, 3) := dk_182 1 85 (dk_at dksX0_sells_0 19 rfl rfl)
theorem dX0_sells_22 : decode cX0_sells 22 = .ok (.istore_n 3, 1) := dk_62 (dk_at dksX0_sells_0 22 rfl rfl)
theorem dX0_sells_23 : decode cX0_sells 23 = .ok (.iload_n 3, 1) := dk_29 (dk_at dksX0_sells_0 23 rfl rfl)
theorem dX0_sells_24 : decode cX0_sells 24 = .ok (.ifCond .ne 12, 3) := dk_154 0 12 (dk_at dksX0_sells_1 0 rfl rfl)
theorem dX0_sells_27 : decode cX0_sells 27 = .ok (.aload_n 0, 1) := dk_42 (dk_at dksX0_sells_1 3 rfl rfl)
theorem dX0_sells_28 : decode cX0_sells 28 = .ok (.iload_n 1, 1) := dk_27 (dk_at dksX0_sells_1 4 rfl rfl)
theorem dX0_sells_29 : decode cX0_sells 29 = .ok (.iconst 1, 1) := dk_4 (dk_at dksX0_sells_1 5 rfl rfl)
theorem dX0_sells_30 : decode cX0_sells 30 = .ok (.iadd, 1) := dk_96 (dk_at dksX0_sells_1 6 rfl rfl)
theorem dX0_sells_31 : decode cX0_sells 31 = .ok (.iload_n 2, 1) := dk_28 (dk_at dksX0_sells_1 7 rfl rfl)
theorem dX0_sells_32 : decode cX0_sells 32 = .ok (.invokevirtual 359, 3) := dk_182 1 103 (dk_at dksX0_sells_1 8 rfl rfl)
theorem dX0_sells_35 : decode cX0_sells 35 = .ok (.ireturn, 1) := dk_172 (dk_at dksX0_sells_1 11 rfl rfl)
theorem dX0_sells_36 : decode cX0_sells 36 = .ok (.iconst 0, 1) := dk_3 (dk_at dksX0_sells_1 12 rfl rfl)
theorem dX0_sells_37 : decode cX0_sells 37 = .ok (.istore 4, 2) := dk_54 4 (dk_at dksX0_sells_1 13 rfl rfl)
theorem dX0_sells_39 : decode cX0_sells 39 = .ok (.iload 4, 2) := dk_21 4 (dk_at dksX0_sells_1 15 rfl rfl)
theorem dX0_sells_41 : decode cX0_sells 41 = .ok (.iconst 5, 1) := dk_8 (dk_at dksX0_sells_1 17 rfl rfl)
theorem dX0_sells_42 : decode cX0_sells 42 = .ok (.if_icmp .ge 51, 3) := dk_162 0 51 (dk_at dksX0_sells_1 18 rfl rfl)
theorem dX0_sells_45 : decode cX0_sells 45 = .ok (.iload_n 3, 1) := dk_29 (dk_at dksX0_sells_1 21 rfl rfl)
theorem dX0_sells_46 : decode cX0_sells 46 = .ok (.iload_n 2, 1) := dk_28 (dk_at dksX0_sells_1 22 rfl rfl)
theorem dX0_sells_47 : decode cX0_sells 47 = .ok (.iand, 1) := dk_126 (dk_at dksX0_sells_1 23 rfl rfl)
theorem dX0_sells_48 : decode cX0_sells 48 = .ok (.iload 4, 2) := dk_21 4 (dk_at dksX0_sells_2 0 rfl rfl)
theorem dX0_sells_50 : decode cX0_sells 50 = .ok (.invokestatic 138, 3) := dk_184 0 138 (dk_at dksX0_sells_2 2 rfl rfl)
theorem dX0_sells_53 : decode cX0_sells 53 = .ok (.ifCond .eq 34, 3) := dk_153 0 34 (dk_at dksX0_sells_2 5 rfl rfl)
theorem dX0_sells_56 : decode cX0_sells 56 = .ok (.aload_n 0, 1) := dk_42 (dk_at dksX0_sells_2 8 rfl rfl)
theorem dX0_sells_57 : decode cX0_sells 57 = .ok (.iload_n 1, 1) := dk_27 (dk_at dksX0_sells_2 9 rfl rfl)
theorem dX0_sells_58 : decode cX0_sells 58 = .ok (.iconst 1, 1) := dk_4 (dk_at dksX0_sells_2 10 rfl rfl)
theorem dX0_sells_59 : decode cX0_sells 59 = .ok (.iadd, 1) := dk_96 (dk_at dksX0_sells_2 11 rfl rfl)
theorem dX0_sells_60 : decode cX0_sells 60 = .ok (.iload_n 2, 1) := dk_28 (dk_at dksX0_sells_2 12 rfl rfl)
theorem dX0_sells_61 : decode cX0_sells 61 = .ok (.iconst 1, 1) := dk_4 (dk_at dksX0_sells_2 13 rfl rfl)
theorem dX0_sells_62 : decode cX0_sells 62 = .ok (.iload 4, 2) := dk_21 4 (dk_at dksX0_sells_2 14 rfl rfl)
theorem dX0_sells_64 : decode cX0_sells 64 = .ok (.ishl, 1) := dk_120 (dk_at dksX0_sells_2 16 rfl rfl)
theorem dX0_sells_65 : decode cX0_sells 65 = .ok (.iconst (-1), 1) := dk_2 (dk_at dksX0_sells_2 17 rfl rfl)
theorem dX0_sells_66 : decode cX0_sells 66 = .ok (.ixor, 1) := dk_130 (dk_at dksX0_sells_2 18 rfl rfl)
theorem dX0_sells_67 : decode cX0_sells 67 = .ok (.iand, 1) := dk_126 (dk_at dksX0_sells_2 19 rfl rfl)
theorem dX0_sells_68 : decode cX0_sells 68 = .ok (.invokevirtual 359, 3) := dk_182 1 103 (dk_at dksX0_sells_2 20 rfl rfl)
theorem dX0_sells_71 : decode cX0_sells 71 = .ok (.ifCond .ne 6, 3) := dk_154 0 6 (dk_at dksX0_sells_3 0 rfl rfl)
theorem dX0_sells_74 : decode cX0_sells 74 = .ok (.goto 13, 3) := dk_167 0 13 (dk_at dksX0_sells_3 3 rfl rfl)
theorem dX0_sells_77 : decode cX0_sells 77 = .ok (.aload_n 0, 1) := dk_42 (dk_at dksX0_sells_3 6 rfl rfl)
theorem dX0_sells_78 : decode cX0_sells 78 = .ok (.getfield 56, 3) := dk_180 0 56 (dk_at dksX0_sells_3 7 rfl rfl)
theorem dX0_sells_81 : decode cX0_sells 81 = .ok (.iload_n 1, 1) := dk_27 (dk_at dksX0_sells_3 10 rfl rfl)
theorem dX0_sells_82 : decode cX0_sells 82 = .ok (.iload 4, 2) := dk_21 4 (dk_at dksX0_sells_3 11 rfl rfl)
theorem dX0_sells_84 : decode cX0_sells 84 = .ok (.iastore, 1) := dk_79 (dk_at dksX0_sells_3 13 rfl rfl)
theorem dX0_sells_85 : decode cX0_sells 85 = .ok (.iconst 1, 1) := dk_4 (dk_at dksX0_sells_3 14 rfl rfl)
theorem dX0_sells_86 : decode cX0_sells 86 = .ok (.ireturn, 1) := dk_172 (dk_at dksX0_sells_3 15 rfl rfl)
theorem dX0_sells_87 : decode cX0_sells 87 = .ok (.iinc 4 1, 3) := dk_132 4 1 (dk_at dksX0_sells_3 16 rfl rfl)
theorem dX0_sells_90 : decode cX0_sells 90 = .ok (.goto (-51), 3) := dk_167 255 205 (dk_at dksX0_sells_3 19 rfl rfl)
theorem dX0_sells_93 : decode cX0_sells 93 = .ok (.iconst 0, 1) := dk_3 (dk_at dksX0_sells_3 22 rfl rfl)
theorem dX0_sells_94 : decode cX0_sells 94 = .ok (.ireturn, 1) := dk_172 (dk_at dksX0_sells_3 23 rfl rfl)
abbrev cX0_envy : ByteArray := prog_1_method_89_code
def yX0_envy : MethodName := ⟨RX0, "envy", "()I"⟩
def dkwX0_envy_3 : List UInt8 := [132, 3, 1, 167, 255, 195, 132, 2, 1, 167, 255, 179, 27, 172]
abbrev dktX0_envy_3 : List UInt8 := dkwX0_envy_3 ++ []
def dkwX0_envy_2 : List UInt8 := [180, 0, 21, 180, 0, 199, 16, 11, 28, 96, 46, 182, 1, 106, 164, 0, 7, 4, 167, 0, 4, 3, 96, 60]
abbrev dktX0_envy_2 : List UInt8 := dkwX0_envy_2 ++ dktX0_envy_3
def dkwX0_envy_1 : List UInt8 := [29, 159, 0, 44, 42, 28, 42, 180, 0, 21, 180, 0, 199, 16, 11, 29, 96, 46, 182, 1, 106, 42, 28, 42]
abbrev dktX0_envy_1 : List UInt8 := dkwX0_envy_1 ++ dktX0_envy_2
def dkwX0_envy_0 : List UInt8 := [3, 60, 3, 61, 28, 42, 182, 0, 69, 162, 0, 75, 3, 62, 29, 42, 182, 0, 69, 162, 0, 59, 27, 28]
abbrev dktX0_envy_0 : List UInt8 := dkwX0_envy_0 ++ dktX0_envy_1
theorem dksX0_envy_0 : cX0_envy.data.toList.drop 0 = dktX0_envy_0 := by decide +kernel
theorem dksX0_envy_1 : cX0_envy.data.toList.drop 24 = dktX0_envy_1 := dk_seg dksX0_envy_0 24 rfl rfl
theorem dksX0_envy_2 : cX0_envy.data.toList.drop 48 = dktX0_envy_2 := dk_seg dksX0_envy_1 24 rfl rfl
theorem dksX0_envy_3 : cX0_envy.data.toList.drop 72 = dktX0_envy_3 := dk_seg dksX0_envy_2 24 rfl rfl
theorem dX0_envy_0 : decode cX0_envy 0 = .ok (.iconst 0, 1) := dk_3 (dk_at dksX0_envy_0 0 rfl rfl)
theorem dX0_envy_1 : decode cX0_envy 1 = .ok (.istore_n 1, 1) := dk_60 (dk_at dksX0_envy_0 1 rfl rfl)
theorem dX0_envy_2 : decode cX0_envy 2 = .ok (.iconst 0, 1) := dk_3 (dk_at dksX0_envy_0 2 rfl rfl)
theorem dX0_envy_3 : decode cX0_envy 3 = .ok (.istore_n 2, 1) := dk_61 (dk_at dksX0_envy_0 3 rfl rfl)
theorem dX0_envy_4 : decode cX0_envy 4 = .ok (.iload_n 2, 1) := dk_28 (dk_at dksX0_envy_0 4 rfl rfl)
theorem dX0_envy_5 : decode cX0_envy 5 = .ok (.aload_n 0, 1) := dk_42 (dk_at dksX0_envy_0 5 rfl rfl)
theorem dX0_envy_6 : decode cX0_envy 6 = .ok (.invokevirtual 69, 3) := dk_182 0 69 (dk_at dksX0_envy_0 6 rfl rfl)
theorem dX0_envy_9 : decode cX0_envy 9 = .ok (.if_icmp .ge 75, 3) := dk_162 0 75 (dk_at dksX0_envy_0 9 rfl rfl)
theorem dX0_envy_12 : decode cX0_envy 12 = .ok (.iconst 0, 1) := dk_3 (dk_at dksX0_envy_0 12 rfl rfl)
theorem dX0_envy_13 : decode cX0_envy 13 = .ok (.istore_n 3, 1) := dk_62 (dk_at dksX0_envy_0 13 rfl rfl)
theorem dX0_envy_14 : decode cX0_envy 14 = .ok (.iload_n 3, 1) := dk_29 (dk_at dksX0_envy_0 14 rfl rfl)
theorem dX0_envy_15 : decode cX0_envy 15 = .ok (.aload_n 0, 1) := dk_42 (dk_at dksX0_envy_0 15 rfl rfl)
theorem dX0_envy_16 : decode cX0_envy 16 = .ok (.invokevirtual 69, 3) := dk_182 0 69 (dk_at dksX0_envy_0 16 rfl rfl)
theorem dX0_envy_19 : decode cX0_envy 19 = .ok (.if_icmp .ge 59, 3) := dk_162 0 59 (dk_at dksX0_envy_0 19 rfl rfl)
theorem dX0_envy_22 : decode cX0_envy 22 = .ok (.iload_n 1, 1) := dk_27 (dk_at dksX0_envy_0 22 rfl rfl)
theorem dX0_envy_23 : decode cX0_envy 23 = .ok (.iload_n 2, 1) := dk_28 (dk_at dksX0_envy_0 23 rfl rfl)
theorem dX0_envy_24 : decode cX0_envy 24 = .ok (.iload_n 3, 1) := dk_29 (dk_at dksX0_envy_1 0 rfl rfl)
theorem dX0_envy_25 : decode cX0_envy 25 = .ok (.if_icmp .eq 44, 3) := dk_159 0 44 (dk_at dksX0_envy_1 1 rfl rfl)
theorem dX0_envy_28 : decode cX0_envy 28 = .ok (.aload_n 0, 1) := dk_42 (dk_at dksX0_envy_1 4 rfl rfl)
theorem dX0_envy_29 : decode cX0_envy 29 = .ok (.iload_n 2, 1) := dk_28 (dk_at dksX0_envy_1 5 rfl rfl)
theorem dX0_envy_30 : decode cX0_envy 30 = .ok (.aload_n 0, 1) := dk_42 (dk_at dksX0_envy_1 6 rfl rfl)
theorem dX0_envy_31 : decode cX0_envy 31 = .ok (.getfield 21, 3) := dk_180 0 21 (dk_at dksX0_envy_1 7 rfl rfl)
theorem dX0_envy_34 : decode cX0_envy 34 = .ok (.getfield 199, 3) := dk_180 0 199 (dk_at dksX0_envy_1 10 rfl rfl)
theorem dX0_envy_37 : decode cX0_envy 37 = .ok (.bipush 11, 2) := dk_16 11 (dk_at dksX0_envy_1 13 rfl rfl)
theorem dX0_envy_39 : decode cX0_envy 39 = .ok (.iload_n 3, 1) := dk_29 (dk_at dksX0_envy_1 15 rfl rfl)
theorem dX0_envy_40 : decode cX0_envy 40 = .ok (.iadd, 1) := dk_96 (dk_at dksX0_envy_1 16 rfl rfl)
theorem dX0_envy_41 : decode cX0_envy 41 = .ok (.iaload, 1) := dk_46 (dk_at dksX0_envy_1 17 rfl rfl)
theorem dX0_envy_42 : decode cX0_envy 42 = .ok (.invokevirtual 362, 3) := dk_182 1 106 (dk_at dksX0_envy_1 18 rfl rfl)
theorem dX0_envy_45 : decode cX0_envy 45 = .ok (.aload_n 0, 1) := dk_42 (dk_at dksX0_envy_1 21 rfl rfl)
theorem dX0_envy_46 : decode cX0_envy 46 = .ok (.iload_n 2, 1) := dk_28 (dk_at dksX0_envy_1 22 rfl rfl)
theorem dX0_envy_47 : decode cX0_envy 47 = .ok (.aload_n 0, 1) := dk_42 (dk_at dksX0_envy_1 23 rfl rfl)
theorem dX0_envy_48 : decode cX0_envy 48 = .ok (.getfield 21, 3) := dk_180 0 21 (dk_at dksX0_envy_2 0 rfl rfl)
theorem dX0_envy_51 : decode cX0_envy 51 = .ok (.getfield 199, 3) := dk_180 0 199 (dk_at dksX0_envy_2 3 rfl rfl)
theorem dX0_envy_54 : decode cX0_envy 54 = .ok (.bipush 11, 2) := dk_16 11 (dk_at dksX0_envy_2 6 rfl rfl)
theorem dX0_envy_56 : decode cX0_envy 56 = .ok (.iload_n 2, 1) := dk_28 (dk_at dksX0_envy_2 8 rfl rfl)
theorem dX0_envy_57 : decode cX0_envy 57 = .ok (.iadd, 1) := dk_96 (dk_at dksX0_envy_2 9 rfl rfl)
theorem dX0_envy_58 : decode cX0_envy 58 = .ok (.iaload, 1) := dk_46 (dk_at dksX0_envy_2 10 rfl rfl)
theorem dX0_envy_59 : decode cX0_envy 59 = .ok (.invokevirtual 362, 3) := dk_182 1 106 (dk_at dksX0_envy_2 11 rfl rfl)
theorem dX0_envy_62 : decode cX0_envy 62 = .ok (.if_icmp .le 7, 3) := dk_164 0 7 (dk_at dksX0_envy_2 14 rfl rfl)
theorem dX0_envy_65 : decode cX0_envy 65 = .ok (.iconst 1, 1) := dk_4 (dk_at dksX0_envy_2 17 rfl rfl)
theorem dX0_envy_66 : decode cX0_envy 66 = .ok (.goto 4, 3) := dk_167 0 4 (dk_at dksX0_envy_2 18 rfl rfl)
theorem dX0_envy_69 : decode cX0_envy 69 = .ok (.iconst 0, 1) := dk_3 (dk_at dksX0_envy_2 21 rfl rfl)
theorem dX0_envy_70 : decode cX0_envy 70 = .ok (.iadd, 1) := dk_96 (dk_at dksX0_envy_2 22 rfl rfl)
theorem dX0_envy_71 : decode cX0_envy 71 = .ok (.istore_n 1, 1) := dk_60 (dk_at dksX0_envy_2 23 rfl rfl)
theorem dX0_envy_72 : decode cX0_envy 72 = .ok (.iinc 3 1, 3) := dk_132 3 1 (dk_at dksX0_envy_3 0 rfl rfl)
theorem dX0_envy_75 : decode cX0_envy 75 = .ok (.goto (-61), 3) := dk_167 255 195 (dk_at dksX0_envy_3 3 rfl rfl)
theorem dX0_envy_78 : decode cX0_envy 78 = .ok (.iinc 2 1, 3) := dk_132 2 1 (dk_at dksX0_envy_3 6 rfl rfl)
theorem dX0_envy_81 : decode cX0_envy 81 = .ok (.goto (-77), 3) := dk_167 255 179 (dk_at dksX0_envy_3 9 rfl rfl)
theorem dX0_envy_84 : decode cX0_envy 84 = .ok (.iload_n 1, 1) := dk_27 (dk_at dksX0_envy_3 12 rfl rfl)
theorem dX0_envy_85 : decode cX0_envy 85 = .ok (.ireturn, 1) := dk_172 (dk_at dksX0_envy_3 13 rfl rfl)
abbrev cX0_wantOfOwn : ByteArray := prog_1_method_88_code
def yX0_wantOfOwn : MethodName := ⟨RX0, "wantOfOwn", "(II)I"⟩
def dkwX0_wantOfOwn_0 : List UInt8 := [28, 2, 160, 0, 7, 3, 167, 0, 14, 42, 180, 0, 21, 180, 0, 87, 27, 50, 28, 46, 172]
abbrev dktX0_wantOfOwn_0 : List UInt8 := dkwX0_wantOfOwn_0 ++ []
theorem dksX0_wantOfOwn_0 : cX0_wantOfOwn.data.toList.drop 0 = dktX0_wantOfOwn_0 := by decide +kernel
theorem dX0_wantOfOwn_0 : decode cX0_wantOfOwn 0 = .ok (.iload_n 2, 1) := dk_28 (dk_at dksX0_wantOfOwn_0 0 rfl rfl)
theorem dX0_wantOfOwn_1 : decode cX0_wantOfOwn 1 = .ok (.iconst (-1), 1) := dk_2 (dk_at dksX0_wantOfOwn_0 1 rfl rfl)
theorem dX0_wantOfOwn_2 : decode cX0_wantOfOwn 2 = .ok (.if_icmp .ne 7, 3) := dk_160 0 7 (dk_at dksX0_wantOfOwn_0 2 rfl rfl)
theorem dX0_wantOfOwn_5 : decode cX0_wantOfOwn 5 = .ok (.iconst 0, 1) := dk_3 (dk_at dksX0_wantOfOwn_0 5 rfl rfl)
theorem dX0_wantOfOwn_6 : decode cX0_wantOfOwn 6 = .ok (.goto 14, 3) := dk_167 0 14 (dk_at dksX0_wantOfOwn_0 6 rfl rfl)
theorem dX0_wantOfOwn_9 : decode cX0_wantOfOwn 9 = .ok (.aload_n 0, 1) := dk_42 (dk_at dksX0_wantOfOwn_0 9 rfl rfl)
theorem dX0_wantOfOwn_10 : decode cX0_wantOfOwn 10 = .ok (.getfield 21, 3) := dk_180 0 21 (dk_at dksX0_wantOfOwn_0 10 rfl rfl)
theorem dX0_wantOfOwn_13 : decode cX0_wantOfOwn 13 = .ok (.getfield 87, 3) := dk_180 0 87 (dk_at dksX0_wantOfOwn_0 13 rfl rfl)
theorem dX0_wantOfOwn_16 : decode cX0_wantOfOwn 16 = .ok (.iload_n 1, 1) := dk_27 (dk_at dksX0_wantOfOwn_0 16 rfl rfl)
theorem dX0_wantOfOwn_17 : decode cX0_wantOfOwn 17 = .ok (.aaload, 1) := dk_50 (dk_at dksX0_wantOfOwn_0 17 rfl rfl)
theorem dX0_wantOfOwn_18 : decode cX0_wantOfOwn 18 = .ok (.iload_n 2, 1) := dk_28 (dk_at dksX0_wantOfOwn_0 18 rfl rfl)
theorem dX0_wantOfOwn_19 : decode cX0_wantOfOwn 19 = .ok (.iaload, 1) := dk_46 (dk_at dksX0_wantOfOwn_0 19 rfl rfl)
theorem dX0_wantOfOwn_20 : decode cX0_wantOfOwn 20 = .ok (.ireturn, 1) := dk_172 (dk_at dksX0_wantOfOwn_0 20 rfl rfl)
abbrev cX0_said : ByteArray := prog_1_method_90_code
def yX0_said : MethodName := ⟨RX0, "said", "(III)I"⟩
def dkwX0_said_5 : List UInt8 := [180, 0, 21, 180, 0, 66, 7, 46, 172]
abbrev dktX0_said_5 : List UInt8 := dkwX0_said_5 ++ []
def dkwX0_said_4 : List UInt8 := [180, 0, 66, 7, 46, 50, 184, 1, 32, 42, 180, 0, 21, 180, 0, 66, 7, 92, 46, 4, 96, 79, 42]
abbrev dktX0_said_4 : List UInt8 := dkwX0_said_4 ++ dktX0_said_5
def dkwX0_said_3 : List UInt8 := [4, 28, 79, 89, 5, 29, 79, 58, 4, 25, 4, 42, 180, 0, 21, 180, 1, 109, 42, 180, 0, 21]
abbrev dktX0_said_3 : List UInt8 := dkwX0_said_3 ++ dktX0_said_4
def dkwX0_said_2 : List UInt8 := [180, 0, 21, 180, 0, 66, 7, 46, 16, 8, 160, 0, 6, 16, 254, 172, 6, 188, 10, 89, 3, 27, 79, 89]
abbrev dktX0_said_2 : List UInt8 := dkwX0_said_2 ++ dktX0_said_3
def dkwX0_said_1 : List UInt8 := [153, 0, 35, 28, 184, 0, 80, 153, 0, 28, 29, 16, 157, 16, 99, 184, 0, 73, 153, 0, 17, 42]
abbrev dktX0_said_1 : List UInt8 := dkwX0_said_1 ++ dktX0_said_2
def dkwX0_said_0 : List UInt8 := [27, 2, 160, 0, 15, 42, 180, 0, 21, 180, 0, 66, 7, 3, 79, 3, 172, 42, 27, 182, 1, 36]
abbrev dktX0_said_0 : List UInt8 := dkwX0_said_0 ++ dktX0_said_1
theorem dksX0_said_0 : cX0_said.data.toList.drop 0 = dktX0_said_0 := by decide +kernel
theorem dksX0_said_1 : cX0_said.data.toList.drop 22 = dktX0_said_1 := dk_seg dksX0_said_0 22 rfl rfl
theorem dksX0_said_2 : cX0_said.data.toList.drop 44 = dktX0_said_2 := dk_seg dksX0_said_1 22 rfl rfl
theorem dksX0_said_3 : cX0_said.data.toList.drop 68 = dktX0_said_3 := dk_seg dksX0_said_2 24 rfl rfl
theorem dksX0_said_4 : cX0_said.data.toList.drop 90 = dktX0_said_4 := dk_seg dksX0_said_3 22 rfl rfl
theorem dksX0_said_5 : cX0_said.data.toList.drop 113 = dktX0_said_5 := dk_seg dksX0_said_4 23 rfl rfl
theorem dX0_said_0 : decode cX0_said 0 = .ok (.iload_n 1, 1) := dk_27 (dk_at dksX0_said_0 0 rfl rfl)
theorem dX0_said_1 : decode cX0_said 1 = .ok (.iconst (-1), 1) := dk_2 (dk_at dksX0_said_0 1 rfl rfl)
theorem dX0_said_2 : decode cX0_said 2 = .ok (.if_icmp .ne 15, 3) := dk_160 0 15 (dk_at dksX0_said_0 2 rfl rfl)
theorem dX0_said_5 : decode cX0_said 5 = .ok (.aload_n 0, 1) := dk_42 (dk_at dksX0_said_0 5 rfl rfl)
theorem dX0_said_6 : decode cX0_said 6 = .ok (.getfield 21, 3) := dk_180 0 21 (dk_at dksX0_said_0 6 rfl rfl)
theorem dX0_said_9 : decode cX0_said 9 = .ok (.getfield 66, 3) := dk_180 0 66 (dk_at dksX0_said_0 9 rfl rfl)
theorem dX0_said_12 : decode cX0_said 12 = .ok (.iconst 4, 1) := dk_7 (dk_at dksX0_said_0 12 rfl rfl)
theorem dX0_said_13 : decode cX0_said 13 = .ok (.iconst 0, 1) := dk_3 (dk_at dksX0_said_0 13 rfl rfl)
theorem dX0_said_14 : decode cX0_said 14 = .ok (.iastore, 1) := dk_79 (dk_at dksX0_said_0 14 rfl rfl)
theorem dX0_said_15 : decode cX0_said 15 = .ok (.iconst 0, 1) := dk_3 (dk_at dksX0_said_0 15 rfl rfl)
theorem dX0_said_16 : decode cX0_said 16 = .ok (.ireturn, 1) := dk_172 (dk_at dksX0_said_0 16 rfl rfl)
theorem dX0_said_17 : decode cX0_said 17 = .ok (.aload_n 0, 1) := dk_42 (dk_at dksX0_said_0 17 rfl rfl)
theorem dX0_said_18 : decode cX0_said 18 = .ok (.iload_n 1, 1) := dk_27 (dk_at dksX0_said_0 18 rfl rfl)
theorem dX0_said_19 : decode cX0_said 19 = .ok (.invokevirtual 292, 3) := dk_182 1 36 (dk_at dksX0_said_0 19 rfl rfl)
theorem dX0_said_22 : decode cX0_said 22 = .ok (.ifCond .eq 35, 3) := dk_153 0 35 (dk_at dksX0_said_1 0 rfl rfl)
theorem dX0_said_25 : decode cX0_said 25 = .ok (.iload_n 2, 1) := dk_28 (dk_at dksX0_said_1 3 rfl rfl)
theorem dX0_said_26 : decode cX0_said 26 = .ok (.invokestatic 80, 3) := dk_184 0 80 (dk_at dksX0_said_1 4 rfl rfl)
theorem dX0_said_29 : decode cX0_said 29 = .ok (.ifCond .eq 28, 3) := dk_153 0 28 (dk_at dksX0_said_1 7 rfl rfl)
theorem dX0_said_32 : decode cX0_said 32 = .ok (.iload_n 3, 1) := dk_29 (dk_at dksX0_said_1 10 rfl rfl)
theorem dX0_said_33 : decode cX0_said 33 = .ok (.bipush (-99), 2) := dk_16 157 (dk_at dksX0_said_1 11 rfl rfl)
theorem dX0_said_35 : decode cX0_said 35 = .ok (.bipush 99, 2) := dk_16 99 (dk_at dksX0_said_1 13 rfl rfl)
theorem dX0_said_37 : decode cX0_said 37 = .ok (.invokestatic 73, 3) := dk_184 0 73 (dk_at dksX0_said_1 15 rfl rfl)
theorem dX0_said_40 : decode cX0_said 40 = .ok (.ifCond .eq 17, 3) := dk_153 0 17 (dk_at dksX0_said_1 18 rfl rfl)
theorem dX0_said_43 : decode cX0_said 43 = .ok (.aload_n 0, 1) := dk_42 (dk_at dksX0_said_1 21 rfl rfl)
theorem dX0_said_44 : decode cX0_said 44 = .ok (.getfield 21, 3) := dk_180 0 21 (dk_at dksX0_said_2 0 rfl rfl)
theorem dX0_said_47 : decode cX0_said 47 = .ok (.getfield 66, 3) := dk_180 0 66 (dk_at dksX0_said_2 3 rfl rfl)
theorem dX0_said_50 : decode cX0_said 50 = .ok (.iconst 4, 1) := dk_7 (dk_at dksX0_said_2 6 rfl rfl)
theorem dX0_said_51 : decode cX0_said 51 = .ok (.iaload, 1) := dk_46 (dk_at dksX0_said_2 7 rfl rfl)
theorem dX0_said_52 : decode cX0_said 52 = .ok (.bipush 8, 2) := dk_16 8 (dk_at dksX0_said_2 8 rfl rfl)
theorem dX0_said_54 : decode cX0_said 54 = .ok (.if_icmp .ne 6, 3) := dk_160 0 6 (dk_at dksX0_said_2 10 rfl rfl)
theorem dX0_said_57 : decode cX0_said 57 = .ok (.bipush (-2), 2) := dk_16 254 (dk_at dksX0_said_2 13 rfl rfl)
theorem dX0_said_59 : decode cX0_said 59 = .ok (.ireturn, 1) := dk_172 (dk_at dksX0_said_2 15 rfl rfl)
theorem dX0_said_60 : decode cX0_said 60 = .ok (.iconst 3, 1) := dk_6 (dk_at dksX0_said_2 16 rfl rfl)
theorem dX0_said_61 : decode cX0_said 61 = .ok (.newarray .int, 2) := dk_188_10 (dk_at dksX0_said_2 17 rfl rfl)
theorem dX0_said_63 : decode cX0_said 63 = .ok (.dup, 1) := dk_89 (dk_at dksX0_said_2 19 rfl rfl)
theorem dX0_said_64 : decode cX0_said 64 = .ok (.iconst 0, 1) := dk_3 (dk_at dksX0_said_2 20 rfl rfl)
theorem dX0_said_65 : decode cX0_said 65 = .ok (.iload_n 1, 1) := dk_27 (dk_at dksX0_said_2 21 rfl rfl)
theorem dX0_said_66 : decode cX0_said 66 = .ok (.iastore, 1) := dk_79 (dk_at dksX0_said_2 22 rfl rfl)
theorem dX0_said_67 : decode cX0_said 67 = .ok (.dup, 1) := dk_89 (dk_at dksX0_said_2 23 rfl rfl)
theorem dX0_said_68 : decode cX0_said 68 = .ok (.iconst 1, 1) := dk_4 (dk_at dksX0_said_3 0 rfl rfl)
theorem dX0_said_69 : decode cX0_said 69 = .ok (.iload_n 2, 1) := dk_28 (dk_at dksX0_said_3 1 rfl rfl)
theorem dX0_said_70 : decode cX0_said 70 = .ok (.iastore, 1) := dk_79 (dk_at dksX0_said_3 2 rfl rfl)
theorem dX0_said_71 : decode cX0_said 71 = .ok (.dup, 1) := dk_89 (dk_at dksX0_said_3 3 rfl rfl)
theorem dX0_said_72 : decode cX0_said 72 = .ok (.iconst 2, 1) := dk_5 (dk_at dksX0_said_3 4 rfl rfl)
theorem dX0_said_73 : decode cX0_said 73 = .ok (.iload_n 3, 1) := dk_29 (dk_at dksX0_said_3 5 rfl rfl)
theorem dX0_said_74 : decode cX0_said 74 = .ok (.iastore, 1) := dk_79 (dk_at dksX0_said_3 6 rfl rfl)
theorem dX0_said_75 : decode cX0_said 75 = .ok (.astore 4, 2) := dk_58 4 (dk_at dksX0_said_3 7 rfl rfl)
theorem dX0_said_77 : decode cX0_said 77 = .ok (.aload 4, 2) := dk_25 4 (dk_at dksX0_said_3 9 rfl rfl)
theorem dX0_said_79 : decode cX0_said 79 = .ok (.aload_n 0, 1) := dk_42 (dk_at dksX0_said_3 11 rfl rfl)
theorem dX0_said_80 : decode cX0_said 80 = .ok (.getfield 21, 3) := dk_180 0 21 (dk_at dksX0_said_3 12 rfl rfl)
theorem dX0_said_83 : decode cX0_said 83 = .ok (.getfield 365, 3) := dk_180 1 109 (dk_at dksX0_said_3 15 rfl rfl)
theorem dX0_said_86 : decode cX0_said 86 = .ok (.aload_n 0, 1) := dk_42 (dk_at dksX0_said_3 18 rfl rfl)
theorem dX0_said_87 : decode cX0_said 87 = .ok (.getfield 21, 3) := dk_180 0 21 (dk_at dksX0_said_3 19 rfl rfl)
theorem dX0_said_90 : decode cX0_said 90 = .ok (.getfield 66, 3) := dk_180 0 66 (dk_at dksX0_said_4 0 rfl rfl)
theorem dX0_said_93 : decode cX0_said 93 = .ok (.iconst 4, 1) := dk_7 (dk_at dksX0_said_4 3 rfl rfl)
theorem dX0_said_94 : decode cX0_said 94 = .ok (.iaload, 1) := dk_46 (dk_at dksX0_said_4 4 rfl rfl)
theorem dX0_said_95 : decode cX0_said 95 = .ok (.aaload, 1) := dk_50 (dk_at dksX0_said_4 5 rfl rfl)
theorem dX0_said_96 : decode cX0_said 96 = .ok (.invokestatic 288, 3) := dk_184 1 32 (dk_at dksX0_said_4 6 rfl rfl)
theorem dX0_said_99 : decode cX0_said 99 = .ok (.aload_n 0, 1) := dk_42 (dk_at dksX0_said_4 9 rfl rfl)
theorem dX0_said_100 : decode cX0_said 100 = .ok (.getfield 21, 3) := dk_180 0 21 (dk_at dksX0_said_4 10 rfl rfl)
theorem dX0_said_103 : decode cX0_said 103 = .ok (.getfield 66, 3) := dk_180 0 66 (dk_at dksX0_said_4 13 rfl rfl)
theorem dX0_said_106 : decode cX0_said 106 = .ok (.iconst 4, 1) := dk_7 (dk_at dksX0_said_4 16 rfl rfl)
theorem dX0_said_107 : decode cX0_said 107 = .ok (.dup2, 1) := dk_92 (dk_at dksX0_said_4 17 rfl rfl)
theorem dX0_said_108 : decode cX0_said 108 = .ok (.iaload, 1) := dk_46 (dk_at dksX0_said_4 18 rfl rfl)
theorem dX0_said_109 : decode cX0_said 109 = .ok (.iconst 1, 1) := dk_4 (dk_at dksX0_said_4 19 rfl rfl)
theorem dX0_said_110 : decode cX0_said 110 = .ok (.iadd, 1) := dk_96 (dk_at dksX0_said_4 20 rfl rfl)
theorem dX0_said_111 : decode cX0_said 111 = .ok (.iastore, 1) := dk_79 (dk_at dksX0_said_4 21 rfl rfl)
theorem dX0_said_112 : decode cX0_said 112 = .ok (.aload_n 0, 1) := dk_42 (dk_at dksX0_said_4 22 rfl rfl)
theorem dX0_said_113 : decode cX0_said 113 = .ok (.getfield 21, 3) := dk_180 0 21 (dk_at dksX0_said_5 0 rfl rfl)
theorem dX0_said_116 : decode cX0_said 116 = .ok (.getfield 66, 3) := dk_180 0 66 (dk_at dksX0_said_5 3 rfl rfl)
theorem dX0_said_119 : decode cX0_said 119 = .ok (.iconst 4, 1) := dk_7 (dk_at dksX0_said_5 6 rfl rfl)
theorem dX0_said_120 : decode cX0_said 120 = .ok (.iaload, 1) := dk_46 (dk_at dksX0_said_5 7 rfl rfl)
theorem dX0_said_121 : decode cX0_said 121 = .ok (.ireturn, 1) := dk_172 (dk_at dksX0_said_5 8 rfl rfl)
abbrev cX0_whose : ByteArray := prog_1_method_92_code
def yX0_whose : MethodName := ⟨RX0, "whose", "()I"⟩
def dkwX0_whose_2 : List UInt8 := [167, 255, 214, 27, 172]
abbrev dktX0_whose_2 : List UInt8 := dkwX0_whose_2 ++ []
def dkwX0_whose_1 : List UInt8 := [180, 0, 98, 28, 50, 182, 1, 112, 153, 0, 9, 4, 28, 120, 167, 0, 4, 3, 128, 60, 132, 2, 1]
abbrev dktX0_whose_1 : List UInt8 := dkwX0_whose_1 ++ dktX0_whose_2
def dkwX0_whose_0 : List UInt8 := [3, 60, 3, 61, 28, 42, 180, 0, 21, 180, 0, 66, 4, 46, 162, 0, 35, 27, 42, 42, 180, 0, 21]
abbrev dktX0_whose_0 : List UInt8 := dkwX0_whose_0 ++ dktX0_whose_1
theorem dksX0_whose_0 : cX0_whose.data.toList.drop 0 = dktX0_whose_0 := by decide +kernel
theorem dksX0_whose_1 : cX0_whose.data.toList.drop 23 = dktX0_whose_1 := dk_seg dksX0_whose_0 23 rfl rfl
theorem dksX0_whose_2 : cX0_whose.data.toList.drop 46 = dktX0_whose_2 := dk_seg dksX0_whose_1 23 rfl rfl
theorem dX0_whose_0 : decode cX0_whose 0 = .ok (.iconst 0, 1) := dk_3 (dk_at dksX0_whose_0 0 rfl rfl)
theorem dX0_whose_1 : decode cX0_whose 1 = .ok (.istore_n 1, 1) := dk_60 (dk_at dksX0_whose_0 1 rfl rfl)
theorem dX0_whose_2 : decode cX0_whose 2 = .ok (.iconst 0, 1) := dk_3 (dk_at dksX0_whose_0 2 rfl rfl)
theorem dX0_whose_3 : decode cX0_whose 3 = .ok (.istore_n 2, 1) := dk_61 (dk_at dksX0_whose_0 3 rfl rfl)
theorem dX0_whose_4 : decode cX0_whose 4 = .ok (.iload_n 2, 1) := dk_28 (dk_at dksX0_whose_0 4 rfl rfl)
theorem dX0_whose_5 : decode cX0_whose 5 = .ok (.aload_n 0, 1) := dk_42 (dk_at dksX0_whose_0 5 rfl rfl)
theorem dX0_whose_6 : decode cX0_whose 6 = .ok (.getfield 21, 3) := dk_180 0 21 (dk_at dksX0_whose_0 6 rfl rfl)
theorem dX0_whose_9 : decode cX0_whose 9 = .ok (.getfield 66, 3) := dk_180 0 66 (dk_at dksX0_whose_0 9 rfl rfl)
theorem dX0_whose_12 : decode cX0_whose 12 = .ok (.iconst 1, 1) := dk_4 (dk_at dksX0_whose_0 12 rfl rfl)
theorem dX0_whose_13 : decode cX0_whose 13 = .ok (.iaload, 1) := dk_46 (dk_at dksX0_whose_0 13 rfl rfl)
theorem dX0_whose_14 : decode cX0_whose 14 = .ok (.if_icmp .ge 35, 3) := dk_162 0 35 (dk_at dksX0_whose_0 14 rfl rfl)
theorem dX0_whose_17 : decode cX0_whose 17 = .ok (.iload_n 1, 1) := dk_27 (dk_at dksX0_whose_0 17 rfl rfl)
theorem dX0_whose_18 : decode cX0_whose 18 = .ok (.aload_n 0, 1) := dk_42 (dk_at dksX0_whose_0 18 rfl rfl)
theorem dX0_whose_19 : decode cX0_whose 19 = .ok (.aload_n 0, 1) := dk_42 (dk_at dksX0_whose_0 19 rfl rfl)
theorem dX0_whose_20 : decode cX0_whose 20 = .ok (.getfield 21, 3) := dk_180 0 21 (dk_at dksX0_whose_0 20 rfl rfl)
theorem dX0_whose_23 : decode cX0_whose 23 = .ok (.getfield 98, 3) := dk_180 0 98 (dk_at dksX0_whose_1 0 rfl rfl)
theorem dX0_whose_26 : decode cX0_whose 26 = .ok (.iload_n 2, 1) := dk_28 (dk_at dksX0_whose_1 3 rfl rfl)
theorem dX0_whose_27 : decode cX0_whose 27 = .ok (.aaload, 1) := dk_50 (dk_at dksX0_whose_1 4 rfl rfl)
theorem dX0_whose_28 : decode cX0_whose 28 = .ok (.invokevirtual 368, 3) := dk_182 1 112 (dk_at dksX0_whose_1 5 rfl rfl)
theorem dX0_whose_31 : decode cX0_whose 31 = .ok (.ifCond .eq 9, 3) := dk_153 0 9 (dk_at dksX0_whose_1 8 rfl rfl)
theorem dX0_whose_34 : decode cX0_whose 34 = .ok (.iconst 1, 1) := dk_4 (dk_at dksX0_whose_1 11 rfl rfl)
theorem dX0_whose_35 : decode cX0_whose 35 = .ok (.iload_n 2, 1) := dk_28 (dk_at dksX0_whose_1 12 rfl rfl)
theorem dX0_whose_36 : decode cX0_whose 36 = .ok (.ishl, 1) := dk_120 (dk_at dksX0_whose_1 13 rfl rfl)
theorem dX0_whose_37 : decode cX0_whose 37 = .ok (.goto 4, 3) := dk_167 0 4 (dk_at dksX0_whose_1 14 rfl rfl)
theorem dX0_whose_40 : decode cX0_whose 40 = .ok (.iconst 0, 1) := dk_3 (dk_at dksX0_whose_1 17 rfl rfl)
theorem dX0_whose_41 : decode cX0_whose 41 = .ok (.ior, 1) := dk_128 (dk_at dksX0_whose_1 18 rfl rfl)
theorem dX0_whose_42 : decode cX0_whose 42 = .ok (.istore_n 1, 1) := dk_60 (dk_at dksX0_whose_1 19 rfl rfl)
theorem dX0_whose_43 : decode cX0_whose 43 = .ok (.iinc 2 1, 3) := dk_132 2 1 (dk_at dksX0_whose_1 20 rfl rfl)
theorem dX0_whose_46 : decode cX0_whose 46 = .ok (.goto (-42), 3) := dk_167 255 214 (dk_at dksX0_whose_2 0 rfl rfl)
theorem dX0_whose_49 : decode cX0_whose 49 = .ok (.iload_n 1, 1) := dk_27 (dk_at dksX0_whose_2 3 rfl rfl)
theorem dX0_whose_50 : decode cX0_whose 50 = .ok (.ireturn, 1) := dk_172 (dk_at dksX0_whose_2 4 rfl rfl)
abbrev cX0_isLaw : ByteArray := prog_1_method_91_code
def yX0_isLaw : MethodName := ⟨RX0, "isLaw", "(LSownByArgument$Text;)Z"⟩
def dkwX0_isLaw_3 : List UInt8 := [167, 255, 190, 4, 172]
abbrev dktX0_isLaw_3 : List UInt8 := dkwX0_isLaw_3 ++ []
def dkwX0_isLaw_2 : List UInt8 := [182, 0, 184, 42, 180, 0, 21, 180, 1, 109, 28, 50, 5, 46, 159, 0, 5, 3, 172, 132, 2, 1]
abbrev dktX0_isLaw_2 : List UInt8 := dkwX0_isLaw_2 ++ dktX0_isLaw_3
def dkwX0_isLaw_1 : List UInt8 := [42, 180, 0, 21, 180, 1, 109, 28, 50, 3, 46, 42, 180, 0, 21, 180, 1, 109, 28, 50, 4, 46]
abbrev dktX0_isLaw_1 : List UInt8 := dkwX0_isLaw_1 ++ dktX0_isLaw_2
def dkwX0_isLaw_0 : List UInt8 := [3, 61, 28, 42, 180, 0, 21, 180, 0, 66, 7, 46, 162, 0, 59, 42, 43, 42, 180, 0, 21, 180, 0, 199]
abbrev dktX0_isLaw_0 : List UInt8 := dkwX0_isLaw_0 ++ dktX0_isLaw_1
theorem dksX0_isLaw_0 : cX0_isLaw.data.toList.drop 0 = dktX0_isLaw_0 := by decide +kernel
theorem dksX0_isLaw_1 : cX0_isLaw.data.toList.drop 24 = dktX0_isLaw_1 := dk_seg dksX0_isLaw_0 24 rfl rfl
theorem dksX0_isLaw_2 : cX0_isLaw.data.toList.drop 46 = dktX0_isLaw_2 := dk_seg dksX0_isLaw_1 22 rfl rfl
theorem dksX0_isLaw_3 : cX0_isLaw.data.toList.drop 68 = dktX0_isLaw_3 := dk_seg dksX0_isLaw_2 22 rfl rfl
theorem dX0_isLaw_0 : decode cX0_isLaw 0 = .ok (.iconst 0, 1) := dk_3 (dk_at dksX0_isLaw_0 0 rfl rfl)
theorem dX0_isLaw_1 : decode cX0_isLaw 1 = .ok (.istore_n 2, 1) := dk_61 (dk_at dksX0_isLaw_0 1 rfl rfl)
theorem dX0_isLaw_2 : decode cX0_isLaw 2 = .ok (.iload_n 2, 1) := dk_28 (dk_at dksX0_isLaw_0 2 rfl rfl)
theorem dX0_isLaw_3 : decode cX0_isLaw 3 = .ok (.aload_n 0, 1) := dk_42 (dk_at dksX0_isLaw_0 3 rfl rfl)
theorem dX0_isLaw_4 : decode cX0_isLaw 4 = .ok (.getfield 21, 3) := dk_180 0 21 (dk_at dksX0_isLaw_0 4 rfl rfl)
theorem dX0_isLaw_7 : decode cX0_isLaw 7 = .ok (.getfield 66, 3) := dk_180 0 66 (dk_at dksX0_isLaw_0 7 rfl rfl)
theorem dX0_isLaw_10 : decode cX0_isLaw 10 = .ok (.iconst 4, 1) := dk_7 (dk_at dksX0_isLaw_0 10 rfl rfl)
theorem dX0_isLaw_11 : decode cX0_isLaw 11 = .ok (.iaload, 1) := dk_46 (dk_at dksX0_isLaw_0 11 rfl rfl)
theorem dX0_isLaw_12 : decode cX0_isLaw 12 = .ok (.if_icmp .ge 59, 3) := dk_162 0 59 (dk_at dksX0_isLaw_0 12 rfl rfl)
theorem dX0_isLaw_15 : decode cX0_isLaw 15 = .ok (.aload_n 0, 1) := dk_42 (dk_at dksX0_isLaw_0 15 rfl rfl)
theorem dX0_isLaw_16 : decode cX0_isLaw 16 = .ok (.aload_n 1, 1) := dk_43 (dk_at dksX0_isLaw_0 16 rfl rfl)
theorem dX0_isLaw_17 : decode cX0_isLaw 17 = .ok (.aload_n 0, 1) := dk_42 (dk_at dksX0_isLaw_0 17 rfl rfl)
theorem dX0_isLaw_18 : decode cX0_isLaw 18 = .ok (.getfield 21, 3) := dk_180 0 21 (dk_at dksX0_isLaw_0 18 rfl rfl)
theorem dX0_isLaw_21 : decode cX0_isLaw 21 = .ok (.getfield 199, 3) := dk_180 0 199 (dk_at dksX0_isLaw_0 21 rfl rfl)
theorem dX0_isLaw_24 : decode cX0_isLaw 24 = .ok (.aload_n 0, 1) := dk_42 (dk_at dksX0_isLaw_1 0 rfl rfl)
theorem dX0_isLaw_25 : decode cX0_isLaw 25 = .ok (.getfield 21, 3) := dk_180 0 21 (dk_at dksX0_isLaw_1 1 rfl rfl)
theorem dX0_isLaw_28 : decode cX0_isLaw 28 = .ok (.getfield 365, 3) := dk_180 1 109 (dk_at dksX0_isLaw_1 4 rfl rfl)
theorem dX0_isLaw_31 : decode cX0_isLaw 31 = .ok (.iload_n 2, 1) := dk_28 (dk_at dksX0_isLaw_1 7 rfl rfl)
theorem dX0_isLaw_32 : decode cX0_isLaw 32 = .ok (.aaload, 1) := dk_50 (dk_at dksX0_isLaw_1 8 rfl rfl)
theorem dX0_isLaw_33 : decode cX0_isLaw 33 = .ok (.iconst 0, 1) := dk_3 (dk_at dksX0_isLaw_1 9 rfl rfl)
theorem dX0_isLaw_34 : decode cX0_isLaw 34 = .ok (.iaload, 1) := dk_46 (dk_at dksX0_isLaw_1 10 rfl rfl)
theorem dX0_isLaw_35 : decode cX0_isLaw 35 = .ok (.aload_n 0, 1) := dk_42 (dk_at dksX0_isLaw_1 11 rfl rfl)
theorem dX0_isLaw_36 : decode cX0_isLaw 36 = .ok (.getfield 21, 3) := dk_180 0 21 (dk_at dksX0_isLaw_1 12 rfl rfl)
theorem dX0_isLaw_39 : decode cX0_isLaw 39 = .ok (.getfield 365, 3) := dk_180 1 109 (dk_at dksX0_isLaw_1 15 rfl rfl)
theorem dX0_isLaw_42 : decode cX0_isLaw 42 = .ok (.iload_n 2, 1) := dk_28 (dk_at dksX0_isLaw_1 18 rfl rfl)
theorem dX0_isLaw_43 : decode cX0_isLaw 43 = .ok (.aaload, 1) := dk_50 (dk_at dksX0_isLaw_1 19 rfl rfl)
theorem dX0_isLaw_44 : decode cX0_isLaw 44 = .ok (.iconst 1, 1) := dk_4 (dk_at dksX0_isLaw_1 20 rfl rfl)
theorem dX0_isLaw_45 : decode cX0_isLaw 45 = .ok (.iaload, 1) := dk_46 (dk_at dksX0_isLaw_1 21 rfl rfl)
theorem dX0_isLaw_46 : decode cX0_isLaw 46 = .ok (.invokevirtual 184, 3) := dk_182 0 184 (dk_at dksX0_isLaw_2 0 rfl rfl)
theorem dX0_isLaw_49 : decode cX0_isLaw 49 = .ok (.aload_n 0, 1) := dk_42 (dk_at dksX0_isLaw_2 3 rfl rfl)
theorem dX0_isLaw_50 : decode cX0_isLaw 50 = .ok (.getfield 21, 3) := dk_180 0 21 (dk_at dksX0_isLaw_2 4 rfl rfl)
theorem dX0_isLaw_53 : decode cX0_isLaw 53 = .ok (.getfield 365, 3) := dk_180 1 109 (dk_at dksX0_isLaw_2 7 rfl rfl)
theorem dX0_isLaw_56 : decode cX0_isLaw 56 = .ok (.iload_n 2, 1) := dk_28 (dk_at dksX0_isLaw_2 10 rfl rfl)
theorem dX0_isLaw_57 : decode cX0_isLaw 57 = .ok (.aaload, 1) := dk_50 (dk_at dksX0_isLaw_2 11 rfl rfl)
theorem dX0_isLaw_58 : decode cX0_isLaw 58 = .ok (.iconst 2, 1) := dk_5 (dk_at dksX0_isLaw_2 12 rfl rfl)
theorem dX0_isLaw_59 : decode cX0_isLaw 59 = .ok (.iaload, 1) := dk_46 (dk_at dksX0_isLaw_2 13 rfl rfl)
theorem dX0_isLaw_60 : decode cX0_isLaw 60 = .ok (.if_icmp .eq 5, 3) := dk_159 0 5 (dk_at dksX0_isLaw_2 14 rfl rfl)
theorem dX0_isLaw_63 : decode cX0_isLaw 63 = .ok (.iconst 0, 1) := dk_3 (dk_at dksX0_isLaw_2 17 rfl rfl)
theorem dX0_isLaw_64 : decode cX0_isLaw 64 = .ok (.ireturn, 1) := dk_172 (dk_at dksX0_isLaw_2 18 rfl rfl)
theorem dX0_isLaw_65 : decode cX0_isLaw 65 = .ok (.iinc 2 1, 3) := dk_132 2 1 (dk_at dksX0_isLaw_2 19 rfl rfl)
theorem dX0_isLaw_68 : decode cX0_isLaw 68 = .ok (.goto (-66), 3) := dk_167 255 190 (dk_at dksX0_isLaw_3 0 rfl rfl)
theorem dX0_isLaw_71 : decode cX0_isLaw 71 = .ok (.iconst 1, 1) := dk_4 (dk_at dksX0_isLaw_3 3 rfl rfl)
theorem dX0_isLaw_72 : decode cX0_isLaw 72 = .ok (.ireturn, 1) := dk_172 (dk_at dksX0_isLaw_3 4 rfl rfl)
abbrev cX0_ground : ByteArray := prog_1_method_93_code
def yX0_ground : MethodName := ⟨RX0, "ground", "()I"⟩
def dkwX0_ground_3 : List UInt8 := [180, 0, 21, 180, 0, 84, 29, 46, 167, 0, 4, 3, 96, 60, 132, 3, 1, 167, 255, 224, 27, 172]
abbrev dktX0_ground_3 : List UInt8 := dkwX0_ground_3 ++ []
def dkwX0_ground_2 : List UInt8 := [132, 3, 1, 167, 255, 212, 3, 62, 29, 8, 162, 0, 33, 27, 28, 29, 184, 0, 138, 153, 0, 15, 42]
abbrev dktX0_ground_2 : List UInt8 := dkwX0_ground_2 ++ dktX0_ground_3
def dkwX0_ground_1 : List UInt8 := [96, 46, 2, 159, 0, 20, 28, 4, 42, 180, 0, 21, 180, 0, 199, 16, 11, 29, 96, 46, 120, 128, 61]
abbrev dktX0_ground_1 : List UInt8 := dkwX0_ground_1 ++ dktX0_ground_2
def dkwX0_ground_0 : List UInt8 := [3, 60, 3, 61, 3, 62, 29, 42, 182, 0, 69, 162, 0, 42, 42, 180, 0, 21, 180, 0, 199, 16, 11, 29]
abbrev dktX0_ground_0 : List UInt8 := dkwX0_ground_0 ++ dktX0_ground_1
theorem dksX0_ground_0 : cX0_ground.data.toList.drop 0 = dktX0_ground_0 := by decide +kernel
theorem dksX0_ground_1 : cX0_ground.data.toList.drop 24 = dktX0_ground_1 := dk_seg dksX0_ground_0 24 rfl rfl
theorem dksX0_ground_2 : cX0_ground.data.toList.drop 47 = dktX0_ground_2 := dk_seg dksX0_ground_1 23 rfl rfl
theorem dksX0_ground_3 : cX0_ground.data.toList.drop 70 = dktX0_ground_3 := dk_seg dksX0_ground_2 23 rfl rfl
theorem dX0_ground_0 : decode cX0_ground 0 = .ok (.iconst 0, 1) := dk_3 (dk_at dksX0_ground_0 0 rfl rfl)
theorem dX0_ground_1 : decode cX0_ground 1 = .ok (.istore_n 1, 1) := dk_60 (dk_at dksX0_ground_0 1 rfl rfl)
theorem dX0_ground_2 : decode cX0_ground 2 = .ok (.iconst 0, 1) := dk_3 (dk_at dksX0_ground_0 2 rfl rfl)
theorem dX0_ground_3 : decode cX0_ground 3 = .ok (.istore_n 2, 1) := dk_61 (dk_at dksX0_ground_0 3 rfl rfl)
theorem dX0_ground_4 : decode cX0_ground 4 = .ok (.iconst 0, 1) := dk_3 (dk_at dksX0_ground_0 4 rfl rfl)
theorem dX0_ground_5 : decode cX0_ground 5 = .ok (.istore_n 3, 1) := dk_62 (dk_at dksX0_ground_0 5 rfl rfl)
theorem dX0_ground_6 : decode cX0_ground 6 = .ok (.iload_n 3, 1) := dk_29 (dk_at dksX0_ground_0 6 rfl rfl)
theorem dX0_ground_7 : decode cX0_ground 7 = .ok (.aload_n 0, 1) := dk_42 (dk_at dksX0_ground_0 7 rfl rfl)
theorem dX0_ground_8 : decode cX0_ground 8 = .ok (.invokevirtual 69, 3) := dk_182 0 69 (dk_at dksX0_ground_0 8 rfl rfl)
theorem dX0_ground_11 : decode cX0_ground 11 = .ok (.if_icmp .ge 42, 3) := dk_162 0 42 (dk_at dksX0_ground_0 11 rfl rfl)
theorem dX0_ground_14 : decode cX0_ground 14 = .ok (.aload_n 0, 1) := dk_42 (dk_at dksX0_ground_0 14 rfl rfl)
theorem dX0_ground_15 : decode cX0_ground 15 = .ok (.getfield 21, 3) := dk_180 0 21 (dk_at dksX0_ground_0 15 rfl rfl)
theorem dX0_ground_18 : decode cX0_ground 18 = .ok (.getfield 199, 3) := dk_180 0 199 (dk_at dksX0_ground_0 18 rfl rfl)
theorem dX0_ground_21 : decode cX0_ground 21 = .ok (.bipush 11, 2) := dk_16 11 (dk_at dksX0_ground_0 21 rfl rfl)
theorem dX0_ground_23 : decode cX0_ground 23 = .ok (.iload_n 3, 1) := dk_29 (dk_at dksX0_ground_0 23 rfl rfl)
theorem dX0_ground_24 : decode cX0_ground 24 = .ok (.iadd, 1) := dk_96 (dk_at dksX0_ground_1 0 rfl rfl)
theorem dX0_ground_25 : decode cX0_ground 25 = .ok (.iaload, 1) := dk_46 (dk_at dksX0_ground_1 1 rfl rfl)
theorem dX0_ground_26 : decode cX0_ground 26 = .ok (.iconst (-1), 1) := dk_2 (dk_at dksX0_ground_1 2 rfl rfl)
theorem dX0_ground_27 : decode cX0_ground 27 = .ok (.if_icmp .eq 20, 3) := dk_159 0 20 (dk_at dksX0_ground_1 3 rfl rfl)
theorem dX0_ground_30 : decode cX0_ground 30 = .ok (.iload_n 2, 1) := dk_28 (dk_at dksX0_ground_1 6 rfl rfl)
theorem dX0_ground_31 : decode cX0_ground 31 = .ok (.iconst 1, 1) := dk_4 (dk_at dksX0_ground_1 7 rfl rfl)
theorem dX0_ground_32 : decode cX0_ground 32 = .ok (.aload_n 0, 1) := dk_42 (dk_at dksX0_ground_1 8 rfl rfl)
theorem dX0_ground_33 : decode cX0_ground 33 = .ok (.getfield 21, 3) := dk_180 0 21 (dk_at dksX0_ground_1 9 rfl rfl)
theorem dX0_ground_36 : decode cX0_ground 36 = .ok (.getfield 199, 3) := dk_180 0 199 (dk_at dksX0_ground_1 12 rfl rfl)
theorem dX0_ground_39 : decode cX0_ground 39 = .ok (.bipush 11, 2) := dk_16 11 (dk_at dksX0_ground_1 15 rfl rfl)
theorem dX0_ground_41 : decode cX0_ground 41 = .ok (.iload_n 3, 1) := dk_29 (dk_at dksX0_ground_1 17 rfl rfl)
theorem dX0_ground_42 : decode cX0_ground 42 = .ok (.iadd, 1) := dk_96 (dk_at dksX0_ground_1 18 rfl rfl)
theorem dX0_ground_43 : decode cX0_ground 43 = .ok (.iaload, 1) := dk_46 (dk_at dksX0_ground_1 19 rfl rfl)
theorem dX0_ground_44 : decode cX0_ground 44 = .ok (.ishl, 1) := dk_120 (dk_at dksX0_ground_1 20 rfl rfl)
theorem dX0_ground_45 : decode cX0_ground 45 = .ok (.ior, 1) := dk_128 (dk_at dksX0_ground_1 21 rfl rfl)
theorem dX0_ground_46 : decode cX0_ground 46 = .ok (.istore_n 2, 1) := dk_61 (dk_at dksX0_ground_1 22 rfl rfl)
theorem dX0_ground_47 : decode cX0_ground 47 = .ok (.iinc 3 1, 3) := dk_132 3 1 (dk_at dksX0_ground_2 0 rfl rfl)
theorem dX0_ground_50 : decode cX0_ground 50 = .ok (.goto (-44), 3) := dk_167 255 212 (dk_at dksX0_ground_2 3 rfl rfl)
theorem dX0_ground_53 : decode cX0_ground 53 = .ok (.iconst 0, 1) := dk_3 (dk_at dksX0_ground_2 6 rfl rfl)
theorem dX0_ground_54 : decode cX0_ground 54 = .ok (.istore_n 3, 1) := dk_62 (dk_at dksX0_ground_2 7 rfl rfl)
theorem dX0_ground_55 : decode cX0_ground 55 = .ok (.iload_n 3, 1) := dk_29 (dk_at dksX0_ground_2 8 rfl rfl)
theorem dX0_ground_56 : decode cX0_ground 56 = .ok (.iconst 5, 1) := dk_8 (dk_at dksX0_ground_2 9 rfl rfl)
theorem dX0_ground_57 : decode cX0_ground 57 = .ok (.if_icmp .ge 33, 3) := dk_162 0 33 (dk_at dksX0_ground_2 10 rfl rfl)
theorem dX0_ground_60 : decode cX0_ground 60 = .ok (.iload_n 1, 1) := dk_27 (dk_at dksX0_ground_2 13 rfl rfl)
theorem dX0_ground_61 : decode cX0_ground 61 = .ok (.iload_n 2, 1) := dk_28 (dk_at dksX0_ground_2 14 rfl rfl)
theorem dX0_ground_62 : decode cX0_ground 62 = .ok (.iload_n 3, 1) := dk_29 (dk_at dksX0_ground_2 15 rfl rfl)
theorem dX0_ground_63 : decode cX0_ground 63 = .ok (.invokestatic 138, 3) := dk_184 0 138 (dk_at dksX0_ground_2 16 rfl rfl)
theorem dX0_ground_66 : decode cX0_ground 66 = .ok (.ifCond .eq 15, 3) := dk_153 0 15 (dk_at dksX0_ground_2 19 rfl rfl)
theorem dX0_ground_69 : decode cX0_ground 69 = .ok (.aload_n 0, 1) := dk_42 (dk_at dksX0_ground_2 22 rfl rfl)
theorem dX0_ground_70 : decode cX0_ground 70 = .ok (.getfield 21, 3) := dk_180 0 21 (dk_at dksX0_ground_3 0 rfl rfl)
theorem dX0_ground_73 : decode cX0_ground 73 = .ok (.getfield 84, 3) := dk_180 0 84 (dk_at dksX0_ground_3 3 rfl rfl)
theorem dX0_ground_76 : decode cX0_ground 76 = .ok (.iload_n 3, 1) := dk_29 (dk_at dksX0_ground_3 6 rfl rfl)
theorem dX0_ground_77 : decode cX0_ground 77 = .ok (.iaload, 1) := dk_46 (dk_at dksX0_ground_3 7 rfl rfl)
theorem dX0_ground_78 : decode cX0_ground 78 = .ok (.goto 4, 3) := dk_167 0 4 (dk_at dksX0_ground_3 8 rfl rfl)
theorem dX0_ground_81 : decode cX0_ground 81 = .ok (.iconst 0, 1) := dk_3 (dk_at dksX0_ground_3 11 rfl rfl)
theorem dX0_ground_82 : decode cX0_ground 82 = .ok (.iadd, 1) := dk_96 (dk_at dksX0_ground_3 12 rfl rfl)
theorem dX0_ground_83 : decode cX0_ground 83 = .ok (.istore_n 1, 1) := dk_60 (dk_at dksX0_ground_3 13 rfl rfl)
theorem dX0_ground_84 : decode cX0_ground 84 = .ok (.iinc 3 1, 3) := dk_132 3 1 (dk_at dksX0_ground_3 14 rfl rfl)
theorem dX0_ground_87 : decode cX0_ground 87 = .ok (.goto (-32), 3) := dk_167 255 224 (dk_at dksX0_ground_3 17 rfl rfl)
theorem dX0_ground_90 : decode cX0_ground 90 = .ok (.iload_n 1, 1) := dk_27 (dk_at dksX0_ground_3 20 rfl rfl)
theorem dX0_ground_91 : decode cX0_ground 91 = .ok (.ireturn, 1) := dk_172 (dk_at dksX0_ground_3 21 rfl rfl)
abbrev cX0_landless : ByteArray := prog_1_method_94_code
def yX0_landless : MethodName := ⟨RX0, "landless", "()I"⟩
def dkwX0_landless_1 : List UInt8 := [46, 2, 160, 0, 9, 4, 28, 120, 167, 0, 4, 3, 128, 60, 132, 2, 1, 167, 255, 219, 27, 172]
abbrev dktX0_landless_1 : List UInt8 := dkwX0_landless_1 ++ []
def dkwX0_landless_0 : List UInt8 := [3, 60, 3, 61, 28, 42, 182, 0, 69, 162, 0, 35, 27, 42, 180, 0, 21, 180, 0, 199, 16, 11, 28, 96]
abbrev dktX0_landless_0 : List UInt8 := dkwX0_landless_0 ++ dktX0_landless_1
theorem dksX0_landless_0 : cX0_landless.data.toList.drop 0 = dktX0_landless_0 := by decide +kernel
theorem dksX0_landless_1 : cX0_landless.data.toList.drop 24 = dktX0_landless_1 := dk_seg dksX0_landless_0 24 rfl rfl
theorem dX0_landless_0 : decode cX0_landless 0 = .ok (.iconst 0, 1) := dk_3 (dk_at dksX0_landless_0 0 rfl rfl)
theorem dX0_landless_1 : decode cX0_landless 1 = .ok (.istore_n 1, 1) := dk_60 (dk_at dksX0_landless_0 1 rfl rfl)
theorem dX0_landless_2 : decode cX0_landless 2 = .ok (.iconst 0, 1) := dk_3 (dk_at dksX0_landless_0 2 rfl rfl)
theorem dX0_landless_3 : decode cX0_landless 3 = .ok (.istore_n 2, 1) := dk_61 (dk_at dksX0_landless_0 3 rfl rfl)
theorem dX0_landless_4 : decode cX0_landless 4 = .ok (.iload_n 2, 1) := dk_28 (dk_at dksX0_landless_0 4 rfl rfl)
theorem dX0_landless_5 : decode cX0_landless 5 = .ok (.aload_n 0, 1) := dk_42 (dk_at dksX0_landless_0 5 rfl rfl)
theorem dX0_landless_6 : decode cX0_landless 6 = .ok (.invokevirtual 69, 3) := dk_182 0 69 (dk_at dksX0_landless_0 6 rfl rfl)
theorem dX0_landless_9 : decode cX0_landless 9 = .ok (.if_icmp .ge 35, 3) := dk_162 0 35 (dk_at dksX0_landless_0 9 rfl rfl)
theorem dX0_landless_12 : decode cX0_landless 12 = .ok (.iload_n 1, 1) := dk_27 (dk_at dksX0_landless_0 12 rfl rfl)
theorem dX0_landless_13 : decode cX0_landless 13 = .ok (.aload_n 0, 1) := dk_42 (dk_at dksX0_landless_0 13 rfl rfl)
theorem dX0_landless_14 : decode cX0_landless 14 = .ok (.getfield 21, 3) := dk_180 0 21 (dk_at dksX0_landless_0 14 rfl rfl)
theorem dX0_landless_17 : decode cX0_landless 17 = .ok (.getfield 199, 3) := dk_180 0 199 (dk_at dksX0_landless_0 17 rfl rfl)
theorem dX0_landless_20 : decode cX0_landless 20 = .ok (.bipush 11, 2) := dk_16 11 (dk_at dksX0_landless_0 20 rfl rfl)
theorem dX0_landless_22 : decode cX0_landless 22 = .ok (.iload_n 2, 1) := dk_28 (dk_at dksX0_landless_0 22 rfl rfl)
theorem dX0_landless_23 : decode cX0_landless 23 = .ok (.iadd, 1) := dk_96 (dk_at dksX0_landless_0 23 rfl rfl)
theorem dX0_landless_24 : decode cX0_landless 24 = .ok (.iaload, 1) := dk_46 (dk_at dksX0_landless_1 0 rfl rfl)
theorem dX0_landless_25 : decode cX0_landless 25 = .ok (.iconst (-1), 1) := dk_2 (dk_at dksX0_landless_1 1 rfl rfl)
theorem dX0_landless_26 : decode cX0_landless 26 = .ok (.if_icmp .ne 9, 3) := dk_160 0 9 (dk_at dksX0_landless_1 2 rfl rfl)
theorem dX0_landless_29 : decode cX0_landless 29 = .ok (.iconst 1, 1) := dk_4 (dk_at dksX0_landless_1 5 rfl rfl)
theorem dX0_landless_30 : decode cX0_landless 30 = .ok (.iload_n 2, 1) := dk_28 (dk_at dksX0_landless_1 6 rfl rfl)
theorem dX0_landless_31 : decode cX0_landless 31 = .ok (.ishl, 1) := dk_120 (dk_at dksX0_landless_1 7 rfl rfl)
theorem dX0_landless_32 : decode cX0_landless 32 = .ok (.goto 4, 3) := dk_167 0 4 (dk_at dksX0_landless_1 8 rfl rfl)
theorem dX0_landless_35 : decode cX0_landless 35 = .ok (.iconst 0, 1) := dk_3 (dk_at dksX0_landless_1 11 rfl rfl)
theorem dX0_landless_36 : decode cX0_landless 36 = .ok (.ior, 1) := dk_128 (dk_at dksX0_landless_1 12 rfl rfl)
theorem dX0_landless_37 : decode cX0_landless 37 = .ok (.istore_n 1, 1) := dk_60 (dk_at dksX0_landless_1 13 rfl rfl)
theorem dX0_landless_38 : decode cX0_landless 38 = .ok (.iinc 2 1, 3) := dk_132 2 1 (dk_at dksX0_landless_1 14 rfl rfl)
theorem dX0_landless_41 : decode cX0_landless 41 = .ok (.goto (-37), 3) := dk_167 255 219 (dk_at dksX0_landless_1 17 rfl rfl)
theorem dX0_landless_44 : decode cX0_landless 44 = .ok (.iload_n 1, 1) := dk_27 (dk_at dksX0_landless_1 20 rfl rfl)
theorem dX0_landless_45 : decode cX0_landless 45 = .ok (.ireturn, 1) := dk_172 (dk_at dksX0_landless_1 21 rfl rfl)
abbrev cX0_wisest : ByteArray := prog_1_method_95_code
def yX0_wisest : MethodName := ⟨RX0, "wisest", "()I"⟩
def dkwX0_wisest_2 : List UInt8 := [132, 2, 1, 167, 255, 211, 27, 172]
abbrev dktX0_wisest_2 : List UInt8 := dkwX0_wisest_2 ++ []
def dkwX0_wisest_1 : List UInt8 := [16, 16, 28, 96, 46, 42, 180, 0, 21, 180, 0, 199, 16, 16, 27, 96, 46, 162, 0, 5, 28, 60]
abbrev dktX0_wisest_1 : List UInt8 := dkwX0_wisest_1 ++ dktX0_wisest_2
def dkwX0_wisest_0 : List UInt8 := [2, 60, 3, 61, 28, 42, 182, 0, 69, 162, 0, 43, 27, 2, 159, 0, 30, 42, 180, 0, 21, 180, 0, 199]
abbrev dktX0_wisest_0 : List UInt8 := dkwX0_wisest_0 ++ dktX0_wisest_1
theorem dksX0_wisest_0 : cX0_wisest.data.toList.drop 0 = dktX0_wisest_0 := by decide +kernel
theorem dksX0_wisest_1 : cX0_wisest.data.toList.drop 24 = dktX0_wisest_1 := dk_seg dksX0_wisest_0 24 rfl rfl
theorem dksX0_wisest_2 : cX0_wisest.data.toList.drop 46 = dktX0_wisest_2 := dk_seg dksX0_wisest_1 22 rfl rfl
theorem dX0_wisest_0 : decode cX0_wisest 0 = .ok (.iconst (-1), 1) := dk_2 (dk_at dksX0_wisest_0 0 rfl rfl)
theorem dX0_wisest_1 : decode cX0_wisest 1 = .ok (.istore_n 1, 1) := dk_60 (dk_at dksX0_wisest_0 1 rfl rfl)
theorem dX0_wisest_2 : decode cX0_wisest 2 = .ok (.iconst 0, 1) := dk_3 (dk_at dksX0_wisest_0 2 rfl rfl)
theorem dX0_wisest_3 : decode cX0_wisest 3 = .ok (.istore_n 2, 1) := dk_61 (dk_at dksX0_wisest_0 3 rfl rfl)
theorem dX0_wisest_4 : decode cX0_wisest 4 = .ok (.iload_n 2, 1) := dk_28 (dk_at dksX0_wisest_0 4 rfl rfl)
theorem dX0_wisest_5 : decode cX0_wisest 5 = .ok (.aload_n 0, 1) := dk_42 (dk_at dksX0_wisest_0 5 rfl rfl)
theorem dX0_wisest_6 : decode cX0_wisest 6 = .ok (.invokevirtual 69, 3) := dk_182 0 69 (dk_at dksX0_wisest_0 6 rfl rfl)
theorem dX0_wisest_9 : decode cX0_wisest 9 = .ok (.if_icmp .ge 43, 3) := dk_162 0 43 (dk_at dksX0_wisest_0 9 rfl rfl)
theorem dX0_wisest_12 : decode cX0_wisest 12 = .ok (.iload_n 1, 1) := dk_27 (dk_at dksX0_wisest_0 12 rfl rfl)
theorem dX0_wisest_13 : decode cX0_wisest 13 = .ok (.iconst (-1), 1) := dk_2 (dk_at dksX0_wisest_0 13 rfl rfl)
theorem dX0_wisest_14 : decode cX0_wisest 14 = .ok (.if_icmp .eq 30, 3) := dk_159 0 30 (dk_at dksX0_wisest_0 14 rfl rfl)
theorem dX0_wisest_17 : decode cX0_wisest 17 = .ok (.aload_n 0, 1) := dk_42 (dk_at dksX0_wisest_0 17 rfl rfl)
theorem dX0_wisest_18 : decode cX0_wisest 18 = .ok (.getfield 21, 3) := dk_180 0 21 (dk_at dksX0_wisest_0 18 rfl rfl)
theorem dX0_wisest_21 : decode cX0_wisest 21 = .ok (.getfield 199, 3) := dk_180 0 199 (dk_at dksX0_wisest_0 21 rfl rfl)
theorem dX0_wisest_24 : decode cX0_wisest 24 = .ok (.bipush 16, 2) := dk_16 16 (dk_at dksX0_wisest_1 0 rfl rfl)
theorem dX0_wisest_26 : decode cX0_wisest 26 = .ok (.iload_n 2, 1) := dk_28 (dk_at dksX0_wisest_1 2 rfl rfl)
theorem dX0_wisest_27 : decode cX0_wisest 27 = .ok (.iadd, 1) := dk_96 (dk_at dksX0_wisest_1 3 rfl rfl)
theorem dX0_wisest_28 : decode cX0_wisest 28 = .ok (.iaload, 1) := dk_46 (dk_at dksX0_wisest_1 4 rfl rfl)
theorem dX0_wisest_29 : decode cX0_wisest 29 = .ok (.aload_n 0, 1) := dk_42 (dk_at dksX0_wisest_1 5 rfl rfl)
theorem dX0_wisest_30 : decode cX0_wisest 30 = .ok (.getfield 21, 3) := dk_180 0 21 (dk_at dksX0_wisest_1 6 rfl rfl)
theorem dX0_wisest_33 : decode cX0_wisest 33 = .ok (.getfield 199, 3) := dk_180 0 199 (dk_at dksX0_wisest_1 9 rfl rfl)
theorem dX0_wisest_36 : decode cX0_wisest 36 = .ok (.bipush 16, 2) := dk_16 16 (dk_at dksX0_wisest_1 12 rfl rfl)
theorem dX0_wisest_38 : decode cX0_wisest 38 = .ok (.iload_n 1, 1) := dk_27 (dk_at dksX0_wisest_1 14 rfl rfl)
theorem dX0_wisest_39 : decode cX0_wisest 39 = .ok (.iadd, 1) := dk_96 (dk_at dksX0_wisest_1 15 rfl rfl)
theorem dX0_wisest_40 : decode cX0_wisest 40 = .ok (.iaload, 1) := dk_46 (dk_at dksX0_wisest_1 16 rfl rfl)
theorem dX0_wisest_41 : decode cX0_wisest 41 = .ok (.if_icmp .ge 5, 3) := dk_162 0 5 (dk_at dksX0_wisest_1 17 rfl rfl)
theorem dX0_wisest_44 : decode cX0_wisest 44 = .ok (.iload_n 2, 1) := dk_28 (dk_at dksX0_wisest_1 20 rfl rfl)
theorem dX0_wisest_45 : decode cX0_wisest 45 = .ok (.istore_n 1, 1) := dk_60 (dk_at dksX0_wisest_1 21 rfl rfl)
theorem dX0_wisest_46 : decode cX0_wisest 46 = .ok (.iinc 2 1, 3) := dk_132 2 1 (dk_at dksX0_wisest_2 0 rfl rfl)
theorem dX0_wisest_49 : decode cX0_wisest 49 = .ok (.goto (-45), 3) := dk_167 255 211 (dk_at dksX0_wisest_2 3 rfl rfl)
theorem dX0_wisest_52 : decode cX0_wisest 52 = .ok (.iload_n 1, 1) := dk_27 (dk_at dksX0_wisest_2 6 rfl rfl)
theorem dX0_wisest_53 : decode cX0_wisest 53 = .ok (.ireturn, 1) := dk_172 (dk_at dksX0_wisest_2 7 rfl rfl)
abbrev cX0_free : ByteArray := prog_1_method_96_code
def yX0_free : MethodName := ⟨RX0, "free", "()I"⟩
def dkwX0_free_1 : List UInt8 := [167, 0, 4, 3, 128, 60, 132, 2, 1, 167, 255, 227, 27, 172]
abbrev dktX0_free_1 : List UInt8 := dkwX0_free_1 ++ []
def dkwX0_free_0 : List UInt8 := [3, 60, 3, 61, 28, 42, 182, 0, 132, 162, 0, 27, 27, 42, 28, 182, 0, 216, 153, 0, 9, 4, 28, 120]
abbrev dktX0_free_0 : List UInt8 := dkwX0_free_0 ++ dktX0_free_1
theorem dksX0_free_0 : cX0_free.data.toList.drop 0 = dktX0_free_0 := by decide +kernel
theorem dksX0_free_1 : cX0_free.data.toList.drop 24 = dktX0_free_1 := dk_seg dksX0_free_0 24 rfl rfl
theorem dX0_free_0 : decode cX0_free 0 = .ok (.iconst 0, 1) := dk_3 (dk_at dksX0_free_0 0 rfl rfl)
theorem dX0_free_1 : decode cX0_free 1 = .ok (.istore_n 1, 1) := dk_60 (dk_at dksX0_free_0 1 rfl rfl)
theorem dX0_free_2 : decode cX0_free 2 = .ok (.iconst 0, 1) := dk_3 (dk_at dksX0_free_0 2 rfl rfl)
theorem dX0_free_3 : decode cX0_free 3 = .ok (.istore_n 2, 1) := dk_61 (dk_at dksX0_free_0 3 rfl rfl)
theorem dX0_free_4 : decode cX0_free 4 = .ok (.iload_n 2, 1) := dk_28 (dk_at dksX0_free_0 4 rfl rfl)
theorem dX0_free_5 : decode cX0_free 5 = .ok (.aload_n 0, 1) := dk_42 (dk_at dksX0_free_0 5 rfl rfl)
theorem dX0_free_6 : decode cX0_free 6 = .ok (.invokevirtual 132, 3) := dk_182 0 132 (dk_at dksX0_free_0 6 rfl rfl)
theorem dX0_free_9 : decode cX0_free 9 = .ok (.if_icmp .ge 27, 3) := dk_162 0 27 (dk_at dksX0_free_0 9 rfl rfl)
theorem dX0_free_12 : decode cX0_free 12 = .ok (.iload_n 1, 1) := dk_27 (dk_at dksX0_free_0 12 rfl rfl)
theorem dX0_free_13 : decode cX0_free 13 = .ok (.aload_n 0, 1) := dk_42 (dk_at dksX0_free_0 13 rfl rfl)
theorem dX0_free_14 : decode cX0_free 14 = .ok (.iload_n 2, 1) := dk_28 (dk_at dksX0_free_0 14 rfl rfl)
theorem dX0_free_15 : decode cX0_free 15 = .ok (.invokevirtual 216, 3) := dk_182 0 216 (dk_at dksX0_free_0 15 rfl rfl)
theorem dX0_free_18 : decode cX0_free 18 = .ok (.ifCond .eq 9, 3) := dk_153 0 9 (dk_at dksX0_free_0 18 rfl rfl)
theorem dX0_free_21 : decode cX0_free 21 = .ok (.iconst 1, 1) := dk_4 (dk_at dksX0_free_0 21 rfl rfl)
theorem dX0_free_22 : decode cX0_free 22 = .ok (.iload_n 2, 1) := dk_28 (dk_at dksX0_free_0 22 rfl rfl)
theorem dX0_free_23 : decode cX0_free 23 = .ok (.ishl, 1) := dk_120 (dk_at dksX0_free_0 23 rfl rfl)
theorem dX0_free_24 : decode cX0_free 24 = .ok (.goto 4, 3) := dk_167 0 4 (dk_at dksX0_free_1 0 rfl rfl)
theorem dX0_free_27 : decode cX0_free 27 = .ok (.iconst 0, 1) := dk_3 (dk_at dksX0_free_1 3 rfl rfl)
theorem dX0_free_28 : decode cX0_free 28 = .ok (.ior, 1) := dk_128 (dk_at dksX0_free_1 4 rfl rfl)
theorem dX0_free_29 : decode cX0_free 29 = .ok (.istore_n 1, 1) := dk_60 (dk_at dksX0_free_1 5 rfl rfl)
theorem dX0_free_30 : decode cX0_free 30 = .ok (.iinc 2 1, 3) := dk_132 2 1 (dk_at dksX0_free_1 6 rfl rfl)
theorem dX0_free_33 : decode cX0_free 33 = .ok (.goto (-29), 3) := dk_167 255 227 (dk_at dksX0_free_1 9 rfl rfl)
theorem dX0_free_36 : decode cX0_free 36 = .ok (.iload_n 1, 1) := dk_27 (dk_at dksX0_free_1 12 rfl rfl)
theorem dX0_free_37 : decode cX0_free 37 = .ok (.ireturn, 1) := dk_172 (dk_at dksX0_free_1 13 rfl rfl)
abbrev cX0_ledger : ByteArray := prog_1_method_97_code
def yX0_ledger : MethodName := ⟨RX0, "ledger", "(I)I"⟩
def dkwX0_ledger_3 : List UInt8 := [16, 22, 8, 29, 104, 96, 7, 96, 46, 167, 0, 4, 3, 96, 61, 132, 3, 1, 167, 255, 191, 28, 172]
abbrev dktX0_ledger_3 : List UInt8 := dkwX0_ledger_3 ++ []
def dkwX0_ledger_2 : List UInt8 := [180, 0, 199, 16, 22, 8, 29, 104, 96, 4, 96, 46, 27, 160, 0, 22, 42, 180, 0, 21, 180, 0, 199]
abbrev dktX0_ledger_2 : List UInt8 := dkwX0_ledger_2 ++ dktX0_ledger_3
def dkwX0_ledger_1 : List UInt8 := [180, 0, 21, 180, 0, 199, 16, 21, 46, 162, 0, 57, 28, 27, 2, 159, 0, 23, 42, 180, 0, 21]
abbrev dktX0_ledger_1 : List UInt8 := dkwX0_ledger_1 ++ dktX0_ledger_2
def dkwX0_ledger_0 : List UInt8 := [27, 2, 159, 0, 14, 42, 27, 182, 1, 36, 154, 0, 6, 16, 254, 172, 3, 61, 3, 62, 29, 42]
abbrev dktX0_ledger_0 : List UInt8 := dkwX0_ledger_0 ++ dktX0_ledger_1
theorem dksX0_ledger_0 : cX0_ledger.data.toList.drop 0 = dktX0_ledger_0 := by decide +kernel
theorem dksX0_ledger_1 : cX0_ledger.data.toList.drop 22 = dktX0_ledger_1 := dk_seg dksX0_ledger_0 22 rfl rfl
theorem dksX0_ledger_2 : cX0_ledger.data.toList.drop 44 = dktX0_ledger_2 := dk_seg dksX0_ledger_1 22 rfl rfl
theorem dksX0_ledger_3 : cX0_ledger.data.toList.drop 67 = dktX0_ledger_3 := dk_seg dksX0_ledger_2 23 rfl rfl
theorem dX0_ledger_0 : decode cX0_ledger 0 = .ok (.iload_n 1, 1) := dk_27 (dk_at dksX0_ledger_0 0 rfl rfl)
theorem dX0_ledger_1 : decode cX0_ledger 1 = .ok (.iconst (-1), 1) := dk_2 (dk_at dksX0_ledger_0 1 rfl rfl)
theorem dX0_ledger_2 : decode cX0_ledger 2 = .ok (.if_icmp .eq 14, 3) := dk_159 0 14 (dk_at dksX0_ledger_0 2 rfl rfl)
theorem dX0_ledger_5 : decode cX0_ledger 5 = .ok (.aload_n 0, 1) := dk_42 (dk_at dksX0_ledger_0 5 rfl rfl)
theorem dX0_ledger_6 : decode cX0_ledger 6 = .ok (.iload_n 1, 1) := dk_27 (dk_at dksX0_ledger_0 6 rfl rfl)
theorem dX0_ledger_7 : decode cX0_ledger 7 = .ok (.invokevirtual 292, 3) := dk_182 1 36 (dk_at dksX0_ledger_0 7 rfl rfl)
theorem dX0_ledger_10 : decode cX0_ledger 10 = .ok (.ifCond .ne 6, 3) := dk_154 0 6 (dk_at dksX0_ledger_0 10 rfl rfl)
theorem dX0_ledger_13 : decode cX0_ledger 13 = .ok (.bipush (-2), 2) := dk_16 254 (dk_at dksX0_ledger_0 13 rfl rfl)
theorem dX0_ledger_15 : decode cX0_ledger 15 = .ok (.ireturn, 1) := dk_172 (dk_at dksX0_ledger_0 15 rfl rfl)
theorem dX0_ledger_16 : decode cX0_ledger 16 = .ok (.iconst 0, 1) := dk_3 (dk_at dksX0_ledger_0 16 rfl rfl)
theorem dX0_ledger_17 : decode cX0_ledger 17 = .ok (.istore_n 2, 1) := dk_61 (dk_at dksX0_ledger_0 17 rfl rfl)
theorem dX0_ledger_18 : decode cX0_ledger 18 = .ok (.iconst 0, 1) := dk_3 (dk_at dksX0_ledger_0 18 rfl rfl)
theorem dX0_ledger_19 : decode cX0_ledger 19 = .ok (.istore_n 3, 1) := dk_62 (dk_at dksX0_ledger_0 19 rfl rfl)
theorem dX0_ledger_20 : decode cX0_ledger 20 = .ok (.iload_n 3, 1) := dk_29 (dk_at dksX0_ledger_0 20 rfl rfl)
theorem dX0_ledger_21 : decode cX0_ledger 21 = .ok (.aload_n 0, 1) := dk_42 (dk_at dksX0_ledger_0 21 rfl rfl)
theorem dX0_ledger_22 : decode cX0_ledger 22 = .ok (.getfield 21, 3) := dk_180 0 21 (dk_at dksX0_ledger_1 0 rfl rfl)
theorem dX0_ledger_25 : decode cX0_ledger 25 = .ok (.getfield 199, 3) := dk_180 0 199 (dk_at dksX0_ledger_1 3 rfl rfl)
theorem dX0_ledger_28 : decode cX0_ledger 28 = .ok (.bipush 21, 2) := dk_16 21 (dk_at dksX0_ledger_1 6 rfl rfl)
theorem dX0_ledger_30 : decode cX0_ledger 30 = .ok (.iaload, 1) := dk_46 (dk_at dksX0_ledger_1 8 rfl rfl)
theorem dX0_ledger_31 : decode cX0_ledger 31 = .ok (.if_icmp .ge 57, 3) := dk_162 0 57 (dk_at dksX0_ledger_1 9 rfl rfl)
theorem dX0_ledger_34 : decode cX0_ledger 34 = .ok (.iload_n 2, 1) := dk_28 (dk_at dksX0_ledger_1 12 rfl rfl)
theorem dX0_ledger_35 : decode cX0_ledger 35 = .ok (.iload_n 1, 1) := dk_27 (dk_at dksX0_ledger_1 13 rfl rfl)
theorem dX0_ledger_36 : decode cX0_ledger 36 = .ok (.iconst (-1), 1) := dk_2 (dk_at dksX0_ledger_1 14 rfl rfl)
theorem dX0_ledger_37 : decode cX0_ledger 37 = .ok (.if_icmp .eq 23, 3) := dk_159 0 23 (dk_at dksX0_ledger_1 15 rfl rfl)
theorem dX0_ledger_40 : decode cX0_ledger 40 = .ok (.aload_n 0, 1) := dk_42 (dk_at dksX0_ledger_1 18 rfl rfl)
theorem dX0_ledger_41 : decode cX0_ledger 41 = .ok (.getfield 21, 3) := dk_180 0 21 (dk_at dksX0_ledger_1 19 rfl rfl)
theorem dX0_ledger_44 : decode cX0_ledger 44 = .ok (.getfield 199, 3) := dk_180 0 199 (dk_at dksX0_ledger_2 0 rfl rfl)
theorem dX0_ledger_47 : decode cX0_ledger 47 = .ok (.bipush 22, 2) := dk_16 22 (dk_at dksX0_ledger_2 3 rfl rfl)
theorem dX0_ledger_49 : decode cX0_ledger 49 = .ok (.iconst 5, 1) := dk_8 (dk_at dksX0_ledger_2 5 rfl rfl)
theorem dX0_ledger_50 : decode cX0_ledger 50 = .ok (.iload_n 3, 1) := dk_29 (dk_at dksX0_ledger_2 6 rfl rfl)
theorem dX0_ledger_51 : decode cX0_ledger 51 = .ok (.imul, 1) := dk_104 (dk_at dksX0_ledger_2 7 rfl rfl)
theorem dX0_ledger_52 : decode cX0_ledger 52 = .ok (.iadd, 1) := dk_96 (dk_at dksX0_ledger_2 8 rfl rfl)
theorem dX0_ledger_53 : decode cX0_ledger 53 = .ok (.iconst 1, 1) := dk_4 (dk_at dksX0_ledger_2 9 rfl rfl)
theorem dX0_ledger_54 : decode cX0_ledger 54 = .ok (.iadd, 1) := dk_96 (dk_at dksX0_ledger_2 10 rfl rfl)
theorem dX0_ledger_55 : decode cX0_ledger 55 = .ok (.iaload, 1) := dk_46 (dk_at dksX0_ledger_2 11 rfl rfl)
theorem dX0_ledger_56 : decode cX0_ledger 56 = .ok (.iload_n 1, 1) := dk_27 (dk_at dksX0_ledger_2 12 rfl rfl)
theorem dX0_ledger_57 : decode cX0_ledger 57 = .ok (.if_icmp .ne 22, 3) := dk_160 0 22 (dk_at dksX0_ledger_2 13 rfl rfl)
theorem dX0_ledger_60 : decode cX0_ledger 60 = .ok (.aload_n 0, 1) := dk_42 (dk_at dksX0_ledger_2 16 rfl rfl)
theorem dX0_ledger_61 : decode cX0_ledger 61 = .ok (.getfield 21, 3) := dk_180 0 21 (dk_at dksX0_ledger_2 17 rfl rfl)
theorem dX0_ledger_64 : decode cX0_ledger 64 = .ok (.getfield 199, 3) := dk_180 0 199 (dk_at dksX0_ledger_2 20 rfl rfl)
theorem dX0_ledger_67 : decode cX0_ledger 67 = .ok (.bipush 22, 2) := dk_16 22 (dk_at dksX0_ledger_3 0 rfl rfl)
theorem dX0_ledger_69 : decode cX0_ledger 69 = .ok (.iconst 5, 1) := dk_8 (dk_at dksX0_ledger_3 2 rfl rfl)
theorem dX0_ledger_70 : decode cX0_ledger 70 = .ok (.iload_n 3, 1) := dk_29 (dk_at dksX0_ledger_3 3 rfl rfl)
theorem dX0_ledger_71 : decode cX0_ledger 71 = .ok (.imul, 1) := dk_104 (dk_at dksX0_ledger_3 4 rfl rfl)
theorem dX0_ledger_72 : decode cX0_ledger 72 = .ok (.iadd, 1) := dk_96 (dk_at dksX0_ledger_3 5 rfl rfl)
theorem dX0_ledger_73 : decode cX0_ledger 73 = .ok (.iconst 4, 1) := dk_7 (dk_at dksX0_ledger_3 6 rfl rfl)
theorem dX0_ledger_74 : decode cX0_ledger 74 = .ok (.iadd, 1) := dk_96 (dk_at dksX0_ledger_3 7 rfl rfl)
theorem dX0_ledger_75 : decode cX0_ledger 75 = .ok (.iaload, 1) := dk_46 (dk_at dksX0_ledger_3 8 rfl rfl)
theorem dX0_ledger_76 : decode cX0_ledger 76 = .ok (.goto 4, 3) := dk_167 0 4 (dk_at dksX0_ledger_3 9 rfl rfl)
theorem dX0_ledger_79 : decode cX0_ledger 79 = .ok (.iconst 0, 1) := dk_3 (dk_at dksX0_ledger_3 12 rfl rfl)
theorem dX0_ledger_80 : decode cX0_ledger 80 = .ok (.iadd, 1) := dk_96 (dk_at dksX0_ledger_3 13 rfl rfl)
theorem dX0_ledger_81 : decode cX0_ledger 81 = .ok (.istore_n 2, 1) := dk_61 (dk_at dksX0_ledger_3 14 rfl rfl)
theorem dX0_ledger_82 : decode cX0_ledger 82 = .ok (.iinc 3 1, 3) := dk_132 3 1 (dk_at dksX0_ledger_3 15 rfl rfl)
theorem dX0_ledger_85 : decode cX0_ledger 85 = .ok (.goto (-65), 3) := dk_167 255 191 (dk_at dksX0_ledger_3 18 rfl rfl)
theorem dX0_ledger_88 : decode cX0_ledger 88 = .ok (.iload_n 2, 1) := dk_28 (dk_at dksX0_ledger_3 21 rfl rfl)
theorem dX0_ledger_89 : decode cX0_ledger 89 = .ok (.ireturn, 1) := dk_172 (dk_at dksX0_ledger_3 22 rfl rfl)
abbrev cX0_image : ByteArray := prog_1_method_98_code
def yX0_image : MethodName := ⟨RX0, "image", "()I"⟩
def dkwX0_image_0 : List UInt8 := [42, 180, 0, 25, 42, 180, 0, 21, 182, 0, 62, 42, 180, 0, 21, 180, 0, 199, 3, 46, 172]
abbrev dktX0_image_0 : List UInt8 := dkwX0_image_0 ++ []
theorem dksX0_image_0 : cX0_image.data.toList.drop 0 = dktX0_image_0 := by decide +kernel
theorem dX0_image_0 : decode cX0_image 0 = .ok (.aload_n 0, 1) := dk_42 (dk_at dksX0_image_0 0 rfl rfl)
theorem dX0_image_1 : decode cX0_image 1 = .ok (.getfield 25, 3) := dk_180 0 25 (dk_at dksX0_image_0 1 rfl rfl)
theorem dX0_image_4 : decode cX0_image 4 = .ok (.aload_n 0, 1) := dk_42 (dk_at dksX0_image_0 4 rfl rfl)
theorem dX0_image_5 : decode cX0_image 5 = .ok (.getfield 21, 3) := dk_180 0 21 (dk_at dksX0_image_0 5 rfl rfl)
theorem dX0_image_8 : decode cX0_image 8 = .ok (.invokevirtual 62, 3) := dk_182 0 62 (dk_at dksX0_image_0 8 rfl rfl)
theorem dX0_image_11 : decode cX0_image 11 = .ok (.aload_n 0, 1) := dk_42 (dk_at dksX0_image_0 11 rfl rfl)
theorem dX0_image_12 : decode cX0_image 12 = .ok (.getfield 21, 3) := dk_180 0 21 (dk_at dksX0_image_0 12 rfl rfl)
theorem dX0_image_15 : decode cX0_image 15 = .ok (.getfield 199, 3) := dk_180 0 199 (dk_at dksX0_image_0 15 rfl rfl)
theorem dX0_image_18 : decode cX0_image 18 = .ok (.iconst 0, 1) := dk_3 (dk_at dksX0_image_0 18 rfl rfl)
theorem dX0_image_19 : decode cX0_image 19 = .ok (.iaload, 1) := dk_46 (dk_at dksX0_image_0 19 rfl rfl)
theorem dX0_image_20 : decode cX0_image 20 = .ok (.ireturn, 1) := dk_172 (dk_at dksX0_image_0 20 rfl rfl)
abbrev cX0_back : ByteArray := prog_1_method_99_code
def yX0_back : MethodName := ⟨RX0, "back", "()I"⟩
def dkwX0_back_0 : List UInt8 := [42, 180, 0, 21, 42, 180, 0, 25, 182, 0, 62, 42, 180, 0, 21, 180, 0, 199, 3, 46, 172]
abbrev dktX0_back_0 : List UInt8 := dkwX0_back_0 ++ []
theorem dksX0_back_0 : cX0_back.data.toList.drop 0 = dktX0_back_0 := by decide +kernel
theorem dX0_back_0 : decode cX0_back 0 = .ok (.aload_n 0, 1) := dk_42 (dk_at dksX0_back_0 0 rfl rfl)
theorem dX0_back_1 : decode cX0_back 1 = .ok (.getfield 21, 3) := dk_180 0 21 (dk_at dksX0_back_0 1 rfl rfl)
theorem dX0_back_4 : decode cX0_back 4 = .ok (.aload_n 0, 1) := dk_42 (dk_at dksX0_back_0 4 rfl rfl)
theorem dX0_back_5 : decode cX0_back 5 = .ok (.getfield 25, 3) := dk_180 0 25 (dk_at dksX0_back_0 5 rfl rfl)
theorem dX0_back_8 : decode cX0_back 8 = .ok (.invokevirtual 62, 3) := dk_182 0 62 (dk_at dksX0_back_0 8 rfl rfl)
theorem dX0_back_11 : decode cX0_back 11 = .ok (.aload_n 0, 1) := dk_42 (dk_at dksX0_back_0 11 rfl rfl)
theorem dX0_back_12 : decode cX0_back 12 = .ok (.getfield 21, 3) := dk_180 0 21 (dk_at dksX0_back_0 12 rfl rfl)
theorem dX0_back_15 : decode cX0_back 15 = .ok (.getfield 199, 3) := dk_180 0 199 (dk_at dksX0_back_0 15 rfl rfl)
theorem dX0_back_18 : decode cX0_back 18 = .ok (.iconst 0, 1) := dk_3 (dk_at dksX0_back_0 18 rfl rfl)
theorem dX0_back_19 : decode cX0_back 19 = .ok (.iaload, 1) := dk_46 (dk_at dksX0_back_0 19 rfl rfl)
theorem dX0_back_20 : decode cX0_back 20 = .ok (.ireturn, 1) := dk_172 (dk_at dksX0_back_0 20 rfl rfl)
abbrev cX0_about : ByteArray := prog_1_method_100_code
def yX0_about : MethodName := ⟨RX0, "about", "(I)I"⟩
def dkwX0_about_4 : List UInt8 := [180, 0, 91, 172, 16, 254, 172]
abbrev dktX0_about_4 : List UInt8 := dkwX0_about_4 ++ []
def dkwX0_about_3 : List UInt8 := [172, 42, 180, 0, 21, 180, 0, 66, 6, 46, 172, 42, 180, 0, 21, 180, 0, 66, 7, 46, 172, 42]
abbrev dktX0_about_3 : List UInt8 := dkwX0_about_3 ++ dktX0_about_4
def dkwX0_about_2 : List UInt8 := [42, 182, 0, 69, 172, 42, 180, 0, 21, 180, 0, 66, 4, 46, 172, 42, 180, 0, 21, 180, 0, 66, 5, 46]
abbrev dktX0_about_2 : List UInt8 := dkwX0_about_2 ++ dktX0_about_3
def dkwX0_about_1 : List UInt8 := [170, 0, 0, 0, 0, 0, 89, 0, 0, 0, 0, 0, 0, 0, 5, 0, 0, 0, 39, 0, 0, 0, 44, 0, 0, 0, 54, 0, 0, 0, 64, 0, 0, 0, 74, 0, 0, 0, 84]
abbrev dktX0_about_1 : List UInt8 := dkwX0_about_1 ++ dktX0_about_2
def dkwX0_about_0 : List UInt8 := [27]
abbrev dktX0_about_0 : List UInt8 := dkwX0_about_0 ++ dktX0_about_1
theorem dksX0_about_0 : cX0_about.data.toList.drop 0 = dktX0_about_0 := by decide +kernel
theorem dksX0_about_1 : cX0_about.data.toList.drop 1 = dktX0_about_1 := dk_seg dksX0_about_0 1 rfl rfl
theorem dksX0_about_2 : cX0_about.data.toList.drop 40 = dktX0_about_2 := dk_seg dksX0_about_1 39 rfl rfl
theorem dksX0_about_3 : cX0_about.data.toList.drop 64 = dktX0_about_3 := dk_seg dksX0_about_2 24 rfl rfl
theorem dksX0_about_4 : cX0_about.data.toList.drop 86 = dktX0_about_4 := dk_seg dksX0_about_3 22 rfl rfl
theorem dX0_about_0 : decode cX0_about 0 = .ok (.iload_n 1, 1) := dk_27 (dk_at dksX0_about_0 0 rfl rfl)
theorem dX0_about_1 : decode cX0_about 1 = .ok (.tableswitch 89 0 5 #[39, 44, 54, 64, 74, 84], 39) := by decide +kernel
theorem dX0_about_40 : decode cX0_about 40 = .ok (.aload_n 0, 1) := dk_42 (dk_at dksX0_about_2 0 rfl rfl)
theorem dX0_about_41 : decode cX0_about 41 = .ok (.invokevirtual 69, 3) := dk_182 0 69 (dk_at dksX0_about_2 1 rfl rfl)
theorem dX0_about_44 : decode cX0_about 44 = .ok (.ireturn, 1) := dk_172 (dk_at dksX0_about_2 4 rfl rfl)
theorem dX0_about_45 : decode cX0_about 45 = .ok (.aload_n 0, 1) := dk_42 (dk_at dksX0_about_2 5 rfl rfl)
theorem dX0_about_46 : decode cX0_about 46 = .ok (.getfield 21, 3) := dk_180 0 21 (dk_at dksX0_about_2 6 rfl rfl)
theorem dX0_about_49 : decode cX0_about 49 = .ok (.getfield 66, 3) := dk_180 0 66 (dk_at dksX0_about_2 9 rfl rfl)
theorem dX0_about_52 : decode cX0_about 52 = .ok (.iconst 1, 1) := dk_4 (dk_at dksX0_about_2 12 rfl rfl)
theorem dX0_about_53 : decode cX0_about 53 = .ok (.iaload, 1) := dk_46 (dk_at dksX0_about_2 13 rfl rfl)
theorem dX0_about_54 : decode cX0_about 54 = .ok (.ireturn, 1) := dk_172 (dk_at dksX0_about_2 14 rfl rfl)
theorem dX0_about_55 : decode cX0_about 55 = .ok (.aload_n 0, 1) := dk_42 (dk_at dksX0_about_2 15 rfl rfl)
theorem dX0_about_56 : decode cX0_about 56 = .ok (.getfield 21, 3) := dk_180 0 21 (dk_at dksX0_about_2 16 rfl rfl)
theorem dX0_about_59 : decode cX0_about 59 = .ok (.getfield 66, 3) := dk_180 0 66 (dk_at dksX0_about_2 19 rfl rfl)
theorem dX0_about_62 : decode cX0_about 62 = .ok (.iconst 2, 1) := dk_5 (dk_at dksX0_about_2 22 rfl rfl)
theorem dX0_about_63 : decode cX0_about 63 = .ok (.iaload, 1) := dk_46 (dk_at dksX0_about_2 23 rfl rfl)
theorem dX0_about_64 : decode cX0_about 64 = .ok (.ireturn, 1) := dk_172 (dk_at dksX0_about_3 0 rfl rfl)
theorem dX0_about_65 : decode cX0_about 65 = .ok (.aload_n 0, 1) := dk_42 (dk_at dksX0_about_3 1 rfl rfl)
theorem dX0_about_66 : decode cX0_about 66 = .ok (.getfield 21, 3) := dk_180 0 21 (dk_at dksX0_about_3 2 rfl rfl)
theorem dX0_about_69 : decode cX0_about 69 = .ok (.getfield 66, 3) := dk_180 0 66 (dk_at dksX0_about_3 5 rfl rfl)
theorem dX0_about_72 : decode cX0_about 72 = .ok (.iconst 3, 1) := dk_6 (dk_at dksX0_about_3 8 rfl rfl)
theorem dX0_about_73 : decode cX0_about 73 = .ok (.iaload, 1) := dk_46 (dk_at dksX0_about_3 9 rfl rfl)
theorem dX0_about_74 : decode cX0_about 74 = .ok (.ireturn, 1) := dk_172 (dk_at dksX0_about_3 10 rfl rfl)
theorem dX0_about_75 : decode cX0_about 75 = .ok (.aload_n 0, 1) := dk_42 (dk_at dksX0_about_3 11 rfl rfl)
theorem dX0_about_76 : decode cX0_about 76 = .ok (.getfield 21, 3) := dk_180 0 21 (dk_at dksX0_about_3 12 rfl rfl)
theorem dX0_about_79 : decode cX0_about 79 = .ok (.getfield 66, 3) := dk_180 0 66 (dk_at dksX0_about_3 15 rfl rfl)
theorem dX0_about_82 : decode cX0_about 82 = .ok (.iconst 4, 1) := dk_7 (dk_at dksX0_about_3 18 rfl rfl)
theorem dX0_about_83 : decode cX0_about 83 = .ok (.iaload, 1) := dk_46 (dk_at dksX0_about_3 19 rfl rfl)
theorem dX0_about_84 : decode cX0_about 84 = .ok (.ireturn, 1) := dk_172 (dk_at dksX0_about_3 20 rfl rfl)
theorem dX0_about_85 : decode cX0_about 85 = .ok (.aload_n 0, 1) := dk_42 (dk_at dksX0_about_3 21 rfl rfl)
theorem dX0_about_86 : decode cX0_about 86 = .ok (.getfield 91, 3) := dk_180 0 91 (dk_at dksX0_about_4 0 rfl rfl)
theorem dX0_about_89 : decode cX0_about 89 = .ok (.ireturn, 1) := dk_172 (dk_at dksX0_about_4 3 rfl rfl)
theorem dX0_about_90 : decode cX0_about 90 = .ok (.bipush (-2), 2) := dk_16 254 (dk_at dksX0_about_4 4 rfl rfl)
theorem dX0_about_92 : decode cX0_about 92 = .ok (.ireturn, 1) := dk_172 (dk_at dksX0_about_4 6 rfl rfl)
theorem q135 : (Jvm.Cond.initialized "SownByArgument") ∈ lw_all := lw_g (lw_at lw_m1 1 rfl) rfl
theorem q171 : (Jvm.Cond.instantiable "SownByArgument" (13 : Nat)) ∈ lw_all := lw_g (lw_at lw_m1 37 rfl) rfl
theorem q173 : (Jvm.Cond.instanceMethod ({ cls := "SownByArgument", name := "<init>", desc := "()V" } : Jvm.MethodName)) ∈ lw_all := lw_g (lw_at lw_m1 39 rfl) rfl
theorem q174 : (Jvm.Cond.code ({ cls := "SownByArgument", name := "<init>", desc := "()V" } : Jvm.MethodName) prog_1_method_4_code (1 : Nat) (Option.none : Option Jvm.ClassFile.FieldType)) ∈ lw_all := lw_g (lw_at lw_m1 40 rfl) rfl
theorem q175 : (Jvm.Cond.methodLink "SownByArgument" (12 : Nat) ({ cls := "java/lang/Object", name := "<init>", desc := "()V" } : Jvm.MethodName)) ∈ lw_all := lw_g (lw_at lw_m1 41 rfl) rfl
theorem q178 : (Jvm.Cond.classLink "SownByArgument" (18 : Nat) "SownByArgument$State") ∈ lw_all := lw_g (lw_at lw_m1 44 rfl) rfl
theorem q180 : (Jvm.Cond.methodLink "SownByArgument" (20 : Nat) ({ cls := "SownByArgument$State", name := "<init>", desc := "()V" } : Jvm.MethodName)) ∈ lw_all := lw_g (lw_at lw_m1 46 rfl) rfl
theorem q195 : (Jvm.Cond.fieldLinkNest "SownByArgument" (66 : Nat) "SownByArgument$State" "n" "[I" "SownByArgument") ∈ lw_tbl := lw_at lw_m1 61 rfl
theorem q197 : (Jvm.Cond.fieldLinkNest "SownByArgument" (199 : Nat) "SownByArgument$State" "row" "[I" "SownByArgument") ∈ lw_tbl := lw_at lw_m1 63 rfl
theorem q199 : (Jvm.Cond.fieldLinkNest "SownByArgument" (77 : Nat) "SownByArgument$State" "tongue" "[I" "SownByArgument") ∈ lw_tbl := lw_at lw_m1 65 rfl
theorem q201 : (Jvm.Cond.fieldLinkNest "SownByArgument" (84 : Nat) "SownByArgument$State" "soil" "[I" "SownByArgument") ∈ lw_tbl := lw_at lw_m1 67 rfl
theorem q203 : (Jvm.Cond.fieldLinkNest "SownByArgument" (87 : Nat) "SownByArgument$State" "want" "[[I" "SownByArgument") ∈ lw_tbl := lw_at lw_m1 69 rfl
theorem q205 : (Jvm.Cond.fieldLinkNest "SownByArgument" (365 : Nat) "SownByArgument$State" "told" "[[I" "SownByArgument") ∈ lw_tbl := lw_at lw_m1 71 rfl
theorem q207 : (Jvm.Cond.fieldLinkNest "SownByArgument" (285 : Nat) "SownByArgument$State" "step" "[[I" "SownByArgument") ∈ lw_tbl := lw_at lw_m1 73 rfl
theorem q209 : (Jvm.Cond.fieldLinkNest "SownByArgument" (98 : Nat) "SownByArgument$State" "text" "[LSownByArgument$Text;" "SownByArgument") ∈ lw_tbl := lw_at lw_m1 75 rfl
theorem q228 : (Jvm.Cond.methodLink "SownByArgument" (62 : Nat) ({ cls := "SownByArgument$State", name := "be", desc := "(LSownByArgument$State;)V" } : Jvm.MethodName)) ∈ lw_all := lw_g (lw_at lw_m1 94 rfl) rfl
theorem q241 : (Jvm.Cond.fieldLink "SownByArgument" (21 : Nat) "SownByArgument" "now" "LSownByArgument$State;") ∈ lw_all := lw_g (lw_at lw_m1 107 rfl) rfl
theorem q242 : (Jvm.Cond.fieldLink "SownByArgument" (25 : Nat) "SownByArgument" "image" "LSownByArgument$State;") ∈ lw_all := lw_g (lw_at lw_m1 108 rfl) rfl
theorem q243 : (Jvm.Cond.fieldLink "SownByArgument" (28 : Nat) "SownByArgument" "tape" "[B") ∈ lw_all := lw_g (lw_at lw_m1 109 rfl) rfl
theorem q244 : (Jvm.Cond.fieldLink "SownByArgument" (91 : Nat) "SownByArgument" "taped" "I") ∈ lw_all := lw_g (lw_at lw_m1 110 rfl) rfl
theorem q245 : (Jvm.Cond.fieldLink "SownByArgument" (32 : Nat) "SownByArgument" "fault" "I") ∈ lw_all := lw_g (lw_at lw_m1 111 rfl) rfl
theorem q246 : (Jvm.Cond.fieldLink "SownByArgument" (36 : Nat) "SownByArgument" "faultAt" "I") ∈ lw_all := lw_g (lw_at lw_m1 112 rfl) rfl
theorem q247 : (Jvm.Cond.fieldLink "SownByArgument" (39 : Nat) "SownByArgument" "names" "[I") ∈ lw_all := lw_g (lw_at lw_m1 113 rfl) rfl
theorem q248 : (Jvm.Cond.fieldLink "SownByArgument" (43 : Nat) "SownByArgument" "saying" "[I") ∈ lw_all := lw_g (lw_at lw_m1 114 rfl) rfl
theorem q249 : (Jvm.Cond.fieldLink "SownByArgument" (46 : Nat) "SownByArgument" "line" "[I") ∈ lw_all := lw_g (lw_at lw_m1 115 rfl) rfl
theorem q250 : (Jvm.Cond.fieldLink "SownByArgument" (49 : Nat) "SownByArgument" "tried" "[I") ∈ lw_all := lw_g (lw_at lw_m1 116 rfl) rfl
theorem q251 : (Jvm.Cond.fieldLink "SownByArgument" (52 : Nat) "SownByArgument" "wins" "[Z") ∈ lw_all := lw_g (lw_at lw_m1 117 rfl) rfl
theorem q252 : (Jvm.Cond.fieldLink "SownByArgument" (56 : Nat) "SownByArgument" "gets" "[I") ∈ lw_all := lw_g (lw_at lw_m1 118 rfl) rfl
theorem q253 : (Jvm.Cond.fieldLink "SownByArgument" (59 : Nat) "SownByArgument" "price" "[I") ∈ lw_all := lw_g (lw_at lw_m1 119 rfl) rfl
theorem q254 : (Jvm.Cond.laysFinal "SownByArgument" "SownByArgument" "now" "LSownByArgument$State;") ∈ lw_all := lw_g (lw_at lw_m1 120 rfl) rfl
theorem q255 : (Jvm.Cond.soleField "SownByArgument" "now") ∈ lw_all := lw_g (lw_at lw_m1 121 rfl) rfl
theorem q256 : (Jvm.Cond.laysFinal "SownByArgument" "SownByArgument" "image" "LSownByArgument$State;") ∈ lw_all := lw_g (lw_at lw_m1 122 rfl) rfl
theorem q257 : (Jvm.Cond.soleField "SownByArgument" "image") ∈ lw_all := lw_g (lw_at lw_m1 123 rfl) rfl
theorem q258 : (Jvm.Cond.laysFinal "SownByArgument" "SownByArgument" "tape" "[B") ∈ lw_all := lw_g (lw_at lw_m1 124 rfl) rfl
theorem q259 : (Jvm.Cond.soleField "SownByArgument" "tape") ∈ lw_all := lw_g (lw_at lw_m1 125 rfl) rfl
theorem q260 : (Jvm.Cond.lays "SownByArgument" "SownByArgument" "taped" "I") ∈ lw_all := lw_g (lw_at lw_m1 126 rfl) rfl
theorem q261 : (Jvm.Cond.soleField "SownByArgument" "taped") ∈ lw_all := lw_g (lw_at lw_m1 127 rfl) rfl
theorem q262 : (Jvm.Cond.lays "SownByArgument" "SownByArgument" "fault" "I") ∈ lw_all := lw_g (lw_at lw_m1 128 rfl) rfl
theorem q263 : (Jvm.Cond.soleField "SownByArgument" "fault") ∈ lw_all := lw_g (lw_at lw_m1 129 rfl) rfl
theorem q264 : (Jvm.Cond.lays "SownByArgument" "SownByArgument" "faultAt" "I") ∈ lw_all := lw_g (lw_at lw_m1 130 rfl) rfl
theorem q265 : (Jvm.Cond.soleField "SownByArgument" "faultAt") ∈ lw_all := lw_g (lw_at lw_m1 131 rfl) rfl
theorem q266 : (Jvm.Cond.laysFinal "SownByArgument" "SownByArgument" "names" "[I") ∈ lw_all := lw_g (lw_at lw_m1 132 rfl) rfl
theorem q267 : (Jvm.Cond.soleField "SownByArgument" "names") ∈ lw_all := lw_g (lw_at lw_m1 133 rfl) rfl
theorem q268 : (Jvm.Cond.laysFinal "SownByArgument" "SownByArgument" "saying" "[I") ∈ lw_all := lw_g (lw_at lw_m1 134 rfl) rfl
theorem q269 : (Jvm.Cond.soleField "SownByArgument" "saying") ∈ lw_all := lw_g (lw_at lw_m1 135 rfl) rfl
theorem q270 : (Jvm.Cond.laysFinal "SownByArgument" "SownByArgument" "line" "[I") ∈ lw_all := lw_g (lw_at lw_m1 136 rfl) rfl
theorem q271 : (Jvm.Cond.soleField "SownByArgument" "line") ∈ lw_all := lw_g (lw_at lw_m1 137 rfl) rfl
theorem q272 : (Jvm.Cond.laysFinal "SownByArgument" "SownByArgument" "tried" "[I") ∈ lw_all := lw_g (lw_at lw_m1 138 rfl) rfl
theorem q273 : (Jvm.Cond.soleField "SownByArgument" "tried") ∈ lw_all := lw_g (lw_at lw_m1 139 rfl) rfl
theorem q274 : (Jvm.Cond.laysFinal "SownByArgument" "SownByArgument" "wins" "[Z") ∈ lw_all := lw_g (lw_at lw_m1 140 rfl) rfl
theorem q275 : (Jvm.Cond.soleField "SownByArgument" "wins") ∈ lw_all := lw_g (lw_at lw_m1 141 rfl) rfl
theorem q276 : (Jvm.Cond.laysFinal "SownByArgument" "SownByArgument" "gets" "[I") ∈ lw_all := lw_g (lw_at lw_m1 142 rfl) rfl
theorem q277 : (Jvm.Cond.soleField "SownByArgument" "gets") ∈ lw_all := lw_g (lw_at lw_m1 143 rfl) rfl
theorem q278 : (Jvm.Cond.laysFinal "SownByArgument" "SownByArgument" "price" "[I") ∈ lw_all := lw_g (lw_at lw_m1 144 rfl) rfl
theorem q279 : (Jvm.Cond.soleField "SownByArgument" "price") ∈ lw_all := lw_g (lw_at lw_m1 145 rfl) rfl
theorem q280 : (Jvm.Cond.superclass "SownByArgument" "java/lang/Object") ∈ lw_all := lw_g (lw_at lw_m1 146 rfl) rfl
theorem q284 : (Jvm.Cond.instanceMethod ({ cls := "SownByArgument", name := "farmer", desc := "(I)I" } : Jvm.MethodName)) ∈ lw_all := lw_g (lw_at lw_m1 150 rfl) rfl
theorem q285 : (Jvm.Cond.selects "SownByArgument" ({ cls := "SownByArgument", name := "farmer", desc := "(I)I" } : Jvm.MethodName) ({ cls := "SownByArgument", name := "farmer", desc := "(I)I" } : Jvm.MethodName)) ∈ lw_all := lw_g (lw_at lw_m1 151 rfl) rfl
theorem q286 : (Jvm.Cond.code ({ cls := "SownByArgument", name := "farmer", desc := "(I)I" } : Jvm.MethodName) prog_1_method_8_code (3 : Nat) (Option.some Jvm.ClassFile.FieldType.int)) ∈ lw_all := lw_g (lw_at lw_m1 152 rfl) rfl
theorem q287 : (Jvm.Cond.methodLink "SownByArgument" (69 : Nat) ({ cls := "SownByArgument", name := "farmers", desc := "()I" } : Jvm.MethodName)) ∈ lw_all := lw_g (lw_at lw_m1 153 rfl) rfl
theorem q288 : (Jvm.Cond.privateMethod ({ cls := "SownByArgument", name := "farmers", desc := "()I" } : Jvm.MethodName)) ∈ lw_tbl := lw_at lw_m1 154 rfl
theorem q289 : (Jvm.Cond.instanceMethod ({ cls := "SownByArgument", name := "farmers", desc := "()I" } : Jvm.MethodName)) ∈ lw_all := lw_g (lw_at lw_m1 155 rfl) rfl
theorem q290 : (Jvm.Cond.code ({ cls := "SownByArgument", name := "farmers", desc := "()I" } : Jvm.MethodName) prog_1_method_5_code (1 : Nat) (Option.some Jvm.ClassFile.FieldType.int)) ∈ lw_all := lw_g (lw_at lw_m1 156 rfl) rfl
theorem q291 : (Jvm.Cond.methodLink "SownByArgument" (73 : Nat) ({ cls := "SownByArgument", name := "in", desc := "(III)Z" } : Jvm.MethodName)) ∈ lw_all := lw_g (lw_at lw_m1 157 rfl) rfl
theorem q292 : (Jvm.Cond.static ({ cls := "SownByArgument", name := "in", desc := "(III)Z" } : Jvm.MethodName)) ∈ lw_all := lw_g (lw_at lw_m1 158 rfl) rfl
theorem q293 : (Jvm.Cond.code ({ cls := "SownByArgument", name := "in", desc := "(III)Z" } : Jvm.MethodName) prog_1_method_1_code (3 : Nat) (Option.some Jvm.ClassFile.FieldType.boolean)) ∈ lw_all := lw_g (lw_at lw_m1 159 rfl) rfl
theorem q295 : (Jvm.Cond.instanceMethod ({ cls := "SownByArgument", name := "soil", desc := "(II)Z" } : Jvm.MethodName)) ∈ lw_all := lw_g (lw_at lw_m1 161 rfl) rfl
theorem q296 : (Jvm.Cond.selects "SownByArgument" ({ cls := "SownByArgument", name := "soil", desc := "(II)Z" } : Jvm.MethodName) ({ cls := "SownByArgument", name := "soil", desc := "(II)Z" } : Jvm.MethodName)) ∈ lw_all := lw_g (lw_at lw_m1 162 rfl) rfl
theorem q297 : (Jvm.Cond.code ({ cls := "SownByArgument", name := "soil", desc := "(II)Z" } : Jvm.MethodName) prog_1_method_9_code (3 : Nat) (Option.some Jvm.ClassFile.FieldType.boolean)) ∈ lw_all := lw_g (lw_at lw_m1 163 rfl) rfl
theorem q298 : (Jvm.Cond.methodLink "SownByArgument" (80 : Nat) ({ cls := "SownByArgument", name := "isField", desc := "(I)Z" } : Jvm.MethodName)) ∈ lw_all := lw_g (lw_at lw_m1 164 rfl) rfl
theorem q299 : (Jvm.Cond.static ({ cls := "SownByArgument", name := "isField", desc := "(I)Z" } : Jvm.MethodName)) ∈ lw_all := lw_g (lw_at lw_m1 165 rfl) rfl
theorem q300 : (Jvm.Cond.code ({ cls := "SownByArgument", name := "isField", desc := "(I)Z" } : Jvm.MethodName) prog_1_method_7_code (1 : Nat) (Option.some Jvm.ClassFile.FieldType.boolean)) ∈ lw_all := lw_g (lw_at lw_m1 166 rfl) rfl
theorem q302 : (Jvm.Cond.instanceMethod ({ cls := "SownByArgument", name := "wants", desc := "(III)Z" } : Jvm.MethodName)) ∈ lw_all := lw_g (lw_at lw_m1 168 rfl) rfl
theorem q303 : (Jvm.Cond.selects "SownByArgument" ({ cls := "SownByArgument", name := "wants", desc := "(III)Z" } : Jvm.MethodName) ({ cls := "SownByArgument", name := "wants", desc := "(III)Z" } : Jvm.MethodName)) ∈ lw_all := lw_g (lw_at lw_m1 169 rfl) rfl
theorem q304 : (Jvm.Cond.code ({ cls := "SownByArgument", name := "wants", desc := "(III)Z" } : Jvm.MethodName) prog_1_method_10_code (4 : Nat) (Option.some Jvm.ClassFile.FieldType.boolean)) ∈ lw_all := lw_g (lw_at lw_m1 170 rfl) rfl
theorem q306 : (Jvm.Cond.instanceMethod ({ cls := "SownByArgument", name := "feed", desc := "(IIIII)I" } : Jvm.MethodName)) ∈ lw_all := lw_g (lw_at lw_m1 172 rfl) rfl
theorem q307 : (Jvm.Cond.selects "SownByArgument" ({ cls := "SownByArgument", name := "feed", desc := "(IIIII)I" } : Jvm.MethodName) ({ cls := "SownByArgument", name := "feed", desc := "(IIIII)I" } : Jvm.MethodName)) ∈ lw_all := lw_g (lw_at lw_m1 173 rfl) rfl
theorem q308 : (Jvm.Cond.code ({ cls := "SownByArgument", name := "feed", desc := "(IIIII)I" } : Jvm.MethodName) prog_1_method_12_code (6 : Nat) (Option.some Jvm.ClassFile.FieldType.int)) ∈ lw_all := lw_g (lw_at lw_m1 174 rfl) rfl
theorem q309 : (Jvm.Cond.methodLink "SownByArgument" (94 : Nat) ({ cls := "SownByArgument", name := "put", desc := "(I)V" } : Jvm.MethodName)) ∈ lw_all := lw_g (lw_at lw_m1 175 rfl) rfl
theorem q310 : (Jvm.Cond.privateMethod ({ cls := "SownByArgument", name := "put", desc := "(I)V" } : Jvm.MethodName)) ∈ lw_tbl := lw_at lw_m1 176 rfl
theorem q311 : (Jvm.Cond.instanceMethod ({ cls := "SownByArgument", name := "put", desc := "(I)V" } : Jvm.MethodName)) ∈ lw_all := lw_g (lw_at lw_m1 177 rfl) rfl
theorem q312 : (Jvm.Cond.code ({ cls := "SownByArgument", name := "put", desc := "(I)V" } : Jvm.MethodName) prog_1_method_11_code (3 : Nat) (Option.none : Option Jvm.ClassFile.FieldType)) ∈ lw_all := lw_g (lw_at lw_m1 178 rfl) rfl
theorem q314 : (Jvm.Cond.instanceMethod ({ cls := "SownByArgument", name := "end", desc := "(I)I" } : Jvm.MethodName)) ∈ lw_all := lw_g (lw_at lw_m1 180 rfl) rfl
theorem q315 : (Jvm.Cond.selects "SownByArgument" ({ cls := "SownByArgument", name := "end", desc := "(I)I" } : Jvm.MethodName) ({ cls := "SownByArgument", name := "end", desc := "(I)I" } : Jvm.MethodName)) ∈ lw_all := lw_g (lw_at lw_m1 181 rfl) rfl
theorem q316 : (Jvm.Cond.code ({ cls := "SownByArgument", name := "end", desc := "(I)I" } : Jvm.MethodName) prog_1_method_13_code (2 : Nat) (Option.some Jvm.ClassFile.FieldType.int)) ∈ lw_all := lw_g (lw_at lw_m1 182 rfl) rfl
theorem q318 : (Jvm.Cond.instanceMethod ({ cls := "SownByArgument", name := "text", desc := "()I" } : Jvm.MethodName)) ∈ lw_all := lw_g (lw_at lw_m1 184 rfl) rfl
theorem q319 : (Jvm.Cond.selects "SownByArgument" ({ cls := "SownByArgument", name := "text", desc := "()I" } : Jvm.MethodName) ({ cls := "SownByArgument", name := "text", desc := "()I" } : Jvm.MethodName)) ∈ lw_all := lw_g (lw_at lw_m1 185 rfl) rfl
theorem q320 : (Jvm.Cond.codeWith ({ cls := "SownByArgument", name := "text", desc := "()I" } : Jvm.MethodName) prog_1_method_14_code (5 : Nat) (Option.some Jvm.ClassFile.FieldType.int) [((30 : Nat), (62 : Nat), (70 : Nat), (111 : Nat)), ((30 : Nat), (62 : Nat), (96 : Nat), (0 : Nat)), ((70 : Nat), (89 : Nat), (96 : Nat), (0 : Nat)), ((96 : Nat), (98 : Nat), (96 : Nat), (0 : Nat))]) ∈ lw_all := lw_g (lw_at lw_m1 186 rfl) rfl
theorem q321 : (Jvm.Cond.classLink "SownByArgument" (111 : Nat) "SownByArgument$Wrong") ∈ lw_all := lw_g (lw_at lw_m1 187 rfl) rfl
theorem q322 : (Jvm.Cond.classLink "SownByArgument" (102 : Nat) "SownByArgument$Tokens") ∈ lw_all := lw_g (lw_at lw_m1 188 rfl) rfl
theorem q324 : (Jvm.Cond.methodLink "SownByArgument" (104 : Nat) ({ cls := "SownByArgument$Tokens", name := "<init>", desc := "([BI)V" } : Jvm.MethodName)) ∈ lw_all := lw_g (lw_at lw_m1 190 rfl) rfl
theorem q353 : (Jvm.Cond.methodLink "SownByArgument" (107 : Nat) ({ cls := "SownByArgument$Tokens", name := "read", desc := "()LSownByArgument$Text;" } : Jvm.MethodName)) ∈ lw_all := lw_g (lw_at lw_m1 219 rfl) rfl
theorem q390 : (Jvm.Cond.fieldLinkNest "SownByArgument" (153 : Nat) "SownByArgument$Text" "worth" "LSownByArgument$Sum;" "SownByArgument") ∈ lw_tbl := lw_at lw_m2 16 rfl
theorem q393 : (Jvm.Cond.fieldLinkNest "SownByArgument" (142 : Nat) "SownByArgument$Text" "table" "[I" "SownByArgument") ∈ lw_tbl := lw_at lw_m2 19 rfl
theorem q395 : (Jvm.Cond.fieldLinkNest "SownByArgument" (127 : Nat) "SownByArgument$Text" "claims" "I" "SownByArgument") ∈ lw_tbl := lw_at lw_m2 21 rfl
theorem q399 : (Jvm.Cond.fieldLinkNest "SownByArgument" (262 : Nat) "SownByArgument$Text" "doings" "Ljava/util/ArrayList;" "SownByArgument") ∈ lw_tbl := lw_at lw_m2 25 rfl
theorem q529 : (Jvm.Cond.fieldLinkNest "SownByArgument" (113 : Nat) "SownByArgument$Wrong" "fault" "I" "SownByArgument") ∈ lw_tbl := lw_at lw_m2 155 rfl
theorem q531 : (Jvm.Cond.fieldLinkNest "SownByArgument" (114 : Nat) "SownByArgument$Wrong" "place" "I" "SownByArgument") ∈ lw_tbl := lw_at lw_m2 157 rfl
theorem q760 : (Jvm.Cond.selects "SownByArgument" ({ cls := "java/lang/Object", name := "getClass", desc := "()Ljava/lang/Class;" } : Jvm.MethodName) ({ cls := "java/lang/Object", name := "getClass", desc := "()Ljava/lang/Class;" } : Jvm.MethodName)) ∈ lw_all := lw_g (lw_at lw_m3 146 rfl) rfl
theorem q988 : (Jvm.Cond.instanceMethod ({ cls := "SownByArgument", name := "fault", desc := "(I)I" } : Jvm.MethodName)) ∈ lw_all := lw_g (lw_at lw_m4 134 rfl) rfl
theorem q989 : (Jvm.Cond.selects "SownByArgument" ({ cls := "SownByArgument", name := "fault", desc := "(I)I" } : Jvm.MethodName) ({ cls := "SownByArgument", name := "fault", desc := "(I)I" } : Jvm.MethodName)) ∈ lw_all := lw_g (lw_at lw_m4 135 rfl) rfl
theorem q990 : (Jvm.Cond.code ({ cls := "SownByArgument", name := "fault", desc := "(I)I" } : Jvm.MethodName) prog_1_method_15_code (2 : Nat) (Option.some Jvm.ClassFile.FieldType.int)) ∈ lw_all := lw_g (lw_at lw_m4 136 rfl) rfl
theorem q992 : (Jvm.Cond.instanceMethod ({ cls := "SownByArgument", name := "by", desc := "(I)Z" } : Jvm.MethodName)) ∈ lw_all := lw_g (lw_at lw_m4 138 rfl) rfl
theorem q993 : (Jvm.Cond.selects "SownByArgument" ({ cls := "SownByArgument", name := "by", desc := "(I)Z" } : Jvm.MethodName) ({ cls := "SownByArgument", name := "by", desc := "(I)Z" } : Jvm.MethodName)) ∈ lw_all := lw_g (lw_at lw_m4 139 rfl) rfl
theorem q994 : (Jvm.Cond.code ({ cls := "SownByArgument", name := "by", desc := "(I)Z" } : Jvm.MethodName) prog_1_method_17_code (2 : Nat) (Option.some Jvm.ClassFile.FieldType.boolean)) ∈ lw_all := lw_g (lw_at lw_m4 140 rfl) rfl
theorem q995 : (Jvm.Cond.methodLink "SownByArgument" (117 : Nat) ({ cls := "SownByArgument", name := "isText", desc := "(I)Z" } : Jvm.MethodName)) ∈ lw_all := lw_g (lw_at lw_m4 141 rfl) rfl
theorem q996 : (Jvm.Cond.privateMethod ({ cls := "SownByArgument", name := "isText", desc := "(I)Z" } : Jvm.MethodName)) ∈ lw_tbl := lw_at lw_m4 142 rfl
theorem q997 : (Jvm.Cond.instanceMethod ({ cls := "SownByArgument", name := "isText", desc := "(I)Z" } : Jvm.MethodName)) ∈ lw_all := lw_g (lw_at lw_m4 143 rfl) rfl
theorem q998 : (Jvm.Cond.code ({ cls := "SownByArgument", name := "isText", desc := "(I)Z" } : Jvm.MethodName) prog_1_method_16_code (2 : Nat) (Option.some Jvm.ClassFile.FieldType.boolean)) ∈ lw_all := lw_g (lw_at lw_m4 144 rfl) rfl
theorem q1000 : (Jvm.Cond.instanceMethod ({ cls := "SownByArgument", name := "spring", desc := "(I)I" } : Jvm.MethodName)) ∈ lw_all := lw_g (lw_at lw_m4 146 rfl) rfl
theorem q1001 : (Jvm.Cond.selects "SownByArgument" ({ cls := "SownByArgument", name := "spring", desc := "(I)I" } : Jvm.MethodName) ({ cls := "SownByArgument", name := "spring", desc := "(I)I" } : Jvm.MethodName)) ∈ lw_all := lw_g (lw_at lw_m4 147 rfl) rfl
theorem q1002 : (Jvm.Cond.code ({ cls := "SownByArgument", name := "spring", desc := "(I)I" } : Jvm.MethodName) prog_1_method_32_code (4 : Nat) (Option.some Jvm.ClassFile.FieldType.int)) ∈ lw_all := lw_g (lw_at lw_m4 148 rfl) rfl
theorem q1003 : (Jvm.Cond.methodLink "SownByArgument" (202 : Nat) ({ cls := "SownByArgument$State", name := "keeps", desc := "()V" } : Jvm.MethodName)) ∈ lw_all := lw_g (lw_at lw_m4 149 rfl) rfl
theorem q1007 : (Jvm.Cond.methodLink "SownByArgument" (205 : Nat) ({ cls := "SownByArgument", name := "passes", desc := "([I)I" } : Jvm.MethodName)) ∈ lw_all := lw_g (lw_at lw_m4 153 rfl) rfl
theorem q1008 : (Jvm.Cond.privateMethod ({ cls := "SownByArgument", name := "passes", desc := "([I)I" } : Jvm.MethodName)) ∈ lw_tbl := lw_at lw_m4 154 rfl
theorem q1009 : (Jvm.Cond.instanceMethod ({ cls := "SownByArgument", name := "passes", desc := "([I)I" } : Jvm.MethodName)) ∈ lw_all := lw_g (lw_at lw_m4 155 rfl) rfl
theorem q1010 : (Jvm.Cond.code ({ cls := "SownByArgument", name := "passes", desc := "([I)I" } : Jvm.MethodName) prog_1_method_31_code (8 : Nat) (Option.some Jvm.ClassFile.FieldType.int)) ∈ lw_all := lw_g (lw_at lw_m4 156 rfl) rfl
theorem q1011 : (Jvm.Cond.methodLink "SownByArgument" (188 : Nat) ({ cls := "SownByArgument", name := "isRefuted", desc := "([II)Z" } : Jvm.MethodName)) ∈ lw_all := lw_g (lw_at lw_m4 157 rfl) rfl
theorem q1012 : (Jvm.Cond.privateMethod ({ cls := "SownByArgument", name := "isRefuted", desc := "([II)Z" } : Jvm.MethodName)) ∈ lw_tbl := lw_at lw_m4 158 rfl
theorem q1013 : (Jvm.Cond.instanceMethod ({ cls := "SownByArgument", name := "isRefuted", desc := "([II)Z" } : Jvm.MethodName)) ∈ lw_all := lw_g (lw_at lw_m4 159 rfl) rfl
theorem q1014 : (Jvm.Cond.code ({ cls := "SownByArgument", name := "isRefuted", desc := "([II)Z" } : Jvm.MethodName) prog_1_method_29_code (4 : Nat) (Option.some Jvm.ClassFile.FieldType.boolean)) ∈ lw_all := lw_g (lw_at lw_m4 160 rfl) rfl
theorem q1015 : (Jvm.Cond.methodLink "SownByArgument" (132 : Nat) ({ cls := "SownByArgument", name := "claims", desc := "()I" } : Jvm.MethodName)) ∈ lw_all := lw_g (lw_at lw_m4 161 rfl) rfl
theorem q1016 : (Jvm.Cond.privateMethod ({ cls := "SownByArgument", name := "claims", desc := "()I" } : Jvm.MethodName)) ∈ lw_tbl := lw_at lw_m4 162 rfl
theorem q1017 : (Jvm.Cond.instanceMethod ({ cls := "SownByArgument", name := "claims", desc := "()I" } : Jvm.MethodName)) ∈ lw_all := lw_g (lw_at lw_m4 163 rfl) rfl
theorem q1018 : (Jvm.Cond.code ({ cls := "SownByArgument", name := "claims", desc := "()I" } : Jvm.MethodName) prog_1_method_19_code (1 : Nat) (Option.some Jvm.ClassFile.FieldType.int)) ∈ lw_all := lw_g (lw_at lw_m4 164 rfl) rfl
theorem q1019 : (Jvm.Cond.methodLink "SownByArgument" (124 : Nat) ({ cls := "SownByArgument", name := "rules", desc := "()LSownByArgument$Text;" } : Jvm.MethodName)) ∈ lw_all := lw_g (lw_at lw_m4 165 rfl) rfl
theorem q1020 : (Jvm.Cond.privateMethod ({ cls := "SownByArgument", name := "rules", desc := "()LSownByArgument$Text;" } : Jvm.MethodName)) ∈ lw_tbl := lw_at lw_m4 166 rfl
theorem q1021 : (Jvm.Cond.instanceMethod ({ cls := "SownByArgument", name := "rules", desc := "()LSownByArgument$Text;" } : Jvm.MethodName)) ∈ lw_all := lw_g (lw_at lw_m4 167 rfl) rfl
theorem q1022 : (Jvm.Cond.code ({ cls := "SownByArgument", name := "rules", desc := "()LSownByArgument$Text;" } : Jvm.MethodName) prog_1_method_18_code (1 : Nat) (Option.some (Jvm.ClassFile.FieldType.object "SownByArgument$Text"))) ∈ lw_all := lw_g (lw_at lw_m4 168 rfl) rfl
theorem q1023 : (Jvm.Cond.fieldLink "SownByArgument" (120 : Nat) "SownByArgument" "NOTHING" "LSownByArgument$Text;") ∈ lw_all := lw_g (lw_at lw_m4 169 rfl) rfl
theorem q1024 : (Jvm.Cond.laysStatic "SownByArgument" "NOTHING" "LSownByArgument$Text;") ∈ lw_tbl := lw_at lw_m4 170 rfl
theorem q1025 : (Jvm.Cond.methodLink "SownByArgument" (173 : Nat) ({ cls := "SownByArgument", name := "drawn", desc := "([II)I" } : Jvm.MethodName)) ∈ lw_all := lw_g (lw_at lw_m4 171 rfl) rfl
theorem q1026 : (Jvm.Cond.static ({ cls := "SownByArgument", name := "drawn", desc := "([II)I" } : Jvm.MethodName)) ∈ lw_all := lw_g (lw_at lw_m4 172 rfl) rfl
theorem q1027 : (Jvm.Cond.code ({ cls := "SownByArgument", name := "drawn", desc := "([II)I" } : Jvm.MethodName) prog_1_method_27_code (3 : Nat) (Option.some Jvm.ClassFile.FieldType.int)) ∈ lw_all := lw_g (lw_at lw_m4 173 rfl) rfl
theorem q1028 : (Jvm.Cond.methodLink "SownByArgument" (138 : Nat) ({ cls := "SownByArgument", name := "has", desc := "(II)Z" } : Jvm.MethodName)) ∈ lw_all := lw_g (lw_at lw_m4 174 rfl) rfl
theorem q1029 : (Jvm.Cond.static ({ cls := "SownByArgument", name := "has", desc := "(II)Z" } : Jvm.MethodName)) ∈ lw_all := lw_g (lw_at lw_m4 175 rfl) rfl
theorem q1030 : (Jvm.Cond.code ({ cls := "SownByArgument", name := "has", desc := "(II)Z" } : Jvm.MethodName) prog_1_method_2_code (2 : Nat) (Option.some Jvm.ClassFile.FieldType.boolean)) ∈ lw_all := lw_g (lw_at lw_m4 176 rfl) rfl
theorem q1031 : (Jvm.Cond.methodLink "SownByArgument" (177 : Nat) ({ cls := "SownByArgument", name := "mayHold", desc := "([II)Z" } : Jvm.MethodName)) ∈ lw_all := lw_g (lw_at lw_m4 177 rfl) rfl
theorem q1032 : (Jvm.Cond.privateMethod ({ cls := "SownByArgument", name := "mayHold", desc := "([II)Z" } : Jvm.MethodName)) ∈ lw_tbl := lw_at lw_m4 178 rfl
theorem q1033 : (Jvm.Cond.instanceMethod ({ cls := "SownByArgument", name := "mayHold", desc := "([II)Z" } : Jvm.MethodName)) ∈ lw_all := lw_g (lw_at lw_m4 179 rfl) rfl
theorem q1034 : (Jvm.Cond.code ({ cls := "SownByArgument", name := "mayHold", desc := "([II)Z" } : Jvm.MethodName) prog_1_method_25_code (3 : Nat) (Option.some Jvm.ClassFile.FieldType.boolean)) ∈ lw_all := lw_g (lw_at lw_m4 180 rfl) rfl
theorem q1035 : (Jvm.Cond.methodLink "SownByArgument" (145 : Nat) ({ cls := "SownByArgument", name := "heldNow", desc := "([I)I" } : Jvm.MethodName)) ∈ lw_all := lw_g (lw_at lw_m4 181 rfl) rfl
theorem q1036 : (Jvm.Cond.privateMethod ({ cls := "SownByArgument", name := "heldNow", desc := "([I)I" } : Jvm.MethodName)) ∈ lw_tbl := lw_at lw_m4 182 rfl
theorem q1037 : (Jvm.Cond.instanceMethod ({ cls := "SownByArgument", name := "heldNow", desc := "([I)I" } : Jvm.MethodName)) ∈ lw_all := lw_g (lw_at lw_m4 183 rfl) rfl
theorem q1038 : (Jvm.Cond.code ({ cls := "SownByArgument", name := "heldNow", desc := "([I)I" } : Jvm.MethodName) prog_1_method_24_code (2 : Nat) (Option.some Jvm.ClassFile.FieldType.int)) ∈ lw_all := lw_g (lw_at lw_m4 184 rfl) rfl
theorem q1039 : (Jvm.Cond.methodLink "SownByArgument" (134 : Nat) ({ cls := "SownByArgument", name := "allClaims", desc := "()I" } : Jvm.MethodName)) ∈ lw_all := lw_g (lw_at lw_m4 185 rfl) rfl
theorem q1040 : (Jvm.Cond.privateMethod ({ cls := "SownByArgument", name := "allClaims", desc := "()I" } : Jvm.MethodName)) ∈ lw_tbl := lw_at lw_m4 186 rfl
theorem q1041 : (Jvm.Cond.instanceMethod ({ cls := "SownByArgument", name := "allClaims", desc := "()I" } : Jvm.MethodName)) ∈ lw_all := lw_g (lw_at lw_m4 187 rfl) rfl
theorem q1042 : (Jvm.Cond.code ({ cls := "SownByArgument", name := "allClaims", desc := "()I" } : Jvm.MethodName) prog_1_method_21_code (1 : Nat) (Option.some Jvm.ClassFile.FieldType.int)) ∈ lw_all := lw_g (lw_at lw_m4 188 rfl) rfl
theorem q1043 : (Jvm.Cond.methodLink "SownByArgument" (149 : Nat) ({ cls := "SownByArgument", name := "worldsOf", desc := "(I)I" } : Jvm.MethodName)) ∈ lw_all := lw_g (lw_at lw_m4 189 rfl) rfl
theorem q1044 : (Jvm.Cond.privateMethod ({ cls := "SownByArgument", name := "worldsOf", desc := "(I)I" } : Jvm.MethodName)) ∈ lw_tbl := lw_at lw_m4 190 rfl
theorem q1045 : (Jvm.Cond.instanceMethod ({ cls := "SownByArgument", name := "worldsOf", desc := "(I)I" } : Jvm.MethodName)) ∈ lw_all := lw_g (lw_at lw_m4 191 rfl) rfl
theorem q1046 : (Jvm.Cond.code ({ cls := "SownByArgument", name := "worldsOf", desc := "(I)I" } : Jvm.MethodName) prog_1_method_23_code (4 : Nat) (Option.some Jvm.ClassFile.FieldType.int)) ∈ lw_all := lw_g (lw_at lw_m4 192 rfl) rfl
theorem q1047 : (Jvm.Cond.constant "SownByArgument" (137 : Nat) (65535 : Int32)) ∈ lw_all := lw_g (lw_at lw_m4 193 rfl) rfl
theorem q1048 : (Jvm.Cond.methodLink "SownByArgument" (181 : Nat) ({ cls := "java/lang/Math", name := "min", desc := "(II)I" } : Jvm.MethodName)) ∈ lw_all := lw_g (lw_at lw_m4 194 rfl) rfl
theorem q1049 : (Jvm.Cond.methodLink "SownByArgument" (191 : Nat) ({ cls := "SownByArgument", name := "bestOf", desc := "([III)I" } : Jvm.MethodName)) ∈ lw_all := lw_g (lw_at lw_m4 195 rfl) rfl
theorem q1050 : (Jvm.Cond.privateMethod ({ cls := "SownByArgument", name := "bestOf", desc := "([III)I" } : Jvm.MethodName)) ∈ lw_tbl := lw_at lw_m4 196 rfl
theorem q1051 : (Jvm.Cond.instanceMethod ({ cls := "SownByArgument", name := "bestOf", desc := "([III)I" } : Jvm.MethodName)) ∈ lw_all := lw_g (lw_at lw_m4 197 rfl) rfl
theorem q1052 : (Jvm.Cond.code ({ cls := "SownByArgument", name := "bestOf", desc := "([III)I" } : Jvm.MethodName) prog_1_method_30_code (6 : Nat) (Option.some Jvm.ClassFile.FieldType.int)) ∈ lw_all := lw_g (lw_at lw_m4 198 rfl) rfl
theorem q1053 : (Jvm.Cond.methodLink "SownByArgument" (184 : Nat) ({ cls := "SownByArgument", name := "worthBy", desc := "(LSownByArgument$Text;[III)I" } : Jvm.MethodName)) ∈ lw_all := lw_g (lw_at lw_m4 199 rfl) rfl
theorem q1054 : (Jvm.Cond.privateMethod ({ cls := "SownByArgument", name := "worthBy", desc := "(LSownByArgument$Text;[III)I" } : Jvm.MethodName)) ∈ lw_tbl := lw_at lw_m4 200 rfl
theorem q1055 : (Jvm.Cond.instanceMethod ({ cls := "SownByArgument", name := "worthBy", desc := "(LSownByArgument$Text;[III)I" } : Jvm.MethodName)) ∈ lw_all := lw_g (lw_at lw_m4 201 rfl) rfl
theorem q1056 : (Jvm.Cond.code ({ cls := "SownByArgument", name := "worthBy", desc := "(LSownByArgument$Text;[III)I" } : Jvm.MethodName) prog_1_method_26_code (7 : Nat) (Option.some Jvm.ClassFile.FieldType.int)) ∈ lw_all := lw_g (lw_at lw_m4 202 rfl) rfl
theorem q1057 : (Jvm.Cond.interfaceEntry "SownByArgument" (157 : Nat)) ∈ lw_tbl := lw_at lw_m4 203 rfl
theorem q1058 : (Jvm.Cond.methodLink "SownByArgument" (157 : Nat) ({ cls := "SownByArgument$Sum", name := "of", desc := "([I)J" } : Jvm.MethodName)) ∈ lw_all := lw_g (lw_at lw_m4 204 rfl) rfl
theorem q1059 : (Jvm.Cond.methodLink "SownByArgument" (163 : Nat) ({ cls := "SownByArgument", name := "held", desc := "(JII)I" } : Jvm.MethodName)) ∈ lw_all := lw_g (lw_at lw_m4 205 rfl) rfl
theorem q1060 : (Jvm.Cond.static ({ cls := "SownByArgument", name := "held", desc := "(JII)I" } : Jvm.MethodName)) ∈ lw_all := lw_g (lw_at lw_m4 206 rfl) rfl
theorem q1061 : (Jvm.Cond.code ({ cls := "SownByArgument", name := "held", desc := "(JII)I" } : Jvm.MethodName) prog_1_method_3_code (4 : Nat) (Option.some Jvm.ClassFile.FieldType.int)) ∈ lw_all := lw_g (lw_at lw_m4 207 rfl) rfl
theorem q1062 : (Jvm.Cond.methodLink "SownByArgument" (3 : Nat) ({ cls := "java/lang/Math", name := "min", desc := "(JJ)J" } : Jvm.MethodName)) ∈ lw_all := lw_g (lw_at lw_m4 208 rfl) rfl
theorem q1063 : (Jvm.Cond.methodLink "SownByArgument" (9 : Nat) ({ cls := "java/lang/Math", name := "max", desc := "(JJ)J" } : Jvm.MethodName)) ∈ lw_all := lw_g (lw_at lw_m4 209 rfl) rfl
theorem q1064 : (Jvm.Cond.methodLink "SownByArgument" (195 : Nat) ({ cls := "SownByArgument", name := "writes", desc := "([IIIZ)V" } : Jvm.MethodName)) ∈ lw_all := lw_g (lw_at lw_m4 210 rfl) rfl
theorem q1065 : (Jvm.Cond.static ({ cls := "SownByArgument", name := "writes", desc := "([IIIZ)V" } : Jvm.MethodName)) ∈ lw_all := lw_g (lw_at lw_m4 211 rfl) rfl
theorem q1066 : (Jvm.Cond.code ({ cls := "SownByArgument", name := "writes", desc := "([IIIZ)V" } : Jvm.MethodName) prog_1_method_28_code (5 : Nat) (Option.none : Option Jvm.ClassFile.FieldType)) ∈ lw_all := lw_g (lw_at lw_m4 212 rfl) rfl
theorem q1067 : (Jvm.Cond.methodLink "SownByArgument" (167 : Nat) ({ cls := "java/lang/System", name := "arraycopy", desc := "(Ljava/lang/Object;ILjava/lang/Object;II)V" } : Jvm.MethodName)) ∈ lw_all := lw_g (lw_at lw_m4 213 rfl) rfl
theorem q1068 : (Jvm.Cond.methodLink "SownByArgument" (208 : Nat) ({ cls := "java/lang/Integer", name := "bitCount", desc := "(I)I" } : Jvm.MethodName)) ∈ lw_all := lw_g (lw_at lw_m4 214 rfl) rfl
theorem q1075 : (Jvm.Cond.instanceMethod ({ cls := "SownByArgument", name := "say", desc := "(I)Z" } : Jvm.MethodName)) ∈ lw_all := lw_g (lw_at lw_m4 221 rfl) rfl
theorem q1076 : (Jvm.Cond.selects "SownByArgument" ({ cls := "SownByArgument", name := "say", desc := "(I)Z" } : Jvm.MethodName) ({ cls := "SownByArgument", name := "say", desc := "(I)Z" } : Jvm.MethodName)) ∈ lw_all := lw_g (lw_at lw_m4 222 rfl) rfl
theorem q1077 : (Jvm.Cond.code ({ cls := "SownByArgument", name := "say", desc := "(I)Z" } : Jvm.MethodName) prog_1_method_36_code (2 : Nat) (Option.some Jvm.ClassFile.FieldType.boolean)) ∈ lw_all := lw_g (lw_at lw_m4 223 rfl) rfl
theorem q1078 : (Jvm.Cond.methodLink "SownByArgument" (216 : Nat) ({ cls := "SownByArgument", name := "canSay", desc := "(I)Z" } : Jvm.MethodName)) ∈ lw_all := lw_g (lw_at lw_m4 224 rfl) rfl
theorem q1079 : (Jvm.Cond.privateMethod ({ cls := "SownByArgument", name := "canSay", desc := "(I)Z" } : Jvm.MethodName)) ∈ lw_tbl := lw_at lw_m4 225 rfl
theorem q1080 : (Jvm.Cond.instanceMethod ({ cls := "SownByArgument", name := "canSay", desc := "(I)Z" } : Jvm.MethodName)) ∈ lw_all := lw_g (lw_at lw_m4 226 rfl) rfl
theorem q1081 : (Jvm.Cond.code ({ cls := "SownByArgument", name := "canSay", desc := "(I)Z" } : Jvm.MethodName) prog_1_method_33_code (2 : Nat) (Option.some Jvm.ClassFile.FieldType.boolean)) ∈ lw_all := lw_g (lw_at lw_m4 227 rfl) rfl
theorem q1082 : (Jvm.Cond.methodLink "SownByArgument" (213 : Nat) ({ cls := "SownByArgument", name := "isClaim", desc := "(I)Z" } : Jvm.MethodName)) ∈ lw_all := lw_g (lw_at lw_m4 228 rfl) rfl
theorem q1083 : (Jvm.Cond.privateMethod ({ cls := "SownByArgument", name := "isClaim", desc := "(I)Z" } : Jvm.MethodName)) ∈ lw_tbl := lw_at lw_m4 229 rfl
theorem q1084 : (Jvm.Cond.instanceMethod ({ cls := "SownByArgument", name := "isClaim", desc := "(I)Z" } : Jvm.MethodName)) ∈ lw_all := lw_g (lw_at lw_m4 230 rfl) rfl
theorem q1085 : (Jvm.Cond.code ({ cls := "SownByArgument", name := "isClaim", desc := "(I)Z" } : Jvm.MethodName) prog_1_method_20_code (2 : Nat) (Option.some Jvm.ClassFile.FieldType.boolean)) ∈ lw_all := lw_g (lw_at lw_m4 231 rfl) rfl
theorem q1087 : (Jvm.Cond.instanceMethod ({ cls := "SownByArgument", name := "retract", desc := "(I)Z" } : Jvm.MethodName)) ∈ lw_all := lw_g (lw_at lw_m4 233 rfl) rfl
theorem q1088 : (Jvm.Cond.selects "SownByArgument" ({ cls := "SownByArgument", name := "retract", desc := "(I)Z" } : Jvm.MethodName) ({ cls := "SownByArgument", name := "retract", desc := "(I)Z" } : Jvm.MethodName)) ∈ lw_all := lw_g (lw_at lw_m4 234 rfl) rfl
theorem q1089 : (Jvm.Cond.code ({ cls := "SownByArgument", name := "retract", desc := "(I)Z" } : Jvm.MethodName) prog_1_method_37_code (2 : Nat) (Option.some Jvm.ClassFile.FieldType.boolean)) ∈ lw_all := lw_g (lw_at lw_m4 235 rfl) rfl
theorem q1090 : (Jvm.Cond.methodLink "SownByArgument" (219 : Nat) ({ cls := "SownByArgument", name := "canRetract", desc := "(I)Z" } : Jvm.MethodName)) ∈ lw_all := lw_g (lw_at lw_m4 236 rfl) rfl
theorem q1091 : (Jvm.Cond.privateMethod ({ cls := "SownByArgument", name := "canRetract", desc := "(I)Z" } : Jvm.MethodName)) ∈ lw_tbl := lw_at lw_m4 237 rfl
theorem q1092 : (Jvm.Cond.instanceMethod ({ cls := "SownByArgument", name := "canRetract", desc := "(I)Z" } : Jvm.MethodName)) ∈ lw_all := lw_g (lw_at lw_m4 238 rfl) rfl
theorem q1093 : (Jvm.Cond.code ({ cls := "SownByArgument", name := "canRetract", desc := "(I)Z" } : Jvm.MethodName) prog_1_method_34_code (2 : Nat) (Option.some Jvm.ClassFile.FieldType.boolean)) ∈ lw_all := lw_g (lw_at lw_m4 239 rfl) rfl
theorem q1095 : (Jvm.Cond.instanceMethod ({ cls := "SownByArgument", name := "pardon", desc := "(I)Z" } : Jvm.MethodName)) ∈ lw_all := lw_g (lw_at lw_m5 1 rfl) rfl
theorem q1096 : (Jvm.Cond.selects "SownByArgument" ({ cls := "SownByArgument", name := "pardon", desc := "(I)Z" } : Jvm.MethodName) ({ cls := "SownByArgument", name := "pardon", desc := "(I)Z" } : Jvm.MethodName)) ∈ lw_all := lw_g (lw_at lw_m5 2 rfl) rfl
theorem q1097 : (Jvm.Cond.code ({ cls := "SownByArgument", name := "pardon", desc := "(I)Z" } : Jvm.MethodName) prog_1_method_38_code (2 : Nat) (Option.some Jvm.ClassFile.FieldType.boolean)) ∈ lw_all := lw_g (lw_at lw_m5 3 rfl) rfl
theorem q1098 : (Jvm.Cond.methodLink "SownByArgument" (222 : Nat) ({ cls := "SownByArgument", name := "canPardon", desc := "(I)Z" } : Jvm.MethodName)) ∈ lw_all := lw_g (lw_at lw_m5 4 rfl) rfl
theorem q1099 : (Jvm.Cond.privateMethod ({ cls := "SownByArgument", name := "canPardon", desc := "(I)Z" } : Jvm.MethodName)) ∈ lw_tbl := lw_at lw_m5 5 rfl
theorem q1100 : (Jvm.Cond.instanceMethod ({ cls := "SownByArgument", name := "canPardon", desc := "(I)Z" } : Jvm.MethodName)) ∈ lw_all := lw_g (lw_at lw_m5 6 rfl) rfl
theorem q1101 : (Jvm.Cond.code ({ cls := "SownByArgument", name := "canPardon", desc := "(I)Z" } : Jvm.MethodName) prog_1_method_35_code (2 : Nat) (Option.some Jvm.ClassFile.FieldType.boolean)) ∈ lw_all := lw_g (lw_at lw_m5 7 rfl) rfl
theorem q1103 : (Jvm.Cond.instanceMethod ({ cls := "SownByArgument", name := "played", desc := "(I)I" } : Jvm.MethodName)) ∈ lw_all := lw_g (lw_at lw_m5 9 rfl) rfl
theorem q1104 : (Jvm.Cond.selects "SownByArgument" ({ cls := "SownByArgument", name := "played", desc := "(I)I" } : Jvm.MethodName) ({ cls := "SownByArgument", name := "played", desc := "(I)I" } : Jvm.MethodName)) ∈ lw_all := lw_g (lw_at lw_m5 10 rfl) rfl
theorem q1105 : (Jvm.Cond.code ({ cls := "SownByArgument", name := "played", desc := "(I)I" } : Jvm.MethodName) prog_1_method_41_code (4 : Nat) (Option.some Jvm.ClassFile.FieldType.int)) ∈ lw_all := lw_g (lw_at lw_m5 11 rfl) rfl
theorem q1106 : (Jvm.Cond.methodLink "SownByArgument" (266 : Nat) ({ cls := "java/util/ArrayList", name := "size", desc := "()I" } : Jvm.MethodName)) ∈ lw_all := lw_g (lw_at lw_m5 12 rfl) rfl
theorem q1107 : (Jvm.Cond.methodLink "SownByArgument" (271 : Nat) ({ cls := "java/util/ArrayList", name := "get", desc := "(I)Ljava/lang/Object;" } : Jvm.MethodName)) ∈ lw_all := lw_g (lw_at lw_m5 13 rfl) rfl
theorem q1108 : (Jvm.Cond.classLink "SownByArgument" (229 : Nat) "SownByArgument$Doing") ∈ lw_all := lw_g (lw_at lw_m5 14 rfl) rfl
theorem q1109 : (Jvm.Cond.methodLink "SownByArgument" (275 : Nat) ({ cls := "SownByArgument", name := "does", desc := "(LSownByArgument$Doing;)Z" } : Jvm.MethodName)) ∈ lw_all := lw_g (lw_at lw_m5 15 rfl) rfl
theorem q1110 : (Jvm.Cond.privateMethod ({ cls := "SownByArgument", name := "does", desc := "(LSownByArgument$Doing;)Z" } : Jvm.MethodName)) ∈ lw_tbl := lw_at lw_m5 16 rfl
theorem q1111 : (Jvm.Cond.instanceMethod ({ cls := "SownByArgument", name := "does", desc := "(LSownByArgument$Doing;)Z" } : Jvm.MethodName)) ∈ lw_all := lw_g (lw_at lw_m5 17 rfl) rfl
theorem q1112 : (Jvm.Cond.code ({ cls := "SownByArgument", name := "does", desc := "(LSownByArgument$Doing;)Z" } : Jvm.MethodName) prog_1_method_40_code (2 : Nat) (Option.some Jvm.ClassFile.FieldType.boolean)) ∈ lw_all := lw_g (lw_at lw_m5 18 rfl) rfl
theorem q1113 : (Jvm.Cond.methodLink "SownByArgument" (228 : Nat) ({ cls := "SownByArgument$Doing", name := "sort", desc := "()I" } : Jvm.MethodName)) ∈ lw_all := lw_g (lw_at lw_m5 19 rfl) rfl
theorem q1117 : (Jvm.Cond.methodLink "SownByArgument" (233 : Nat) ({ cls := "SownByArgument$Doing", name := "a", desc := "()I" } : Jvm.MethodName)) ∈ lw_all := lw_g (lw_at lw_m5 23 rfl) rfl
theorem q1121 : (Jvm.Cond.methodLink "SownByArgument" (236 : Nat) ({ cls := "SownByArgument", name := "farmer", desc := "(I)I" } : Jvm.MethodName)) ∈ lw_all := lw_g (lw_at lw_m5 27 rfl) rfl
theorem q1122 : (Jvm.Cond.methodLink "SownByArgument" (239 : Nat) ({ cls := "SownByArgument$Doing", name := "b", desc := "()I" } : Jvm.MethodName)) ∈ lw_all := lw_g (lw_at lw_m5 28 rfl) rfl
theorem q1126 : (Jvm.Cond.methodLink "SownByArgument" (242 : Nat) ({ cls := "SownByArgument", name := "soil", desc := "(II)Z" } : Jvm.MethodName)) ∈ lw_all := lw_g (lw_at lw_m5 32 rfl) rfl
theorem q1127 : (Jvm.Cond.methodLink "SownByArgument" (244 : Nat) ({ cls := "SownByArgument$Doing", name := "c", desc := "()I" } : Jvm.MethodName)) ∈ lw_all := lw_g (lw_at lw_m5 33 rfl) rfl
theorem q1131 : (Jvm.Cond.methodLink "SownByArgument" (247 : Nat) ({ cls := "SownByArgument", name := "wants", desc := "(III)Z" } : Jvm.MethodName)) ∈ lw_all := lw_g (lw_at lw_m5 37 rfl) rfl
theorem q1132 : (Jvm.Cond.methodLink "SownByArgument" (250 : Nat) ({ cls := "SownByArgument", name := "say", desc := "(I)Z" } : Jvm.MethodName)) ∈ lw_all := lw_g (lw_at lw_m5 38 rfl) rfl
theorem q1133 : (Jvm.Cond.methodLink "SownByArgument" (253 : Nat) ({ cls := "SownByArgument", name := "retract", desc := "(I)Z" } : Jvm.MethodName)) ∈ lw_all := lw_g (lw_at lw_m5 39 rfl) rfl
theorem q1134 : (Jvm.Cond.methodLink "SownByArgument" (256 : Nat) ({ cls := "SownByArgument", name := "pardon", desc := "(I)Z" } : Jvm.MethodName)) ∈ lw_all := lw_g (lw_at lw_m5 40 rfl) rfl
theorem q1135 : (Jvm.Cond.methodLink "SownByArgument" (259 : Nat) ({ cls := "SownByArgument", name := "passesAll", desc := "(I)Z" } : Jvm.MethodName)) ∈ lw_all := lw_g (lw_at lw_m5 41 rfl) rfl
theorem q1136 : (Jvm.Cond.privateMethod ({ cls := "SownByArgument", name := "passesAll", desc := "(I)Z" } : Jvm.MethodName)) ∈ lw_tbl := lw_at lw_m5 42 rfl
theorem q1137 : (Jvm.Cond.instanceMethod ({ cls := "SownByArgument", name := "passesAll", desc := "(I)Z" } : Jvm.MethodName)) ∈ lw_all := lw_g (lw_at lw_m5 43 rfl) rfl
theorem q1138 : (Jvm.Cond.code ({ cls := "SownByArgument", name := "passesAll", desc := "(I)Z" } : Jvm.MethodName) prog_1_method_39_code (3 : Nat) (Option.some Jvm.ClassFile.FieldType.boolean)) ∈ lw_all := lw_g (lw_at lw_m5 44 rfl) rfl
theorem q1139 : (Jvm.Cond.methodLink "SownByArgument" (225 : Nat) ({ cls := "SownByArgument", name := "spring", desc := "(I)I" } : Jvm.MethodName)) ∈ lw_all := lw_g (lw_at lw_m5 45 rfl) rfl
theorem q1140 : (Jvm.Cond.methodLink "SownByArgument" (279 : Nat) ({ cls := "SownByArgument$Doing", name := "number", desc := "()I" } : Jvm.MethodName)) ∈ lw_all := lw_g (lw_at lw_m5 46 rfl) rfl
theorem q1145 : (Jvm.Cond.instanceMethod ({ cls := "SownByArgument", name := "years", desc := "(II)I" } : Jvm.MethodName)) ∈ lw_all := lw_g (lw_at lw_m5 51 rfl) rfl
theorem q1146 : (Jvm.Cond.selects "SownByArgument" ({ cls := "SownByArgument", name := "years", desc := "(II)I" } : Jvm.MethodName) ({ cls := "SownByArgument", name := "years", desc := "(II)I" } : Jvm.MethodName)) ∈ lw_all := lw_g (lw_at lw_m5 52 rfl) rfl
theorem q1147 : (Jvm.Cond.code ({ cls := "SownByArgument", name := "years", desc := "(II)I" } : Jvm.MethodName) prog_1_method_43_code (7 : Nat) (Option.some Jvm.ClassFile.FieldType.int)) ∈ lw_all := lw_g (lw_at lw_m5 53 rfl) rfl
theorem q1148 : (Jvm.Cond.methodLink "SownByArgument" (282 : Nat) ({ cls := "SownByArgument", name := "befalls", desc := "(I)V" } : Jvm.MethodName)) ∈ lw_all := lw_g (lw_at lw_m5 54 rfl) rfl
theorem q1149 : (Jvm.Cond.privateMethod ({ cls := "SownByArgument", name := "befalls", desc := "(I)V" } : Jvm.MethodName)) ∈ lw_tbl := lw_at lw_m5 55 rfl
theorem q1150 : (Jvm.Cond.instanceMethod ({ cls := "SownByArgument", name := "befalls", desc := "(I)V" } : Jvm.MethodName)) ∈ lw_all := lw_g (lw_at lw_m5 56 rfl) rfl
theorem q1151 : (Jvm.Cond.code ({ cls := "SownByArgument", name := "befalls", desc := "(I)V" } : Jvm.MethodName) prog_1_method_42_code (3 : Nat) (Option.none : Option Jvm.ClassFile.FieldType)) ∈ lw_all := lw_g (lw_at lw_m5 57 rfl) rfl
theorem q1153 : (Jvm.Cond.instanceMethod ({ cls := "SownByArgument", name := "undo", desc := "()I" } : Jvm.MethodName)) ∈ lw_all := lw_g (lw_at lw_m5 59 rfl) rfl
theorem q1154 : (Jvm.Cond.selects "SownByArgument" ({ cls := "SownByArgument", name := "undo", desc := "()I" } : Jvm.MethodName) ({ cls := "SownByArgument", name := "undo", desc := "()I" } : Jvm.MethodName)) ∈ lw_all := lw_g (lw_at lw_m5 60 rfl) rfl
theorem q1155 : (Jvm.Cond.code ({ cls := "SownByArgument", name := "undo", desc := "()I" } : Jvm.MethodName) prog_1_method_44_code (1 : Nat) (Option.some Jvm.ClassFile.FieldType.int)) ∈ lw_all := lw_g (lw_at lw_m5 61 rfl) rfl
theorem q1156 : (Jvm.Cond.methodLinkNest "SownByArgument" (288 : Nat) ({ cls := "SownByArgument$State", name := "copy", desc := "([I[I)V" } : Jvm.MethodName) "SownByArgument") ∈ lw_tbl := lw_at lw_m5 62 rfl
theorem q1158 : (Jvm.Cond.instanceMethod ({ cls := "SownByArgument", name := "of", desc := "(II)I" } : Jvm.MethodName)) ∈ lw_all := lw_g (lw_at lw_m5 64 rfl) rfl
theorem q1159 : (Jvm.Cond.selects "SownByArgument" ({ cls := "SownByArgument", name := "of", desc := "(II)I" } : Jvm.MethodName) ({ cls := "SownByArgument", name := "of", desc := "(II)I" } : Jvm.MethodName)) ∈ lw_all := lw_g (lw_at lw_m5 65 rfl) rfl
theorem q1160 : (Jvm.Cond.code ({ cls := "SownByArgument", name := "of", desc := "(II)I" } : Jvm.MethodName) prog_1_method_45_code (3 : Nat) (Option.some Jvm.ClassFile.FieldType.int)) ∈ lw_all := lw_g (lw_at lw_m5 66 rfl) rfl
theorem q1161 : (Jvm.Cond.methodLink "SownByArgument" (292 : Nat) ({ cls := "SownByArgument", name := "isFarmer", desc := "(I)Z" } : Jvm.MethodName)) ∈ lw_all := lw_g (lw_at lw_m5 67 rfl) rfl
theorem q1162 : (Jvm.Cond.privateMethod ({ cls := "SownByArgument", name := "isFarmer", desc := "(I)Z" } : Jvm.MethodName)) ∈ lw_tbl := lw_at lw_m5 68 rfl
theorem q1163 : (Jvm.Cond.instanceMethod ({ cls := "SownByArgument", name := "isFarmer", desc := "(I)Z" } : Jvm.MethodName)) ∈ lw_all := lw_g (lw_at lw_m5 69 rfl) rfl
theorem q1164 : (Jvm.Cond.code ({ cls := "SownByArgument", name := "isFarmer", desc := "(I)Z" } : Jvm.MethodName) prog_1_method_6_code (2 : Nat) (Option.some Jvm.ClassFile.FieldType.boolean)) ∈ lw_all := lw_g (lw_at lw_m5 70 rfl) rfl
theorem q1166 : (Jvm.Cond.instanceMethod ({ cls := "SownByArgument", name := "claim", desc := "(II)I" } : Jvm.MethodName)) ∈ lw_all := lw_g (lw_at lw_m5 72 rfl) rfl
theorem q1167 : (Jvm.Cond.selects "SownByArgument" ({ cls := "SownByArgument", name := "claim", desc := "(II)I" } : Jvm.MethodName) ({ cls := "SownByArgument", name := "claim", desc := "(II)I" } : Jvm.MethodName)) ∈ lw_all := lw_g (lw_at lw_m5 73 rfl) rfl
theorem q1168 : (Jvm.Cond.code ({ cls := "SownByArgument", name := "claim", desc := "(II)I" } : Jvm.MethodName) prog_1_method_46_code (3 : Nat) (Option.some Jvm.ClassFile.FieldType.int)) ∈ lw_all := lw_g (lw_at lw_m5 74 rfl) rfl
theorem q1170 : (Jvm.Cond.instanceMethod ({ cls := "SownByArgument", name := "is", desc := "(I)I" } : Jvm.MethodName)) ∈ lw_all := lw_g (lw_at lw_m5 76 rfl) rfl
theorem q1171 : (Jvm.Cond.selects "SownByArgument" ({ cls := "SownByArgument", name := "is", desc := "(I)I" } : Jvm.MethodName) ({ cls := "SownByArgument", name := "is", desc := "(I)I" } : Jvm.MethodName)) ∈ lw_all := lw_g (lw_at lw_m5 77 rfl) rfl
theorem q1172 : (Jvm.Cond.code ({ cls := "SownByArgument", name := "is", desc := "(I)I" } : Jvm.MethodName) prog_1_method_48_code (2 : Nat) (Option.some Jvm.ClassFile.FieldType.int)) ∈ lw_all := lw_g (lw_at lw_m5 78 rfl) rfl
theorem q1173 : (Jvm.Cond.methodLink "SownByArgument" (295 : Nat) ({ cls := "SownByArgument", name := "barredNow", desc := "()I" } : Jvm.MethodName)) ∈ lw_all := lw_g (lw_at lw_m5 79 rfl) rfl
theorem q1174 : (Jvm.Cond.privateMethod ({ cls := "SownByArgument", name := "barredNow", desc := "()I" } : Jvm.MethodName)) ∈ lw_tbl := lw_at lw_m5 80 rfl
theorem q1175 : (Jvm.Cond.instanceMethod ({ cls := "SownByArgument", name := "barredNow", desc := "()I" } : Jvm.MethodName)) ∈ lw_all := lw_g (lw_at lw_m5 81 rfl) rfl
theorem q1176 : (Jvm.Cond.code ({ cls := "SownByArgument", name := "barredNow", desc := "()I" } : Jvm.MethodName) prog_1_method_47_code (3 : Nat) (Option.some Jvm.ClassFile.FieldType.int)) ∈ lw_all := lw_g (lw_at lw_m5 82 rfl) rfl
theorem q1178 : (Jvm.Cond.instanceMethod ({ cls := "SownByArgument", name := "worth", desc := "(II)I" } : Jvm.MethodName)) ∈ lw_all := lw_g (lw_at lw_m5 84 rfl) rfl
theorem q1179 : (Jvm.Cond.selects "SownByArgument" ({ cls := "SownByArgument", name := "worth", desc := "(II)I" } : Jvm.MethodName) ({ cls := "SownByArgument", name := "worth", desc := "(II)I" } : Jvm.MethodName)) ∈ lw_all := lw_g (lw_at lw_m5 85 rfl) rfl
theorem q1180 : (Jvm.Cond.code ({ cls := "SownByArgument", name := "worth", desc := "(II)I" } : Jvm.MethodName) prog_1_method_49_code (3 : Nat) (Option.some Jvm.ClassFile.FieldType.int)) ∈ lw_all := lw_g (lw_at lw_m5 86 rfl) rfl
theorem q1182 : (Jvm.Cond.instanceMethod ({ cls := "SownByArgument", name := "book", desc := "(II)I" } : Jvm.MethodName)) ∈ lw_all := lw_g (lw_at lw_m5 88 rfl) rfl
theorem q1183 : (Jvm.Cond.selects "SownByArgument" ({ cls := "SownByArgument", name := "book", desc := "(II)I" } : Jvm.MethodName) ({ cls := "SownByArgument", name := "book", desc := "(II)I" } : Jvm.MethodName)) ∈ lw_all := lw_g (lw_at lw_m5 89 rfl) rfl
theorem q1184 : (Jvm.Cond.code ({ cls := "SownByArgument", name := "book", desc := "(II)I" } : Jvm.MethodName) prog_1_method_50_code (3 : Nat) (Option.some Jvm.ClassFile.FieldType.int)) ∈ lw_all := lw_g (lw_at lw_m5 90 rfl) rfl
theorem q1186 : (Jvm.Cond.instanceMethod ({ cls := "SownByArgument", name := "foretold", desc := "(III)I" } : Jvm.MethodName)) ∈ lw_all := lw_g (lw_at lw_m5 92 rfl) rfl
theorem q1187 : (Jvm.Cond.selects "SownByArgument" ({ cls := "SownByArgument", name := "foretold", desc := "(III)I" } : Jvm.MethodName) ({ cls := "SownByArgument", name := "foretold", desc := "(III)I" } : Jvm.MethodName)) ∈ lw_all := lw_g (lw_at lw_m5 93 rfl) rfl
theorem q1188 : (Jvm.Cond.code ({ cls := "SownByArgument", name := "foretold", desc := "(III)I" } : Jvm.MethodName) prog_1_method_51_code (6 : Nat) (Option.some Jvm.ClassFile.FieldType.int)) ∈ lw_all := lw_g (lw_at lw_m5 94 rfl) rfl
theorem q1190 : (Jvm.Cond.instanceMethod ({ cls := "SownByArgument", name := "worlds", desc := "(II)I" } : Jvm.MethodName)) ∈ lw_all := lw_g (lw_at lw_m5 96 rfl) rfl
theorem q1191 : (Jvm.Cond.selects "SownByArgument" ({ cls := "SownByArgument", name := "worlds", desc := "(II)I" } : Jvm.MethodName) ({ cls := "SownByArgument", name := "worlds", desc := "(II)I" } : Jvm.MethodName)) ∈ lw_all := lw_g (lw_at lw_m5 97 rfl) rfl
theorem q1192 : (Jvm.Cond.code ({ cls := "SownByArgument", name := "worlds", desc := "(II)I" } : Jvm.MethodName) prog_1_method_52_code (5 : Nat) (Option.some Jvm.ClassFile.FieldType.int)) ∈ lw_all := lw_g (lw_at lw_m5 98 rfl) rfl
theorem q1193 : (Jvm.Cond.methodLink "SownByArgument" (298 : Nat) ({ cls := "SownByArgument", name := "areClaims", desc := "(I)Z" } : Jvm.MethodName)) ∈ lw_all := lw_g (lw_at lw_m5 99 rfl) rfl
theorem q1194 : (Jvm.Cond.privateMethod ({ cls := "SownByArgument", name := "areClaims", desc := "(I)Z" } : Jvm.MethodName)) ∈ lw_tbl := lw_at lw_m5 100 rfl
theorem q1195 : (Jvm.Cond.instanceMethod ({ cls := "SownByArgument", name := "areClaims", desc := "(I)Z" } : Jvm.MethodName)) ∈ lw_all := lw_g (lw_at lw_m5 101 rfl) rfl
theorem q1196 : (Jvm.Cond.code ({ cls := "SownByArgument", name := "areClaims", desc := "(I)Z" } : Jvm.MethodName) prog_1_method_22_code (2 : Nat) (Option.some Jvm.ClassFile.FieldType.boolean)) ∈ lw_all := lw_g (lw_at lw_m5 102 rfl) rfl
theorem q1197 : (Jvm.Cond.methodLink "SownByArgument" (301 : Nat) ({ cls := "java/lang/Integer", name := "numberOfTrailingZeros", desc := "(I)I" } : Jvm.MethodName)) ∈ lw_all := lw_g (lw_at lw_m5 103 rfl) rfl
theorem q1202 : (Jvm.Cond.instanceMethod ({ cls := "SownByArgument", name := "follows", desc := "(II)Z" } : Jvm.MethodName)) ∈ lw_all := lw_g (lw_at lw_m5 108 rfl) rfl
theorem q1203 : (Jvm.Cond.selects "SownByArgument" ({ cls := "SownByArgument", name := "follows", desc := "(II)Z" } : Jvm.MethodName) ({ cls := "SownByArgument", name := "follows", desc := "(II)Z" } : Jvm.MethodName)) ∈ lw_all := lw_g (lw_at lw_m5 109 rfl) rfl
theorem q1204 : (Jvm.Cond.code ({ cls := "SownByArgument", name := "follows", desc := "(II)Z" } : Jvm.MethodName) prog_1_method_54_code (3 : Nat) (Option.some Jvm.ClassFile.FieldType.boolean)) ∈ lw_all := lw_g (lw_at lw_m5 110 rfl) rfl
theorem q1205 : (Jvm.Cond.methodLink "SownByArgument" (304 : Nat) ({ cls := "SownByArgument", name := "isFollowing", desc := "(II)Z" } : Jvm.MethodName)) ∈ lw_all := lw_g (lw_at lw_m5 111 rfl) rfl
theorem q1206 : (Jvm.Cond.privateMethod ({ cls := "SownByArgument", name := "isFollowing", desc := "(II)Z" } : Jvm.MethodName)) ∈ lw_tbl := lw_at lw_m5 112 rfl
theorem q1207 : (Jvm.Cond.instanceMethod ({ cls := "SownByArgument", name := "isFollowing", desc := "(II)Z" } : Jvm.MethodName)) ∈ lw_all := lw_g (lw_at lw_m5 113 rfl) rfl
theorem q1208 : (Jvm.Cond.code ({ cls := "SownByArgument", name := "isFollowing", desc := "(II)Z" } : Jvm.MethodName) prog_1_method_53_code (3 : Nat) (Option.some Jvm.ClassFile.FieldType.boolean)) ∈ lw_all := lw_g (lw_at lw_m5 114 rfl) rfl
theorem q1210 : (Jvm.Cond.instanceMethod ({ cls := "SownByArgument", name := "alike", desc := "(II)Z" } : Jvm.MethodName)) ∈ lw_all := lw_g (lw_at lw_m5 116 rfl) rfl
theorem q1211 : (Jvm.Cond.selects "SownByArgument" ({ cls := "SownByArgument", name := "alike", desc := "(II)Z" } : Jvm.MethodName) ({ cls := "SownByArgument", name := "alike", desc := "(II)Z" } : Jvm.MethodName)) ∈ lw_all := lw_g (lw_at lw_m5 117 rfl) rfl
theorem q1212 : (Jvm.Cond.code ({ cls := "SownByArgument", name := "alike", desc := "(II)Z" } : Jvm.MethodName) prog_1_method_55_code (3 : Nat) (Option.some Jvm.ClassFile.FieldType.boolean)) ∈ lw_all := lw_g (lw_at lw_m5 118 rfl) rfl
theorem q1214 : (Jvm.Cond.instanceMethod ({ cls := "SownByArgument", name := "letters", desc := "(I)I" } : Jvm.MethodName)) ∈ lw_all := lw_g (lw_at lw_m5 120 rfl) rfl
theorem q1215 : (Jvm.Cond.selects "SownByArgument" ({ cls := "SownByArgument", name := "letters", desc := "(I)I" } : Jvm.MethodName) ({ cls := "SownByArgument", name := "letters", desc := "(I)I" } : Jvm.MethodName)) ∈ lw_all := lw_g (lw_at lw_m5 121 rfl) rfl
theorem q1216 : (Jvm.Cond.code ({ cls := "SownByArgument", name := "letters", desc := "(I)I" } : Jvm.MethodName) prog_1_method_56_code (5 : Nat) (Option.some Jvm.ClassFile.FieldType.int)) ∈ lw_all := lw_g (lw_at lw_m5 122 rfl) rfl
theorem q1218 : (Jvm.Cond.instanceMethod ({ cls := "SownByArgument", name := "most", desc := "(Z)I" } : Jvm.MethodName)) ∈ lw_all := lw_g (lw_at lw_m5 124 rfl) rfl
theorem q1219 : (Jvm.Cond.selects "SownByArgument" ({ cls := "SownByArgument", name := "most", desc := "(Z)I" } : Jvm.MethodName) ({ cls := "SownByArgument", name := "most", desc := "(Z)I" } : Jvm.MethodName)) ∈ lw_all := lw_g (lw_at lw_m5 125 rfl) rfl
theorem q1220 : (Jvm.Cond.code ({ cls := "SownByArgument", name := "most", desc := "(Z)I" } : Jvm.MethodName) prog_1_method_58_code (4 : Nat) (Option.some Jvm.ClassFile.FieldType.int)) ∈ lw_all := lw_g (lw_at lw_m5 126 rfl) rfl
theorem q1221 : (Jvm.Cond.methodLink "SownByArgument" (307 : Nat) ({ cls := "SownByArgument", name := "isTogether", desc := "(I)Z" } : Jvm.MethodName)) ∈ lw_all := lw_g (lw_at lw_m5 127 rfl) rfl
theorem q1222 : (Jvm.Cond.privateMethod ({ cls := "SownByArgument", name := "isTogether", desc := "(I)Z" } : Jvm.MethodName)) ∈ lw_tbl := lw_at lw_m5 128 rfl
theorem q1223 : (Jvm.Cond.instanceMethod ({ cls := "SownByArgument", name := "isTogether", desc := "(I)Z" } : Jvm.MethodName)) ∈ lw_all := lw_g (lw_at lw_m5 129 rfl) rfl
theorem q1224 : (Jvm.Cond.code ({ cls := "SownByArgument", name := "isTogether", desc := "(I)Z" } : Jvm.MethodName) prog_1_method_57_code (2 : Nat) (Option.some Jvm.ClassFile.FieldType.boolean)) ∈ lw_all := lw_g (lw_at lw_m5 130 rfl) rfl
theorem q1226 : (Jvm.Cond.instanceMethod ({ cls := "SownByArgument", name := "greatest", desc := "(I)I" } : Jvm.MethodName)) ∈ lw_all := lw_g (lw_at lw_m5 132 rfl) rfl
theorem q1227 : (Jvm.Cond.selects "SownByArgument" ({ cls := "SownByArgument", name := "greatest", desc := "(I)I" } : Jvm.MethodName) ({ cls := "SownByArgument", name := "greatest", desc := "(I)I" } : Jvm.MethodName)) ∈ lw_all := lw_g (lw_at lw_m5 133 rfl) rfl
theorem q1228 : (Jvm.Cond.code ({ cls := "SownByArgument", name := "greatest", desc := "(I)I" } : Jvm.MethodName) prog_1_method_60_code (4 : Nat) (Option.some Jvm.ClassFile.FieldType.int)) ∈ lw_all := lw_g (lw_at lw_m5 134 rfl) rfl
theorem q1229 : (Jvm.Cond.methodLink "SownByArgument" (310 : Nat) ({ cls := "SownByArgument", name := "isGreatest", desc := "(I)Z" } : Jvm.MethodName)) ∈ lw_all := lw_g (lw_at lw_m5 135 rfl) rfl
theorem q1230 : (Jvm.Cond.privateMethod ({ cls := "SownByArgument", name := "isGreatest", desc := "(I)Z" } : Jvm.MethodName)) ∈ lw_tbl := lw_at lw_m5 136 rfl
theorem q1231 : (Jvm.Cond.instanceMethod ({ cls := "SownByArgument", name := "isGreatest", desc := "(I)Z" } : Jvm.MethodName)) ∈ lw_all := lw_g (lw_at lw_m5 137 rfl) rfl
theorem q1232 : (Jvm.Cond.code ({ cls := "SownByArgument", name := "isGreatest", desc := "(I)Z" } : Jvm.MethodName) prog_1_method_59_code (3 : Nat) (Option.some Jvm.ClassFile.FieldType.boolean)) ∈ lw_all := lw_g (lw_at lw_m5 138 rfl) rfl
theorem q1234 : (Jvm.Cond.instanceMethod ({ cls := "SownByArgument", name := "quarrel", desc := "(Z)I" } : Jvm.MethodName)) ∈ lw_all := lw_g (lw_at lw_m5 140 rfl) rfl
theorem q1235 : (Jvm.Cond.selects "SownByArgument" ({ cls := "SownByArgument", name := "quarrel", desc := "(Z)I" } : Jvm.MethodName) ({ cls := "SownByArgument", name := "quarrel", desc := "(Z)I" } : Jvm.MethodName)) ∈ lw_all := lw_g (lw_at lw_m5 141 rfl) rfl
theorem q1236 : (Jvm.Cond.code ({ cls := "SownByArgument", name := "quarrel", desc := "(Z)I" } : Jvm.MethodName) prog_1_method_61_code (4 : Nat) (Option.some Jvm.ClassFile.FieldType.int)) ∈ lw_all := lw_g (lw_at lw_m5 142 rfl) rfl
theorem q1238 : (Jvm.Cond.instanceMethod ({ cls := "SownByArgument", name := "idle", desc := "(I)I" } : Jvm.MethodName)) ∈ lw_all := lw_g (lw_at lw_m5 144 rfl) rfl
theorem q1239 : (Jvm.Cond.selects "SownByArgument" ({ cls := "SownByArgument", name := "idle", desc := "(I)I" } : Jvm.MethodName) ({ cls := "SownByArgument", name := "idle", desc := "(I)I" } : Jvm.MethodName)) ∈ lw_all := lw_g (lw_at lw_m5 145 rfl) rfl
theorem q1240 : (Jvm.Cond.code ({ cls := "SownByArgument", name := "idle", desc := "(I)I" } : Jvm.MethodName) prog_1_method_62_code (4 : Nat) (Option.some Jvm.ClassFile.FieldType.int)) ∈ lw_all := lw_g (lw_at lw_m5 146 rfl) rfl
theorem q1242 : (Jvm.Cond.instanceMethod ({ cls := "SownByArgument", name := "against", desc := "(I)I" } : Jvm.MethodName)) ∈ lw_all := lw_g (lw_at lw_m5 148 rfl) rfl
theorem q1243 : (Jvm.Cond.selects "SownByArgument" ({ cls := "SownByArgument", name := "against", desc := "(I)I" } : Jvm.MethodName) ({ cls := "SownByArgument", name := "against", desc := "(I)I" } : Jvm.MethodName)) ∈ lw_all := lw_g (lw_at lw_m5 149 rfl) rfl
theorem q1244 : (Jvm.Cond.code ({ cls := "SownByArgument", name := "against", desc := "(I)I" } : Jvm.MethodName) prog_1_method_63_code (4 : Nat) (Option.some Jvm.ClassFile.FieldType.int)) ∈ lw_all := lw_g (lw_at lw_m5 150 rfl) rfl
theorem q1246 : (Jvm.Cond.instanceMethod ({ cls := "SownByArgument", name := "certain", desc := "(IZ)I" } : Jvm.MethodName)) ∈ lw_all := lw_g (lw_at lw_m5 152 rfl) rfl
theorem q1247 : (Jvm.Cond.selects "SownByArgument" ({ cls := "SownByArgument", name := "certain", desc := "(IZ)I" } : Jvm.MethodName) ({ cls := "SownByArgument", name := "certain", desc := "(IZ)I" } : Jvm.MethodName)) ∈ lw_all := lw_g (lw_at lw_m5 153 rfl) rfl
theorem q1248 : (Jvm.Cond.code ({ cls := "SownByArgument", name := "certain", desc := "(IZ)I" } : Jvm.MethodName) prog_1_method_64_code (5 : Nat) (Option.some Jvm.ClassFile.FieldType.int)) ∈ lw_all := lw_g (lw_at lw_m5 154 rfl) rfl
theorem q1250 : (Jvm.Cond.instanceMethod ({ cls := "SownByArgument", name := "ask", desc := "(I)I" } : Jvm.MethodName)) ∈ lw_all := lw_g (lw_at lw_m5 156 rfl) rfl
theorem q1251 : (Jvm.Cond.selects "SownByArgument" ({ cls := "SownByArgument", name := "ask", desc := "(I)I" } : Jvm.MethodName) ({ cls := "SownByArgument", name := "ask", desc := "(I)I" } : Jvm.MethodName)) ∈ lw_all := lw_g (lw_at lw_m5 157 rfl) rfl
theorem q1252 : (Jvm.Cond.code ({ cls := "SownByArgument", name := "ask", desc := "(I)I" } : Jvm.MethodName) prog_1_method_65_code (7 : Nat) (Option.some Jvm.ClassFile.FieldType.int)) ∈ lw_all := lw_g (lw_at lw_m5 158 rfl) rfl
theorem q1253 : (Jvm.Cond.constant "SownByArgument" (313 : Nat) (99999 : Int32)) ∈ lw_all := lw_g (lw_at lw_m5 159 rfl) rfl
theorem q1254 : (Jvm.Cond.methodLink "SownByArgument" (314 : Nat) ({ cls := "java/lang/Math", name := "max", desc := "(II)I" } : Jvm.MethodName)) ∈ lw_all := lw_g (lw_at lw_m5 160 rfl) rfl
theorem q1256 : (Jvm.Cond.instanceMethod ({ cls := "SownByArgument", name := "likely", desc := "(IIZ)I" } : Jvm.MethodName)) ∈ lw_all := lw_g (lw_at lw_m5 162 rfl) rfl
theorem q1257 : (Jvm.Cond.selects "SownByArgument" ({ cls := "SownByArgument", name := "likely", desc := "(IIZ)I" } : Jvm.MethodName) ({ cls := "SownByArgument", name := "likely", desc := "(IIZ)I" } : Jvm.MethodName)) ∈ lw_all := lw_g (lw_at lw_m5 163 rfl) rfl
theorem q1258 : (Jvm.Cond.code ({ cls := "SownByArgument", name := "likely", desc := "(IIZ)I" } : Jvm.MethodName) prog_1_method_67_code (6 : Nat) (Option.some Jvm.ClassFile.FieldType.int)) ∈ lw_all := lw_g (lw_at lw_m5 164 rfl) rfl
theorem q1259 : (Jvm.Cond.methodLink "SownByArgument" (316 : Nat) ({ cls := "SownByArgument", name := "common", desc := "(II)I" } : Jvm.MethodName)) ∈ lw_all := lw_g (lw_at lw_m5 165 rfl) rfl
theorem q1260 : (Jvm.Cond.static ({ cls := "SownByArgument", name := "common", desc := "(II)I" } : Jvm.MethodName)) ∈ lw_all := lw_g (lw_at lw_m5 166 rfl) rfl
theorem q1261 : (Jvm.Cond.code ({ cls := "SownByArgument", name := "common", desc := "(II)I" } : Jvm.MethodName) prog_1_method_66_code (2 : Nat) (Option.some Jvm.ClassFile.FieldType.int)) ∈ lw_all := lw_g (lw_at lw_m5 167 rfl) rfl
theorem q1263 : (Jvm.Cond.instanceMethod ({ cls := "SownByArgument", name := "debate", desc := "(Z)I" } : Jvm.MethodName)) ∈ lw_all := lw_g (lw_at lw_m5 169 rfl) rfl
theorem q1264 : (Jvm.Cond.selects "SownByArgument" ({ cls := "SownByArgument", name := "debate", desc := "(Z)I" } : Jvm.MethodName) ({ cls := "SownByArgument", name := "debate", desc := "(Z)I" } : Jvm.MethodName)) ∈ lw_all := lw_g (lw_at lw_m5 170 rfl) rfl
theorem q1265 : (Jvm.Cond.code ({ cls := "SownByArgument", name := "debate", desc := "(Z)I" } : Jvm.MethodName) prog_1_method_69_code (3 : Nat) (Option.some Jvm.ClassFile.FieldType.int)) ∈ lw_all := lw_g (lw_at lw_m5 171 rfl) rfl
theorem q1266 : (Jvm.Cond.methodLink "SownByArgument" (319 : Nat) ({ cls := "SownByArgument", name := "laysWins", desc := "()V" } : Jvm.MethodName)) ∈ lw_all := lw_g (lw_at lw_m5 172 rfl) rfl
theorem q1267 : (Jvm.Cond.privateMethod ({ cls := "SownByArgument", name := "laysWins", desc := "()V" } : Jvm.MethodName)) ∈ lw_tbl := lw_at lw_m5 173 rfl
theorem q1268 : (Jvm.Cond.instanceMethod ({ cls := "SownByArgument", name := "laysWins", desc := "()V" } : Jvm.MethodName)) ∈ lw_all := lw_g (lw_at lw_m5 174 rfl) rfl
theorem q1269 : (Jvm.Cond.code ({ cls := "SownByArgument", name := "laysWins", desc := "()V" } : Jvm.MethodName) prog_1_method_68_code (3 : Nat) (Option.none : Option Jvm.ClassFile.FieldType)) ∈ lw_all := lw_g (lw_at lw_m5 175 rfl) rfl
theorem q1271 : (Jvm.Cond.instanceMethod ({ cls := "SownByArgument", name := "lasts", desc := "()I" } : Jvm.MethodName)) ∈ lw_all := lw_g (lw_at lw_m5 177 rfl) rfl
theorem q1272 : (Jvm.Cond.selects "SownByArgument" ({ cls := "SownByArgument", name := "lasts", desc := "()I" } : Jvm.MethodName) ({ cls := "SownByArgument", name := "lasts", desc := "()I" } : Jvm.MethodName)) ∈ lw_all := lw_g (lw_at lw_m5 178 rfl) rfl
theorem q1273 : (Jvm.Cond.code ({ cls := "SownByArgument", name := "lasts", desc := "()I" } : Jvm.MethodName) prog_1_method_70_code (2 : Nat) (Option.some Jvm.ClassFile.FieldType.int)) ∈ lw_all := lw_g (lw_at lw_m5 179 rfl) rfl
theorem q1275 : (Jvm.Cond.instanceMethod ({ cls := "SownByArgument", name := "choose", desc := "(II)I" } : Jvm.MethodName)) ∈ lw_all := lw_g (lw_at lw_m5 181 rfl) rfl
theorem q1276 : (Jvm.Cond.selects "SownByArgument" ({ cls := "SownByArgument", name := "choose", desc := "(II)I" } : Jvm.MethodName) ({ cls := "SownByArgument", name := "choose", desc := "(II)I" } : Jvm.MethodName)) ∈ lw_all := lw_g (lw_at lw_m5 182 rfl) rfl
theorem q1277 : (Jvm.Cond.code ({ cls := "SownByArgument", name := "choose", desc := "(II)I" } : Jvm.MethodName) prog_1_method_75_code (4 : Nat) (Option.some Jvm.ClassFile.FieldType.int)) ∈ lw_all := lw_g (lw_at lw_m5 183 rfl) rfl
theorem q1278 : (Jvm.Cond.methodLink "SownByArgument" (329 : Nat) ({ cls := "SownByArgument", name := "isOrder", desc := "(I)Z" } : Jvm.MethodName)) ∈ lw_all := lw_g (lw_at lw_m5 184 rfl) rfl
theorem q1279 : (Jvm.Cond.static ({ cls := "SownByArgument", name := "isOrder", desc := "(I)Z" } : Jvm.MethodName)) ∈ lw_all := lw_g (lw_at lw_m5 185 rfl) rfl
theorem q1280 : (Jvm.Cond.code ({ cls := "SownByArgument", name := "isOrder", desc := "(I)Z" } : Jvm.MethodName) prog_1_method_72_code (3 : Nat) (Option.some Jvm.ClassFile.FieldType.boolean)) ∈ lw_all := lw_g (lw_at lw_m5 186 rfl) rfl
theorem q1281 : (Jvm.Cond.methodLink "SownByArgument" (322 : Nat) ({ cls := "SownByArgument", name := "power", desc := "(I)I" } : Jvm.MethodName)) ∈ lw_all := lw_g (lw_at lw_m5 187 rfl) rfl
theorem q1282 : (Jvm.Cond.static ({ cls := "SownByArgument", name := "power", desc := "(I)I" } : Jvm.MethodName)) ∈ lw_all := lw_g (lw_at lw_m5 188 rfl) rfl
theorem q1283 : (Jvm.Cond.code ({ cls := "SownByArgument", name := "power", desc := "(I)I" } : Jvm.MethodName) prog_1_method_71_code (1 : Nat) (Option.some Jvm.ClassFile.FieldType.int)) ∈ lw_all := lw_g (lw_at lw_m5 189 rfl) rfl
theorem q1284 : (Jvm.Cond.constant "SownByArgument" (325 : Nat) (43210 : Int32)) ∈ lw_all := lw_g (lw_at lw_m5 190 rfl) rfl
theorem q1285 : (Jvm.Cond.methodLink "SownByArgument" (332 : Nat) ({ cls := "SownByArgument", name := "choosesBy", desc := "(I)I" } : Jvm.MethodName)) ∈ lw_all := lw_g (lw_at lw_m5 191 rfl) rfl
theorem q1286 : (Jvm.Cond.privateMethod ({ cls := "SownByArgument", name := "choosesBy", desc := "(I)I" } : Jvm.MethodName)) ∈ lw_tbl := lw_at lw_m5 192 rfl
theorem q1287 : (Jvm.Cond.instanceMethod ({ cls := "SownByArgument", name := "choosesBy", desc := "(I)I" } : Jvm.MethodName)) ∈ lw_all := lw_g (lw_at lw_m5 193 rfl) rfl
theorem q1288 : (Jvm.Cond.code ({ cls := "SownByArgument", name := "choosesBy", desc := "(I)I" } : Jvm.MethodName) prog_1_method_74_code (6 : Nat) (Option.some Jvm.ClassFile.FieldType.int)) ∈ lw_all := lw_g (lw_at lw_m5 194 rfl) rfl
theorem q1289 : (Jvm.Cond.methodLink "SownByArgument" (326 : Nat) ({ cls := "SownByArgument", name := "wantedOf", desc := "(II)I" } : Jvm.MethodName)) ∈ lw_all := lw_g (lw_at lw_m5 195 rfl) rfl
theorem q1290 : (Jvm.Cond.privateMethod ({ cls := "SownByArgument", name := "wantedOf", desc := "(II)I" } : Jvm.MethodName)) ∈ lw_tbl := lw_at lw_m5 196 rfl
theorem q1291 : (Jvm.Cond.instanceMethod ({ cls := "SownByArgument", name := "wantedOf", desc := "(II)I" } : Jvm.MethodName)) ∈ lw_all := lw_g (lw_at lw_m5 197 rfl) rfl
theorem q1292 : (Jvm.Cond.code ({ cls := "SownByArgument", name := "wantedOf", desc := "(II)I" } : Jvm.MethodName) prog_1_method_73_code (5 : Nat) (Option.some Jvm.ClassFile.FieldType.int)) ∈ lw_all := lw_g (lw_at lw_m5 198 rfl) rfl
theorem q1294 : (Jvm.Cond.instanceMethod ({ cls := "SownByArgument", name := "best", desc := "(Z)I" } : Jvm.MethodName)) ∈ lw_all := lw_g (lw_at lw_m5 200 rfl) rfl
theorem q1295 : (Jvm.Cond.selects "SownByArgument" ({ cls := "SownByArgument", name := "best", desc := "(Z)I" } : Jvm.MethodName) ({ cls := "SownByArgument", name := "best", desc := "(Z)I" } : Jvm.MethodName)) ∈ lw_all := lw_g (lw_at lw_m5 201 rfl) rfl
theorem q1296 : (Jvm.Cond.code ({ cls := "SownByArgument", name := "best", desc := "(Z)I" } : Jvm.MethodName) prog_1_method_76_code (5 : Nat) (Option.some Jvm.ClassFile.FieldType.int)) ∈ lw_all := lw_g (lw_at lw_m5 202 rfl) rfl
theorem q1298 : (Jvm.Cond.instanceMethod ({ cls := "SownByArgument", name := "trade", desc := "(I)I" } : Jvm.MethodName)) ∈ lw_all := lw_g (lw_at lw_m5 204 rfl) rfl
theorem q1299 : (Jvm.Cond.selects "SownByArgument" ({ cls := "SownByArgument", name := "trade", desc := "(I)I" } : Jvm.MethodName) ({ cls := "SownByArgument", name := "trade", desc := "(I)I" } : Jvm.MethodName)) ∈ lw_all := lw_g (lw_at lw_m5 205 rfl) rfl
theorem q1300 : (Jvm.Cond.code ({ cls := "SownByArgument", name := "trade", desc := "(I)I" } : Jvm.MethodName) prog_1_method_79_code (3 : Nat) (Option.some Jvm.ClassFile.FieldType.int)) ∈ lw_all := lw_g (lw_at lw_m5 206 rfl) rfl
theorem q1301 : (Jvm.Cond.methodLink "SownByArgument" (338 : Nat) ({ cls := "SownByArgument", name := "trades", desc := "()I" } : Jvm.MethodName)) ∈ lw_all := lw_g (lw_at lw_m5 207 rfl) rfl
theorem q1302 : (Jvm.Cond.privateMethod ({ cls := "SownByArgument", name := "trades", desc := "()I" } : Jvm.MethodName)) ∈ lw_tbl := lw_at lw_m5 208 rfl
theorem q1303 : (Jvm.Cond.instanceMethod ({ cls := "SownByArgument", name := "trades", desc := "()I" } : Jvm.MethodName)) ∈ lw_all := lw_g (lw_at lw_m5 209 rfl) rfl
theorem q1304 : (Jvm.Cond.code ({ cls := "SownByArgument", name := "trades", desc := "()I" } : Jvm.MethodName) prog_1_method_78_code (6 : Nat) (Option.some Jvm.ClassFile.FieldType.int)) ∈ lw_all := lw_g (lw_at lw_m5 210 rfl) rfl
theorem q1305 : (Jvm.Cond.methodLink "SownByArgument" (335 : Nat) ({ cls := "SownByArgument", name := "ringOf", desc := "(II)I" } : Jvm.MethodName)) ∈ lw_all := lw_g (lw_at lw_m5 211 rfl) rfl
theorem q1306 : (Jvm.Cond.privateMethod ({ cls := "SownByArgument", name := "ringOf", desc := "(II)I" } : Jvm.MethodName)) ∈ lw_tbl := lw_at lw_m5 212 rfl
theorem q1307 : (Jvm.Cond.instanceMethod ({ cls := "SownByArgument", name := "ringOf", desc := "(II)I" } : Jvm.MethodName)) ∈ lw_all := lw_g (lw_at lw_m5 213 rfl) rfl
theorem q1308 : (Jvm.Cond.code ({ cls := "SownByArgument", name := "ringOf", desc := "(II)I" } : Jvm.MethodName) prog_1_method_77_code (6 : Nat) (Option.some Jvm.ClassFile.FieldType.int)) ∈ lw_all := lw_g (lw_at lw_m5 214 rfl) rfl
theorem q1310 : (Jvm.Cond.instanceMethod ({ cls := "SownByArgument", name := "rings", desc := "()I" } : Jvm.MethodName)) ∈ lw_all := lw_g (lw_at lw_m5 216 rfl) rfl
theorem q1311 : (Jvm.Cond.selects "SownByArgument" ({ cls := "SownByArgument", name := "rings", desc := "()I" } : Jvm.MethodName) ({ cls := "SownByArgument", name := "rings", desc := "()I" } : Jvm.MethodName)) ∈ lw_all := lw_g (lw_at lw_m5 217 rfl) rfl
theorem q1312 : (Jvm.Cond.code ({ cls := "SownByArgument", name := "rings", desc := "()I" } : Jvm.MethodName) prog_1_method_80_code (1 : Nat) (Option.some Jvm.ClassFile.FieldType.int)) ∈ lw_all := lw_g (lw_at lw_m5 218 rfl) rfl
theorem q1314 : (Jvm.Cond.instanceMethod ({ cls := "SownByArgument", name := "price", desc := "(I)I" } : Jvm.MethodName)) ∈ lw_all := lw_g (lw_at lw_m5 220 rfl) rfl
theorem q1315 : (Jvm.Cond.selects "SownByArgument" ({ cls := "SownByArgument", name := "price", desc := "(I)I" } : Jvm.MethodName) ({ cls := "SownByArgument", name := "price", desc := "(I)I" } : Jvm.MethodName)) ∈ lw_all := lw_g (lw_at lw_m5 221 rfl) rfl
theorem q1316 : (Jvm.Cond.code ({ cls := "SownByArgument", name := "price", desc := "(I)I" } : Jvm.MethodName) prog_1_method_85_code (2 : Nat) (Option.some Jvm.ClassFile.FieldType.int)) ∈ lw_all := lw_g (lw_at lw_m5 222 rfl) rfl
theorem q1317 : (Jvm.Cond.methodLink "SownByArgument" (356 : Nat) ({ cls := "SownByArgument", name := "laysPrices", desc := "()V" } : Jvm.MethodName)) ∈ lw_all := lw_g (lw_at lw_m5 223 rfl) rfl
theorem q1318 : (Jvm.Cond.privateMethod ({ cls := "SownByArgument", name := "laysPrices", desc := "()V" } : Jvm.MethodName)) ∈ lw_tbl := lw_at lw_m5 224 rfl
theorem q1319 : (Jvm.Cond.instanceMethod ({ cls := "SownByArgument", name := "laysPrices", desc := "()V" } : Jvm.MethodName)) ∈ lw_all := lw_g (lw_at lw_m5 225 rfl) rfl
theorem q1320 : (Jvm.Cond.code ({ cls := "SownByArgument", name := "laysPrices", desc := "()V" } : Jvm.MethodName) prog_1_method_84_code (3 : Nat) (Option.none : Option Jvm.ClassFile.FieldType)) ∈ lw_all := lw_g (lw_at lw_m5 226 rfl) rfl
theorem q1321 : (Jvm.Cond.methodLink "SownByArgument" (347 : Nat) ({ cls := "java/util/Arrays", name := "fill", desc := "([II)V" } : Jvm.MethodName)) ∈ lw_all := lw_g (lw_at lw_m5 227 rfl) rfl
theorem q1324 : (Jvm.Cond.methodLink "SownByArgument" (353 : Nat) ({ cls := "SownByArgument", name := "wantedSet", desc := "()I" } : Jvm.MethodName)) ∈ lw_all := lw_g (lw_at lw_m5 230 rfl) rfl
theorem q1325 : (Jvm.Cond.privateMethod ({ cls := "SownByArgument", name := "wantedSet", desc := "()I" } : Jvm.MethodName)) ∈ lw_tbl := lw_at lw_m5 231 rfl
theorem q1326 : (Jvm.Cond.instanceMethod ({ cls := "SownByArgument", name := "wantedSet", desc := "()I" } : Jvm.MethodName)) ∈ lw_all := lw_g (lw_at lw_m5 232 rfl) rfl
theorem q1327 : (Jvm.Cond.code ({ cls := "SownByArgument", name := "wantedSet", desc := "()I" } : Jvm.MethodName) prog_1_method_83_code (3 : Nat) (Option.some Jvm.ClassFile.FieldType.int)) ∈ lw_all := lw_g (lw_at lw_m5 233 rfl) rfl
theorem q1328 : (Jvm.Cond.methodLink "SownByArgument" (344 : Nat) ({ cls := "SownByArgument", name := "areTooMany", desc := "(I)Z" } : Jvm.MethodName)) ∈ lw_all := lw_g (lw_at lw_m5 234 rfl) rfl
theorem q1329 : (Jvm.Cond.privateMethod ({ cls := "SownByArgument", name := "areTooMany", desc := "(I)Z" } : Jvm.MethodName)) ∈ lw_tbl := lw_at lw_m5 235 rfl
theorem q1330 : (Jvm.Cond.instanceMethod ({ cls := "SownByArgument", name := "areTooMany", desc := "(I)Z" } : Jvm.MethodName)) ∈ lw_all := lw_g (lw_at lw_m5 236 rfl) rfl
theorem q1331 : (Jvm.Cond.code ({ cls := "SownByArgument", name := "areTooMany", desc := "(I)Z" } : Jvm.MethodName) prog_1_method_82_code (4 : Nat) (Option.some Jvm.ClassFile.FieldType.boolean)) ∈ lw_all := lw_g (lw_at lw_m5 237 rfl) rfl
theorem q1332 : (Jvm.Cond.methodLink "SownByArgument" (341 : Nat) ({ cls := "SownByArgument", name := "wouldHave", desc := "(I)I" } : Jvm.MethodName)) ∈ lw_all := lw_g (lw_at lw_m5 238 rfl) rfl
theorem q1333 : (Jvm.Cond.privateMethod ({ cls := "SownByArgument", name := "wouldHave", desc := "(I)I" } : Jvm.MethodName)) ∈ lw_tbl := lw_at lw_m5 239 rfl
theorem q1334 : (Jvm.Cond.instanceMethod ({ cls := "SownByArgument", name := "wouldHave", desc := "(I)I" } : Jvm.MethodName)) ∈ lw_all := lw_g (lw_at lw_m6 0 rfl) rfl
theorem q1335 : (Jvm.Cond.code ({ cls := "SownByArgument", name := "wouldHave", desc := "(I)I" } : Jvm.MethodName) prog_1_method_81_code (6 : Nat) (Option.some Jvm.ClassFile.FieldType.int)) ∈ lw_all := lw_g (lw_at lw_m6 1 rfl) rfl
theorem q1337 : (Jvm.Cond.instanceMethod ({ cls := "SownByArgument", name := "sold", desc := "(I)I" } : Jvm.MethodName)) ∈ lw_all := lw_g (lw_at lw_m6 3 rfl) rfl
theorem q1338 : (Jvm.Cond.selects "SownByArgument" ({ cls := "SownByArgument", name := "sold", desc := "(I)I" } : Jvm.MethodName) ({ cls := "SownByArgument", name := "sold", desc := "(I)I" } : Jvm.MethodName)) ∈ lw_all := lw_g (lw_at lw_m6 4 rfl) rfl
theorem q1339 : (Jvm.Cond.code ({ cls := "SownByArgument", name := "sold", desc := "(I)I" } : Jvm.MethodName) prog_1_method_87_code (2 : Nat) (Option.some Jvm.ClassFile.FieldType.int)) ∈ lw_all := lw_g (lw_at lw_m6 5 rfl) rfl
theorem q1340 : (Jvm.Cond.methodLink "SownByArgument" (359 : Nat) ({ cls := "SownByArgument", name := "sells", desc := "(II)Z" } : Jvm.MethodName)) ∈ lw_all := lw_g (lw_at lw_m6 6 rfl) rfl
theorem q1341 : (Jvm.Cond.privateMethod ({ cls := "SownByArgument", name := "sells", desc := "(II)Z" } : Jvm.MethodName)) ∈ lw_tbl := lw_at lw_m6 7 rfl
theorem q1342 : (Jvm.Cond.instanceMethod ({ cls := "SownByArgument", name := "sells", desc := "(II)Z" } : Jvm.MethodName)) ∈ lw_all := lw_g (lw_at lw_m6 8 rfl) rfl
theorem q1343 : (Jvm.Cond.code ({ cls := "SownByArgument", name := "sells", desc := "(II)Z" } : Jvm.MethodName) prog_1_method_86_code (5 : Nat) (Option.some Jvm.ClassFile.FieldType.boolean)) ∈ lw_all := lw_g (lw_at lw_m6 9 rfl) rfl
theorem q1345 : (Jvm.Cond.instanceMethod ({ cls := "SownByArgument", name := "envy", desc := "()I" } : Jvm.MethodName)) ∈ lw_all := lw_g (lw_at lw_m6 11 rfl) rfl
theorem q1346 : (Jvm.Cond.selects "SownByArgument" ({ cls := "SownByArgument", name := "envy", desc := "()I" } : Jvm.MethodName) ({ cls := "SownByArgument", name := "envy", desc := "()I" } : Jvm.MethodName)) ∈ lw_all := lw_g (lw_at lw_m6 12 rfl) rfl
theorem q1347 : (Jvm.Cond.code ({ cls := "SownByArgument", name := "envy", desc := "()I" } : Jvm.MethodName) prog_1_method_89_code (4 : Nat) (Option.some Jvm.ClassFile.FieldType.int)) ∈ lw_all := lw_g (lw_at lw_m6 13 rfl) rfl
theorem q1348 : (Jvm.Cond.methodLink "SownByArgument" (362 : Nat) ({ cls := "SownByArgument", name := "wantOfOwn", desc := "(II)I" } : Jvm.MethodName)) ∈ lw_all := lw_g (lw_at lw_m6 14 rfl) rfl
theorem q1349 : (Jvm.Cond.privateMethod ({ cls := "SownByArgument", name := "wantOfOwn", desc := "(II)I" } : Jvm.MethodName)) ∈ lw_tbl := lw_at lw_m6 15 rfl
theorem q1350 : (Jvm.Cond.instanceMethod ({ cls := "SownByArgument", name := "wantOfOwn", desc := "(II)I" } : Jvm.MethodName)) ∈ lw_all := lw_g (lw_at lw_m6 16 rfl) rfl
theorem q1351 : (Jvm.Cond.code ({ cls := "SownByArgument", name := "wantOfOwn", desc := "(II)I" } : Jvm.MethodName) prog_1_method_88_code (3 : Nat) (Option.some Jvm.ClassFile.FieldType.int)) ∈ lw_all := lw_g (lw_at lw_m6 17 rfl) rfl
theorem q1353 : (Jvm.Cond.instanceMethod ({ cls := "SownByArgument", name := "said", desc := "(III)I" } : Jvm.MethodName)) ∈ lw_all := lw_g (lw_at lw_m6 19 rfl) rfl
theorem q1354 : (Jvm.Cond.selects "SownByArgument" ({ cls := "SownByArgument", name := "said", desc := "(III)I" } : Jvm.MethodName) ({ cls := "SownByArgument", name := "said", desc := "(III)I" } : Jvm.MethodName)) ∈ lw_all := lw_g (lw_at lw_m6 20 rfl) rfl
theorem q1355 : (Jvm.Cond.code ({ cls := "SownByArgument", name := "said", desc := "(III)I" } : Jvm.MethodName) prog_1_method_90_code (5 : Nat) (Option.some Jvm.ClassFile.FieldType.int)) ∈ lw_all := lw_g (lw_at lw_m6 21 rfl) rfl
theorem q1357 : (Jvm.Cond.instanceMethod ({ cls := "SownByArgument", name := "whose", desc := "()I" } : Jvm.MethodName)) ∈ lw_all := lw_g (lw_at lw_m6 23 rfl) rfl
theorem q1358 : (Jvm.Cond.selects "SownByArgument" ({ cls := "SownByArgument", name := "whose", desc := "()I" } : Jvm.MethodName) ({ cls := "SownByArgument", name := "whose", desc := "()I" } : Jvm.MethodName)) ∈ lw_all := lw_g (lw_at lw_m6 24 rfl) rfl
theorem q1359 : (Jvm.Cond.code ({ cls := "SownByArgument", name := "whose", desc := "()I" } : Jvm.MethodName) prog_1_method_92_code (3 : Nat) (Option.some Jvm.ClassFile.FieldType.int)) ∈ lw_all := lw_g (lw_at lw_m6 25 rfl) rfl
theorem q1360 : (Jvm.Cond.methodLink "SownByArgument" (368 : Nat) ({ cls := "SownByArgument", name := "isLaw", desc := "(LSownByArgument$Text;)Z" } : Jvm.MethodName)) ∈ lw_all := lw_g (lw_at lw_m6 26 rfl) rfl
theorem q1361 : (Jvm.Cond.privateMethod ({ cls := "SownByArgument", name := "isLaw", desc := "(LSownByArgument$Text;)Z" } : Jvm.MethodName)) ∈ lw_tbl := lw_at lw_m6 27 rfl
theorem q1362 : (Jvm.Cond.instanceMethod ({ cls := "SownByArgument", name := "isLaw", desc := "(LSownByArgument$Text;)Z" } : Jvm.MethodName)) ∈ lw_all := lw_g (lw_at lw_m6 28 rfl) rfl
theorem q1363 : (Jvm.Cond.code ({ cls := "SownByArgument", name := "isLaw", desc := "(LSownByArgument$Text;)Z" } : Jvm.MethodName) prog_1_method_91_code (3 : Nat) (Option.some Jvm.ClassFile.FieldType.boolean)) ∈ lw_all := lw_g (lw_at lw_m6 29 rfl) rfl
theorem q1365 : (Jvm.Cond.instanceMethod ({ cls := "SownByArgument", name := "ground", desc := "()I" } : Jvm.MethodName)) ∈ lw_all := lw_g (lw_at lw_m6 31 rfl) rfl
theorem q1366 : (Jvm.Cond.selects "SownByArgument" ({ cls := "SownByArgument", name := "ground", desc := "()I" } : Jvm.MethodName) ({ cls := "SownByArgument", name := "ground", desc := "()I" } : Jvm.MethodName)) ∈ lw_all := lw_g (lw_at lw_m6 32 rfl) rfl
theorem q1367 : (Jvm.Cond.code ({ cls := "SownByArgument", name := "ground", desc := "()I" } : Jvm.MethodName) prog_1_method_93_code (4 : Nat) (Option.some Jvm.ClassFile.FieldType.int)) ∈ lw_all := lw_g (lw_at lw_m6 33 rfl) rfl
theorem q1369 : (Jvm.Cond.instanceMethod ({ cls := "SownByArgument", name := "landless", desc := "()I" } : Jvm.MethodName)) ∈ lw_all := lw_g (lw_at lw_m6 35 rfl) rfl
theorem q1370 : (Jvm.Cond.selects "SownByArgument" ({ cls := "SownByArgument", name := "landless", desc := "()I" } : Jvm.MethodName) ({ cls := "SownByArgument", name := "landless", desc := "()I" } : Jvm.MethodName)) ∈ lw_all := lw_g (lw_at lw_m6 36 rfl) rfl
theorem q1371 : (Jvm.Cond.code ({ cls := "SownByArgument", name := "landless", desc := "()I" } : Jvm.MethodName) prog_1_method_94_code (3 : Nat) (Option.some Jvm.ClassFile.FieldType.int)) ∈ lw_all := lw_g (lw_at lw_m6 37 rfl) rfl
theorem q1373 : (Jvm.Cond.instanceMethod ({ cls := "SownByArgument", name := "wisest", desc := "()I" } : Jvm.MethodName)) ∈ lw_all := lw_g (lw_at lw_m6 39 rfl) rfl
theorem q1374 : (Jvm.Cond.selects "SownByArgument" ({ cls := "SownByArgument", name := "wisest", desc := "()I" } : Jvm.MethodName) ({ cls := "SownByArgument", name := "wisest", desc := "()I" } : Jvm.MethodName)) ∈ lw_all := lw_g (lw_at lw_m6 40 rfl) rfl
theorem q1375 : (Jvm.Cond.code ({ cls := "SownByArgument", name := "wisest", desc := "()I" } : Jvm.MethodName) prog_1_method_95_code (3 : Nat) (Option.some Jvm.ClassFile.FieldType.int)) ∈ lw_all := lw_g (lw_at lw_m6 41 rfl) rfl
theorem q1377 : (Jvm.Cond.instanceMethod ({ cls := "SownByArgument", name := "free", desc := "()I" } : Jvm.MethodName)) ∈ lw_all := lw_g (lw_at lw_m6 43 rfl) rfl
theorem q1378 : (Jvm.Cond.selects "SownByArgument" ({ cls := "SownByArgument", name := "free", desc := "()I" } : Jvm.MethodName) ({ cls := "SownByArgument", name := "free", desc := "()I" } : Jvm.MethodName)) ∈ lw_all := lw_g (lw_at lw_m6 44 rfl) rfl
theorem q1379 : (Jvm.Cond.code ({ cls := "SownByArgument", name := "free", desc := "()I" } : Jvm.MethodName) prog_1_method_96_code (3 : Nat) (Option.some Jvm.ClassFile.FieldType.int)) ∈ lw_all := lw_g (lw_at lw_m6 45 rfl) rfl
theorem q1381 : (Jvm.Cond.instanceMethod ({ cls := "SownByArgument", name := "ledger", desc := "(I)I" } : Jvm.MethodName)) ∈ lw_all := lw_g (lw_at lw_m6 47 rfl) rfl
theorem q1382 : (Jvm.Cond.selects "SownByArgument" ({ cls := "SownByArgument", name := "ledger", desc := "(I)I" } : Jvm.MethodName) ({ cls := "SownByArgument", name := "ledger", desc := "(I)I" } : Jvm.MethodName)) ∈ lw_all := lw_g (lw_at lw_m6 48 rfl) rfl
theorem q1383 : (Jvm.Cond.code ({ cls := "SownByArgument", name := "ledger", desc := "(I)I" } : Jvm.MethodName) prog_1_method_97_code (4 : Nat) (Option.some Jvm.ClassFile.FieldType.int)) ∈ lw_all := lw_g (lw_at lw_m6 49 rfl) rfl
theorem q1385 : (Jvm.Cond.instanceMethod ({ cls := "SownByArgument", name := "image", desc := "()I" } : Jvm.MethodName)) ∈ lw_all := lw_g (lw_at lw_m6 51 rfl) rfl
theorem q1386 : (Jvm.Cond.selects "SownByArgument" ({ cls := "SownByArgument", name := "image", desc := "()I" } : Jvm.MethodName) ({ cls := "SownByArgument", name := "image", desc := "()I" } : Jvm.MethodName)) ∈ lw_all := lw_g (lw_at lw_m6 52 rfl) rfl
theorem q1387 : (Jvm.Cond.code ({ cls := "SownByArgument", name := "image", desc := "()I" } : Jvm.MethodName) prog_1_method_98_code (1 : Nat) (Option.some Jvm.ClassFile.FieldType.int)) ∈ lw_all := lw_g (lw_at lw_m6 53 rfl) rfl
theorem q1389 : (Jvm.Cond.instanceMethod ({ cls := "SownByArgument", name := "back", desc := "()I" } : Jvm.MethodName)) ∈ lw_all := lw_g (lw_at lw_m6 55 rfl) rfl
theorem q1390 : (Jvm.Cond.selects "SownByArgument" ({ cls := "SownByArgument", name := "back", desc := "()I" } : Jvm.MethodName) ({ cls := "SownByArgument", name := "back", desc := "()I" } : Jvm.MethodName)) ∈ lw_all := lw_g (lw_at lw_m6 56 rfl) rfl
theorem q1391 : (Jvm.Cond.code ({ cls := "SownByArgument", name := "back", desc := "()I" } : Jvm.MethodName) prog_1_method_99_code (1 : Nat) (Option.some Jvm.ClassFile.FieldType.int)) ∈ lw_all := lw_g (lw_at lw_m6 57 rfl) rfl
theorem q1393 : (Jvm.Cond.instanceMethod ({ cls := "SownByArgument", name := "about", desc := "(I)I" } : Jvm.MethodName)) ∈ lw_all := lw_g (lw_at lw_m6 59 rfl) rfl
theorem q1394 : (Jvm.Cond.selects "SownByArgument" ({ cls := "SownByArgument", name := "about", desc := "(I)I" } : Jvm.MethodName) ({ cls := "SownByArgument", name := "about", desc := "(I)I" } : Jvm.MethodName)) ∈ lw_all := lw_g (lw_at lw_m6 60 rfl) rfl
theorem q1395 : (Jvm.Cond.code ({ cls := "SownByArgument", name := "about", desc := "(I)I" } : Jvm.MethodName) prog_1_method_100_code (2 : Nat) (Option.some Jvm.ClassFile.FieldType.int)) ∈ lw_all := lw_g (lw_at lw_m6 61 rfl) rfl
theorem q2108 : (Jvm.Cond.castable "SownByArgument" "java/lang/Object") ∈ lw_tbl := lw_at lw_m9 54 rfl
theorem in_X0 : ∀ w ∈ wsX00, w ∈ lw_all := lw_in wsX00 [254, 256, 258, 260, 262, 264, 266, 268, 270, 272, 274, 276, 278] (by decide +kernel) (by decide +kernel)
