/-! SoManyStairs -/
set_option maxRecDepth 100000
def RX0 : String := "SoManyStairs"
def TX0 : u_T := fun k => match k with
  | 0 => ("SoManyStairs", "house", "LSoManyStairs$House;", false)
  | 1 => ("SoManyStairs", "now", "LSoManyStairs$State;", true)
  | 2 => ("SoManyStairs", "then", "LSoManyStairs$State;", true)
  | 3 => ("SoManyStairs", "tape", "[B", true)
  | 4 => ("SoManyStairs", "fault", "LSoManyStairs$Wrong;", true)
  | 5 => ("SoManyStairs", "taped", "I", false)
  | 6 => ("SoManyStairs", "time", "I", false)
  | 7 => ("SoManyStairs", "faultKind", "I", false)
  | 8 => ("SoManyStairs", "faultPlace", "I", false)
  | 9 => ("SoManyStairs", "acts", "Ljava/util/ArrayList;", true)
  | 10 => ("SoManyStairs", "undone", "Ljava/util/ArrayList;", true)
  | 11 => ("SoManyStairs", "laidRow", "[I", true)
  | 12 => ("SoManyStairs", "trial", "[I", true)
  | 13 => ("SoManyStairs", "laid", "I", false)
  | 14 => ("SoManyStairs", "fewestStoreys", "I", false)
  | 15 => ("SoManyStairs", "cared", "[I", true)
  | 16 => ("SoManyStairs", "countsOn", "[I", true)
  | 17 => ("SoManyStairs", "leastApart", "I", false)
  | 18 => ("SoManyStairs", "marks", "Ljava/util/ArrayList;", true)
  | _ => ("SoManyStairs", "boxes", "[LSoManyStairs$Kept;", true)
def tyX0 : Nat → FieldType := fun k => match k with
  | 0 => .object "SoManyStairs$House"
  | 1 => .object "SoManyStairs$State"
  | 2 => .object "SoManyStairs$State"
  | 3 => .array .byte
  | 4 => .object "SoManyStairs$Wrong"
  | 5 => .int
  | 6 => .int
  | 7 => .int
  | 8 => .int
  | 9 => .object "java/util/ArrayList"
  | 10 => .object "java/util/ArrayList"
  | 11 => .array .int
  | 12 => .array .int
  | 13 => .int
  | 14 => .int
  | 15 => .array .int
  | 16 => .array .int
  | 17 => .int
  | 18 => .object "java/util/ArrayList"
  | _ => .array (.object "SoManyStairs$Kept")
abbrev wsX00 : List Cond := u_ws RX0 TX0 20
set_option maxRecDepth 100000 in
theorem nmX0 : ∀ a, a < 20 → ∀ b, b < 20 → a ≠ b → (TX0 a).2.1 ≠ (TX0 b).2.1 := by decide +kernel
set_option maxRecDepth 100000 in
theorem tyX0_ok : ∀ k, k < 20 → parseFieldDescriptor (TX0 k).2.2.1 = some (tyX0 k) := by decide +kernel
abbrev cX0_init : ByteArray := prog_1_method_4_code
def yX0_init : MethodName := ⟨RX0, "<init>", "()V"⟩
def dkwX0_init_7 : List UInt8 := [183, 0, 78, 83, 181, 0, 81, 42, 182, 0, 85, 177]
abbrev dktX0_init_7 : List UInt8 := dkwX0_init_7 ++ []
def dkwX0_init_6 : List UInt8 := [183, 0, 78, 83, 89, 4, 187, 0, 76, 89, 1, 183, 0, 78, 83, 89, 5, 187, 0, 76, 89, 1]
abbrev dktX0_init_6 : List UInt8 := dkwX0_init_6 ++ dktX0_init_7
def dkwX0_init_5 : List UInt8 := [42, 187, 0, 50, 89, 183, 0, 52, 181, 0, 73, 42, 6, 189, 0, 76, 89, 3, 187, 0, 76, 89, 1]
abbrev dktX0_init_5 : List UInt8 := dkwX0_init_5 ++ dktX0_init_6
def dkwX0_init_4 : List UInt8 := [16, 8, 188, 10, 181, 0, 64, 42, 17, 9, 0, 188, 10, 181, 0, 67, 42, 16, 41, 188, 10, 181, 0, 70]
abbrev dktX0_init_4 : List UInt8 := dkwX0_init_4 ++ dktX0_init_5
def dkwX0_init_3 : List UInt8 := [181, 0, 53, 42, 187, 0, 50, 89, 183, 0, 52, 181, 0, 57, 42, 16, 8, 188, 10, 181, 0, 60, 42]
abbrev dktX0_init_3 : List UInt8 := dkwX0_init_3 ++ dktX0_init_4
def dkwX0_init_2 : List UInt8 := [187, 0, 39, 89, 183, 0, 41, 181, 0, 42, 42, 2, 181, 0, 46, 42, 187, 0, 50, 89, 183, 0, 52]
abbrev dktX0_init_2 : List UInt8 := dkwX0_init_2 ++ dktX0_init_3
def dkwX0_init_1 : List UInt8 := [181, 0, 28, 42, 187, 0, 25, 89, 183, 0, 27, 181, 0, 32, 42, 17, 6, 64, 188, 8, 181, 0, 35, 42]
abbrev dktX0_init_1 : List UInt8 := dkwX0_init_1 ++ dktX0_init_2
def dkwX0_init_0 : List UInt8 := [42, 183, 0, 10, 42, 187, 0, 16, 89, 183, 0, 18, 181, 0, 19, 42, 187, 0, 25, 89, 183, 0, 27]
abbrev dktX0_init_0 : List UInt8 := dkwX0_init_0 ++ dktX0_init_1
theorem dksX0_init_0 : cX0_init.data.toList.drop 0 = dktX0_init_0 := by decide +kernel
theorem dksX0_init_1 : cX0_init.data.toList.drop 23 = dktX0_init_1 := dk_seg dksX0_init_0 23 rfl rfl
theorem dksX0_init_2 : cX0_init.data.toList.drop 47 = dktX0_init_2 := dk_seg dksX0_init_1 24 rfl rfl
theorem dksX0_init_3 : cX0_init.data.toList.drop 70 = dktX0_init_3 := dk_seg dksX0_init_2 23 rfl rfl
theorem dksX0_init_4 : cX0_init.data.toList.drop 93 = dktX0_init_4 := dk_seg dksX0_init_3 23 rfl rfl
theorem dksX0_init_5 : cX0_init.data.toList.drop 117 = dktX0_init_5 := dk_seg dksX0_init_4 24 rfl rfl
theorem dksX0_init_6 : cX0_init.data.toList.drop 140 = dktX0_init_6 := dk_seg dksX0_init_5 23 rfl rfl
theorem dksX0_init_7 : cX0_init.data.toList.drop 162 = dktX0_init_7 := dk_seg dksX0_init_6 22 rfl rfl
theorem dX0_init_0 : decode cX0_init 0 = .ok (.aload_n 0, 1) := dk_42 (dk_at dksX0_init_0 0 rfl rfl)
theorem dX0_init_1 : decode cX0_init 1 = .ok (.invokespecial 10, 3) := dk_183 0 10 (dk_at dksX0_init_0 1 rfl rfl)
theorem dX0_init_4 : decode cX0_init 4 = .ok (.aload_n 0, 1) := dk_42 (dk_at dksX0_init_0 4 rfl rfl)
theorem dX0_init_5 : decode cX0_init 5 = .ok (.new 16, 3) := dk_187 0 16 (dk_at dksX0_init_0 5 rfl rfl)
theorem dX0_init_8 : decode cX0_init 8 = .ok (.dup, 1) := dk_89 (dk_at dksX0_init_0 8 rfl rfl)
theorem dX0_init_9 : decode cX0_init 9 = .ok (.invokespecial 18, 3) := dk_183 0 18 (dk_at dksX0_init_0 9 rfl rfl)
theorem dX0_init_12 : decode cX0_init 12 = .ok (.putfield 19, 3) := dk_181 0 19 (dk_at dksX0_init_0 12 rfl rfl)
theorem dX0_init_15 : decode cX0_init 15 = .ok (.aload_n 0, 1) := dk_42 (dk_at dksX0_init_0 15 rfl rfl)
theorem dX0_init_16 : decode cX0_init 16 = .ok (.new 25, 3) := dk_187 0 25 (dk_at dksX0_init_0 16 rfl rfl)
theorem dX0_init_19 : decode cX0_init 19 = .ok (.dup, 1) := dk_89 (dk_at dksX0_init_0 19 rfl rfl)
theorem dX0_init_20 : decode cX0_init 20 = .ok (.invokespecial 27, 3) := dk_183 0 27 (dk_at dksX0_init_0 20 rfl rfl)
theorem dX0_init_23 : decode cX0_init 23 = .ok (.putfield 28, 3) := dk_181 0 28 (dk_at dksX0_init_1 0 rfl rfl)
theorem dX0_init_26 : decode cX0_init 26 = .ok (.aload_n 0, 1) := dk_42 (dk_at dksX0_init_1 3 rfl rfl)
theorem dX0_init_27 : decode cX0_init 27 = .ok (.new 25, 3) := dk_187 0 25 (dk_at dksX0_init_1 4 rfl rfl)
theorem dX0_init_30 : decode cX0_init 30 = .ok (.dup, 1) := dk_89 (dk_at dksX0_init_1 7 rfl rfl)
theorem dX0_init_31 : decode cX0_init 31 = .ok (.invokespecial 27, 3) := dk_183 0 27 (dk_at dksX0_init_1 8 rfl rfl)
theorem dX0_init_34 : decode cX0_init 34 = .ok (.putfield 32, 3) := dk_181 0 32 (dk_at dksX0_init_1 11 rfl rfl)
theorem dX0_init_37 : decode cX0_init 37 = .ok (.aload_n 0, 1) := dk_42 (dk_at dksX0_init_1 14 rfl rfl)
theorem dX0_init_38 : decode cX0_init 38 = .ok (.sipush 1600, 3) := dk_17 6 64 (dk_at dksX0_init_1 15 rfl rfl)
theorem dX0_init_41 : decode cX0_init 41 = .ok (.newarray .byte, 2) := dk_188_8 (dk_at dksX0_init_1 18 rfl rfl)
theorem dX0_init_43 : decode cX0_init 43 = .ok (.putfield 35, 3) := dk_181 0 35 (dk_at dksX0_init_1 20 rfl rfl)
theorem dX0_init_46 : decode cX0_init 46 = .ok (.aload_n 0, 1) := dk_42 (dk_at dksX0_init_1 23 rfl rfl)
theorem dX0_init_47 : decode cX0_init 47 = .ok (.new 39, 3) := dk_187 0 39 (dk_at dksX0_init_2 0 rfl rfl)
theorem dX0_init_50 : decode cX0_init 50 = .ok (.dup, 1) := dk_89 (dk_at dksX0_init_2 3 rfl rfl)
theorem dX0_init_51 : decode cX0_init 51 = .ok (.invokespecial 41, 3) := dk_183 0 41 (dk_at dksX0_init_2 4 rfl rfl)
theorem dX0_init_54 : decode cX0_init 54 = .ok (.putfield 42, 3) := dk_181 0 42 (dk_at dksX0_init_2 7 rfl rfl)
theorem dX0_init_57 : decode cX0_init 57 = .ok (.aload_n 0, 1) := dk_42 (dk_at dksX0_init_2 10 rfl rfl)
theorem dX0_init_58 : decode cX0_init 58 = .ok (.iconst (-1), 1) := dk_2 (dk_at dksX0_init_2 11 rfl rfl)
theorem dX0_init_59 : decode cX0_init 59 = .ok (.putfield 46, 3) := dk_181 0 46 (dk_at dksX0_init_2 12 rfl rfl)
theorem dX0_init_62 : decode cX0_init 62 = .ok (.aload_n 0, 1) := dk_42 (dk_at dksX0_init_2 15 rfl rfl)
theorem dX0_init_63 : decode cX0_init 63 = .ok (.new 50, 3) := dk_187 0 50 (dk_at dksX0_init_2 16 rfl rfl)
theorem dX0_init_66 : decode cX0_init 66 = .ok (.dup, 1) := dk_89 (dk_at dksX0_init_2 19 rfl rfl)
theorem dX0_init_67 : decode cX0_init 67 = .ok (.invokespecial 52, 3) := dk_183 0 52 (dk_at dksX0_init_2 20 rfl rfl)
theorem dX0_init_70 : decode cX0_init 70 = .ok (.putfield 53, 3) := dk_181 0 53 (dk_at dksX0_init_3 0 rfl rfl)
theorem dX0_init_73 : decode cX0_init 73 = .ok (.aload_n 0, 1) := dk_42 (dk_at dksX0_init_3 3 rfl rfl)
theorem dX0_init_74 : decode cX0_init 74 = .ok (.new 50, 3) := dk_187 0 50 (dk_at dksX0_init_3 4 rfl rfl)
theorem dX0_init_77 : decode cX0_init 77 = .ok (.dup, 1) := dk_89 (dk_at dksX0_init_3 7 rfl rfl)
theorem dX0_init_78 : decode cX0_init 78 = .ok (.invokespecial 52, 3) := dk_183 0 52 (dk_at dksX0_init_3 8 rfl rfl)
theorem dX0_init_81 : decode cX0_init 81 = .ok (.putfield 57, 3) := dk_181 0 57 (dk_at dksX0_init_3 11 rfl rfl)
theorem dX0_init_84 : decode cX0_init 84 = .ok (.aload_n 0, 1) := dk_42 (dk_at dksX0_init_3 14 rfl rfl)
theorem dX0_init_85 : decode cX0_init 85 = .ok (.bipush 8, 2) := dk_16 8 (dk_at dksX0_init_3 15 rfl rfl)
theorem dX0_init_87 : decode cX0_init 87 = .ok (.newarray .int, 2) := dk_188_10 (dk_at dksX0_init_3 17 rfl rfl)
theorem dX0_init_89 : decode cX0_init 89 = .ok (.putfield 60, 3) := dk_181 0 60 (dk_at dksX0_init_3 19 rfl rfl)
theorem dX0_init_92 : decode cX0_init 92 = .ok (.aload_n 0, 1) := dk_42 (dk_at dksX0_init_3 22 rfl rfl)
theorem dX0_init_93 : decode cX0_init 93 = .ok (.bipush 8, 2) := dk_16 8 (dk_at dksX0_init_4 0 rfl rfl)
theorem dX0_init_95 : decode cX0_init 95 = .ok (.newarray .int, 2) := dk_188_10 (dk_at dksX0_init_4 2 rfl rfl)
theorem dX0_init_97 : decode cX0_init 97 = .ok (.putfield 64, 3) := dk_181 0 64 (dk_at dksX0_init_4 4 rfl rfl)
theorem dX0_init_100 : decode cX0_init 100 = .ok (.aload_n 0, 1) := dk_42 (dk_at dksX0_init_4 7 rfl rfl)
theorem dX0_init_101 : decode cX0_init 101 = .ok (.sipush 2304, 3) := dk_17 9 0 (dk_at dksX0_init_4 8 rfl rfl)
theorem dX0_init_104 : decode cX0_init 104 = .ok (.newarray .int, 2) := dk_188_10 (dk_at dksX0_init_4 11 rfl rfl)
theorem dX0_init_106 : decode cX0_init 106 = .ok (.putfield 67, 3) := dk_181 0 67 (dk_at dksX0_init_4 13 rfl rfl)
theorem dX0_init_109 : decode cX0_init 109 = .ok (.aload_n 0, 1) := dk_42 (dk_at dksX0_init_4 16 rfl rfl)
theorem dX0_init_110 : decode cX0_init 110 = .ok (.bipush 41, 2) := dk_16 41 (dk_at dksX0_init_4 17 rfl rfl)
theorem dX0_init_112 : decode cX0_init 112 = .ok (.newarray .int, 2) := dk_188_10 (dk_at dksX0_init_4 19 rfl rfl)
theorem dX0_init_114 : decode cX0_init 114 = .ok (.putfield 70, 3) := dk_181 0 70 (dk_at dksX0_init_4 21 rfl rfl)
theorem dX0_init_117 : decode cX0_init 117 = .ok (.aload_n 0, 1) := dk_42 (dk_at dksX0_init_5 0 rfl rfl)
theorem dX0_init_118 : decode cX0_init 118 = .ok (.new 50, 3) := dk_187 0 50 (dk_at dksX0_init_5 1 rfl rfl)
theorem dX0_init_121 : decode cX0_init 121 = .ok (.dup, 1) := dk_89 (dk_at dksX0_init_5 4 rfl rfl)
theorem dX0_init_122 : decode cX0_init 122 = .ok (.invokespecial 52, 3) := dk_183 0 52 (dk_at dksX0_init_5 5 rfl rfl)
theorem dX0_init_125 : decode cX0_init 125 = .ok (.putfield 73, 3) := dk_181 0 73 (dk_at dksX0_init_5 8 rfl rfl)
theorem dX0_init_128 : decode cX0_init 128 = .ok (.aload_n 0, 1) := dk_42 (dk_at dksX0_init_5 11 rfl rfl)
theorem dX0_init_129 : decode cX0_init 129 = .ok (.iconst 3, 1) := dk_6 (dk_at dksX0_init_5 12 rfl rfl)
theorem dX0_init_130 : decode cX0_init 130 = .ok (.anewarray 76, 3) := dk_189 0 76 (dk_at dksX0_init_5 13 rfl rfl)
theorem dX0_init_133 : decode cX0_init 133 = .ok (.dup, 1) := dk_89 (dk_at dksX0_init_5 16 rfl rfl)
theorem dX0_init_134 : decode cX0_init 134 = .ok (.iconst 0, 1) := dk_3 (dk_at dksX0_init_5 17 rfl rfl)
theorem dX0_init_135 : decode cX0_init 135 = .ok (.new 76, 3) := dk_187 0 76 (dk_at dksX0_init_5 18 rfl rfl)
theorem dX0_init_138 : decode cX0_init 138 = .ok (.dup, 1) := dk_89 (dk_at dksX0_init_5 21 rfl rfl)
theorem dX0_init_139 : decode cX0_init 139 = .ok (.aconst_null, 1) := dk_1 (dk_at dksX0_init_5 22 rfl rfl)
theorem dX0_init_140 : decode cX0_init 140 = .ok (.invokespecial 78, 3) := dk_183 0 78 (dk_at dksX0_init_6 0 rfl rfl)
theorem dX0_init_143 : decode cX0_init 143 = .ok (.aastore, 1) := dk_83 (dk_at dksX0_init_6 3 rfl rfl)
theorem dX0_init_144 : decode cX0_init 144 = .ok (.dup, 1) := dk_89 (dk_at dksX0_init_6 4 rfl rfl)
theorem dX0_init_145 : decode cX0_init 145 = .ok (.iconst 1, 1) := dk_4 (dk_at dksX0_init_6 5 rfl rfl)
theorem dX0_init_146 : decode cX0_init 146 = .ok (.new 76, 3) := dk_187 0 76 (dk_at dksX0_init_6 6 rfl rfl)
theorem dX0_init_149 : decode cX0_init 149 = .ok (.dup, 1) := dk_89 (dk_at dksX0_init_6 9 rfl rfl)
theorem dX0_init_150 : decode cX0_init 150 = .ok (.aconst_null, 1) := dk_1 (dk_at dksX0_init_6 10 rfl rfl)
theorem dX0_init_151 : decode cX0_init 151 = .ok (.invokespecial 78, 3) := dk_183 0 78 (dk_at dksX0_init_6 11 rfl rfl)
theorem dX0_init_154 : decode cX0_init 154 = .ok (.aastore, 1) := dk_83 (dk_at dksX0_init_6 14 rfl rfl)
theorem dX0_init_155 : decode cX0_init 155 = .ok (.dup, 1) := dk_89 (dk_at dksX0_init_6 15 rfl rfl)
theorem dX0_init_156 : decode cX0_init 156 = .ok (.iconst 2, 1) := dk_5 (dk_at dksX0_init_6 16 rfl rfl)
theorem dX0_init_157 : decode cX0_init 157 = .ok (.new 76, 3) := dk_187 0 76 (dk_at dksX0_init_6 17 rfl rfl)
theorem dX0_init_160 : decode cX0_init 160 = .ok (.dup, 1) := dk_89 (dk_at dksX0_init_6 20 rfl rfl)
theorem dX0_init_161 : decode cX0_init 161 = .ok (.aconst_null, 1) := dk_1 (dk_at dksX0_init_6 21 rfl rfl)
theorem dX0_init_162 : decode cX0_init 162 = .ok (.invokespecial 78, 3) := dk_183 0 78 (dk_at dksX0_init_7 0 rfl rfl)
theorem dX0_init_165 : decode cX0_init 165 = .ok (.aastore, 1) := dk_83 (dk_at dksX0_init_7 3 rfl rfl)
theorem dX0_init_166 : decode cX0_init 166 = .ok (.putfield 81, 3) := dk_181 0 81 (dk_at dksX0_init_7 4 rfl rfl)
theorem dX0_init_169 : decode cX0_init 169 = .ok (.aload_n 0, 1) := dk_42 (dk_at dksX0_init_7 7 rfl rfl)
theorem dX0_init_170 : decode cX0_init 170 = .ok (.invokevirtual 85, 3) := dk_182 0 85 (dk_at dksX0_init_7 8 rfl rfl)
theorem dX0_init_173 : decode cX0_init 173 = .ok (.return_, 1) := dk_177 (dk_at dksX0_init_7 11 rfl rfl)
abbrev cX0_start : ByteArray := prog_1_method_5_code
def yX0_start : MethodName := ⟨RX0, "start", "()V"⟩
def dkwX0_start_7 : List UInt8 := [132, 1, 1, 167, 255, 238, 177]
abbrev dktX0_start_7 : List UInt8 := dkwX0_start_7 ++ []
def dkwX0_start_6 : List UInt8 := [42, 3, 181, 0, 132, 3, 60, 27, 6, 162, 0, 19, 42, 180, 0, 81, 27, 50, 1, 181, 0, 135]
abbrev dktX0_start_6 : List UInt8 := dkwX0_start_6 ++ dktX0_start_7
def dkwX0_start_5 : List UInt8 := [181, 0, 126, 42, 180, 0, 53, 182, 0, 129, 42, 180, 0, 57, 182, 0, 129, 42, 180, 0, 73, 182, 0, 129]
abbrev dktX0_start_5 : List UInt8 := dkwX0_start_5 ++ dktX0_start_6
def dkwX0_start_4 : List UInt8 := [181, 0, 119, 42, 180, 0, 28, 3, 181, 0, 120, 42, 180, 0, 28, 42, 180, 0, 19, 180, 0, 123]
abbrev dktX0_start_4 : List UInt8 := dkwX0_start_4 ++ dktX0_start_5
def dkwX0_start_3 : List UInt8 := [167, 255, 189, 42, 180, 0, 28, 3, 181, 0, 113, 42, 180, 0, 28, 42, 180, 0, 19, 180, 0, 116]
abbrev dktX0_start_3 : List UInt8 := dkwX0_start_3 ++ dktX0_start_4
def dkwX0_start_2 : List UInt8 := [180, 0, 28, 180, 0, 107, 27, 3, 79, 42, 180, 0, 28, 180, 0, 110, 27, 3, 79, 132, 1, 1]
abbrev dktX0_start_2 : List UInt8 := dkwX0_start_2 ++ dktX0_start_3
def dkwX0_start_1 : List UInt8 := [42, 180, 0, 19, 180, 0, 95, 27, 182, 0, 98, 192, 0, 102, 180, 0, 104, 167, 0, 4, 3, 79, 42]
abbrev dktX0_start_1 : List UInt8 := dkwX0_start_1 ++ dktX0_start_2
def dkwX0_start_0 : List UInt8 := [3, 60, 27, 16, 8, 162, 0, 67, 42, 180, 0, 28, 180, 0, 88, 27, 27, 42, 182, 0, 91, 162, 0, 23]
abbrev dktX0_start_0 : List UInt8 := dkwX0_start_0 ++ dktX0_start_1
theorem dksX0_start_0 : cX0_start.data.toList.drop 0 = dktX0_start_0 := by decide +kernel
theorem dksX0_start_1 : cX0_start.data.toList.drop 24 = dktX0_start_1 := dk_seg dksX0_start_0 24 rfl rfl
theorem dksX0_start_2 : cX0_start.data.toList.drop 47 = dktX0_start_2 := dk_seg dksX0_start_1 23 rfl rfl
theorem dksX0_start_3 : cX0_start.data.toList.drop 69 = dktX0_start_3 := dk_seg dksX0_start_2 22 rfl rfl
theorem dksX0_start_4 : cX0_start.data.toList.drop 91 = dktX0_start_4 := dk_seg dksX0_start_3 22 rfl rfl
theorem dksX0_start_5 : cX0_start.data.toList.drop 113 = dktX0_start_5 := dk_seg dksX0_start_4 22 rfl rfl
theorem dksX0_start_6 : cX0_start.data.toList.drop 137 = dktX0_start_6 := dk_seg dksX0_start_5 24 rfl rfl
theorem dksX0_start_7 : cX0_start.data.toList.drop 159 = dktX0_start_7 := dk_seg dksX0_start_6 22 rfl rfl
theorem dX0_start_0 : decode cX0_start 0 = .ok (.iconst 0, 1) := dk_3 (dk_at dksX0_start_0 0 rfl rfl)
theorem dX0_start_1 : decode cX0_start 1 = .ok (.istore_n 1, 1) := dk_60 (dk_at dksX0_start_0 1 rfl rfl)
theorem dX0_start_2 : decode cX0_start 2 = .ok (.iload_n 1, 1) := dk_27 (dk_at dksX0_start_0 2 rfl rfl)
theorem dX0_start_3 : decode cX0_start 3 = .ok (.bipush 8, 2) := dk_16 8 (dk_at dksX0_start_0 3 rfl rfl)
theorem dX0_start_5 : decode cX0_start 5 = .ok (.if_icmp .ge 67, 3) := dk_162 0 67 (dk_at dksX0_start_0 5 rfl rfl)
theorem dX0_start_8 : decode cX0_start 8 = .ok (.aload_n 0, 1) := dk_42 (dk_at dksX0_start_0 8 rfl rfl)
theorem dX0_start_9 : decode cX0_start 9 = .ok (.getfield 28, 3) := dk_180 0 28 (dk_at dksX0_start_0 9 rfl rfl)
theorem dX0_start_12 : decode cX0_start 12 = .ok (.getfield 88, 3) := dk_180 0 88 (dk_at dksX0_start_0 12 rfl rfl)
theorem dX0_start_15 : decode cX0_start 15 = .ok (.iload_n 1, 1) := dk_27 (dk_at dksX0_start_0 15 rfl rfl)
theorem dX0_start_16 : decode cX0_start 16 = .ok (.iload_n 1, 1) := dk_27 (dk_at dksX0_start_0 16 rfl rfl)
theorem dX0_start_17 : decode cX0_start 17 = .ok (.aload_n 0, 1) := dk_42 (dk_at dksX0_start_0 17 rfl rfl)
theorem dX0_start_18 : decode cX0_start 18 = .ok (.invokevirtual 91, 3) := dk_182 0 91 (dk_at dksX0_start_0 18 rfl rfl)
theorem dX0_start_21 : decode cX0_start 21 = .ok (.if_icmp .ge 23, 3) := dk_162 0 23 (dk_at dksX0_start_0 21 rfl rfl)
theorem dX0_start_24 : decode cX0_start 24 = .ok (.aload_n 0, 1) := dk_42 (dk_at dksX0_start_1 0 rfl rfl)
theorem dX0_start_25 : decode cX0_start 25 = .ok (.getfield 19, 3) := dk_180 0 19 (dk_at dksX0_start_1 1 rfl rfl)
theorem dX0_start_28 : decode cX0_start 28 = .ok (.getfield 95, 3) := dk_180 0 95 (dk_at dksX0_start_1 4 rfl rfl)
theorem dX0_start_31 : decode cX0_start 31 = .ok (.iload_n 1, 1) := dk_27 (dk_at dksX0_start_1 7 rfl rfl)
theorem dX0_start_32 : decode cX0_start 32 = .ok (.invokevirtual 98, 3) := dk_182 0 98 (dk_at dksX0_start_1 8 rfl rfl)
theorem dX0_start_35 : decode cX0_start 35 = .ok (.checkcast 102, 3) := dk_192 0 102 (dk_at dksX0_start_1 11 rfl rfl)
theorem dX0_start_38 : decode cX0_start 38 = .ok (.getfield 104, 3) := dk_180 0 104 (dk_at dksX0_start_1 14 rfl rfl)
theorem dX0_start_41 : decode cX0_start 41 = .ok (.goto 4, 3) := dk_167 0 4 (dk_at dksX0_start_1 17 rfl rfl)
theorem dX0_start_44 : decode cX0_start 44 = .ok (.iconst 0, 1) := dk_3 (dk_at dksX0_start_1 20 rfl rfl)
theorem dX0_start_45 : decode cX0_start 45 = .ok (.iastore, 1) := dk_79 (dk_at dksX0_start_1 21 rfl rfl)
theorem dX0_start_46 : decode cX0_start 46 = .ok (.aload_n 0, 1) := dk_42 (dk_at dksX0_start_1 22 rfl rfl)
theorem dX0_start_47 : decode cX0_start 47 = .ok (.getfield 28, 3) := dk_180 0 28 (dk_at dksX0_start_2 0 rfl rfl)
theorem dX0_start_50 : decode cX0_start 50 = .ok (.getfield 107, 3) := dk_180 0 107 (dk_at dksX0_start_2 3 rfl rfl)
theorem dX0_start_53 : decode cX0_start 53 = .ok (.iload_n 1, 1) := dk_27 (dk_at dksX0_start_2 6 rfl rfl)
theorem dX0_start_54 : decode cX0_start 54 = .ok (.iconst 0, 1) := dk_3 (dk_at dksX0_start_2 7 rfl rfl)
theorem dX0_start_55 : decode cX0_start 55 = .ok (.iastore, 1) := dk_79 (dk_at dksX0_start_2 8 rfl rfl)
theorem dX0_start_56 : decode cX0_start 56 = .ok (.aload_n 0, 1) := dk_42 (dk_at dksX0_start_2 9 rfl rfl)
theorem dX0_start_57 : decode cX0_start 57 = .ok (.getfield 28, 3) := dk_180 0 28 (dk_at dksX0_start_2 10 rfl rfl)
theorem dX0_start_60 : decode cX0_start 60 = .ok (.getfield 110, 3) := dk_180 0 110 (dk_at dksX0_start_2 13 rfl rfl)
theorem dX0_start_63 : decode cX0_start 63 = .ok (.iload_n 1, 1) := dk_27 (dk_at dksX0_start_2 16 rfl rfl)
theorem dX0_start_64 : decode cX0_start 64 = .ok (.iconst 0, 1) := dk_3 (dk_at dksX0_start_2 17 rfl rfl)
theorem dX0_start_65 : decode cX0_start 65 = .ok (.iastore, 1) := dk_79 (dk_at dksX0_start_2 18 rfl rfl)
theorem dX0_start_66 : decode cX0_start 66 = .ok (.iinc 1 1, 3) := dk_132 1 1 (dk_at dksX0_start_2 19 rfl rfl)
theorem dX0_start_69 : decode cX0_start 69 = .ok (.goto (-67), 3) := dk_167 255 189 (dk_at dksX0_start_3 0 rfl rfl)
theorem dX0_start_72 : decode cX0_start 72 = .ok (.aload_n 0, 1) := dk_42 (dk_at dksX0_start_3 3 rfl rfl)
theorem dX0_start_73 : decode cX0_start 73 = .ok (.getfield 28, 3) := dk_180 0 28 (dk_at dksX0_start_3 4 rfl rfl)
theorem dX0_start_76 : decode cX0_start 76 = .ok (.iconst 0, 1) := dk_3 (dk_at dksX0_start_3 7 rfl rfl)
theorem dX0_start_77 : decode cX0_start 77 = .ok (.putfield 113, 3) := dk_181 0 113 (dk_at dksX0_start_3 8 rfl rfl)
theorem dX0_start_80 : decode cX0_start 80 = .ok (.aload_n 0, 1) := dk_42 (dk_at dksX0_start_3 11 rfl rfl)
theorem dX0_start_81 : decode cX0_start 81 = .ok (.getfield 28, 3) := dk_180 0 28 (dk_at dksX0_start_3 12 rfl rfl)
theorem dX0_start_84 : decode cX0_start 84 = .ok (.aload_n 0, 1) := dk_42 (dk_at dksX0_start_3 15 rfl rfl)
theorem dX0_start_85 : decode cX0_start 85 = .ok (.getfield 19, 3) := dk_180 0 19 (dk_at dksX0_start_3 16 rfl rfl)
theorem dX0_start_88 : decode cX0_start 88 = .ok (.getfield 116, 3) := dk_180 0 116 (dk_at dksX0_start_3 19 rfl rfl)
theorem dX0_start_91 : decode cX0_start 91 = .ok (.putfield 119, 3) := dk_181 0 119 (dk_at dksX0_start_4 0 rfl rfl)
theorem dX0_start_94 : decode cX0_start 94 = .ok (.aload_n 0, 1) := dk_42 (dk_at dksX0_start_4 3 rfl rfl)
theorem dX0_start_95 : decode cX0_start 95 = .ok (.getfield 28, 3) := dk_180 0 28 (dk_at dksX0_start_4 4 rfl rfl)
theorem dX0_start_98 : decode cX0_start 98 = .ok (.iconst 0, 1) := dk_3 (dk_at dksX0_start_4 7 rfl rfl)
theorem dX0_start_99 : decode cX0_start 99 = .ok (.putfield 120, 3) := dk_181 0 120 (dk_at dksX0_start_4 8 rfl rfl)
theorem dX0_start_102 : decode cX0_start 102 = .ok (.aload_n 0, 1) := dk_42 (dk_at dksX0_start_4 11 rfl rfl)
theorem dX0_start_103 : decode cX0_start 103 = .ok (.getfield 28, 3) := dk_180 0 28 (dk_at dksX0_start_4 12 rfl rfl)
theorem dX0_start_106 : decode cX0_start 106 = .ok (.aload_n 0, 1) := dk_42 (dk_at dksX0_start_4 15 rfl rfl)
theorem dX0_start_107 : decode cX0_start 107 = .ok (.getfield 19, 3) := dk_180 0 19 (dk_at dksX0_start_4 16 rfl rfl)
theorem dX0_start_110 : decode cX0_start 110 = .ok (.getfield 123, 3) := dk_180 0 123 (dk_at dksX0_start_4 19 rfl rfl)
theorem dX0_start_113 : decode cX0_start 113 = .ok (.putfield 126, 3) := dk_181 0 126 (dk_at dksX0_start_5 0 rfl rfl)
theorem dX0_start_116 : decode cX0_start 116 = .ok (.aload_n 0, 1) := dk_42 (dk_at dksX0_start_5 3 rfl rfl)
theorem dX0_start_117 : decode cX0_start 117 = .ok (.getfield 53, 3) := dk_180 0 53 (dk_at dksX0_start_5 4 rfl rfl)
theorem dX0_start_120 : decode cX0_start 120 = .ok (.invokevirtual 129, 3) := dk_182 0 129 (dk_at dksX0_start_5 7 rfl rfl)
theorem dX0_start_123 : decode cX0_start 123 = .ok (.aload_n 0, 1) := dk_42 (dk_at dksX0_start_5 10 rfl rfl)
theorem dX0_start_124 : decode cX0_start 124 = .ok (.getfield 57, 3) := dk_180 0 57 (dk_at dksX0_start_5 11 rfl rfl)
theorem dX0_start_127 : decode cX0_start 127 = .ok (.invokevirtual 129, 3) := dk_182 0 129 (dk_at dksX0_start_5 14 rfl rfl)
theorem dX0_start_130 : decode cX0_start 130 = .ok (.aload_n 0, 1) := dk_42 (dk_at dksX0_start_5 17 rfl rfl)
theorem dX0_start_131 : decode cX0_start 131 = .ok (.getfield 73, 3) := dk_180 0 73 (dk_at dksX0_start_5 18 rfl rfl)
theorem dX0_start_134 : decode cX0_start 134 = .ok (.invokevirtual 129, 3) := dk_182 0 129 (dk_at dksX0_start_5 21 rfl rfl)
theorem dX0_start_137 : decode cX0_start 137 = .ok (.aload_n 0, 1) := dk_42 (dk_at dksX0_start_6 0 rfl rfl)
theorem dX0_start_138 : decode cX0_start 138 = .ok (.iconst 0, 1) := dk_3 (dk_at dksX0_start_6 1 rfl rfl)
theorem dX0_start_139 : decode cX0_start 139 = .ok (.putfield 132, 3) := dk_181 0 132 (dk_at dksX0_start_6 2 rfl rfl)
theorem dX0_start_142 : decode cX0_start 142 = .ok (.iconst 0, 1) := dk_3 (dk_at dksX0_start_6 5 rfl rfl)
theorem dX0_start_143 : decode cX0_start 143 = .ok (.istore_n 1, 1) := dk_60 (dk_at dksX0_start_6 6 rfl rfl)
theorem dX0_start_144 : decode cX0_start 144 = .ok (.iload_n 1, 1) := dk_27 (dk_at dksX0_start_6 7 rfl rfl)
theorem dX0_start_145 : decode cX0_start 145 = .ok (.iconst 3, 1) := dk_6 (dk_at dksX0_start_6 8 rfl rfl)
theorem dX0_start_146 : decode cX0_start 146 = .ok (.if_icmp .ge 19, 3) := dk_162 0 19 (dk_at dksX0_start_6 9 rfl rfl)
theorem dX0_start_149 : decode cX0_start 149 = .ok (.aload_n 0, 1) := dk_42 (dk_at dksX0_start_6 12 rfl rfl)
theorem dX0_start_150 : decode cX0_start 150 = .ok (.getfield 81, 3) := dk_180 0 81 (dk_at dksX0_start_6 13 rfl rfl)
theorem dX0_start_153 : decode cX0_start 153 = .ok (.iload_n 1, 1) := dk_27 (dk_at dksX0_start_6 16 rfl rfl)
theorem dX0_start_154 : decode cX0_start 154 = .ok (.aaload, 1) := dk_50 (dk_at dksX0_start_6 17 rfl rfl)
theorem dX0_start_155 : decode cX0_start 155 = .ok (.aconst_null, 1) := dk_1 (dk_at dksX0_start_6 18 rfl rfl)
theorem dX0_start_156 : decode cX0_start 156 = .ok (.putfield 135, 3) := dk_181 0 135 (dk_at dksX0_start_6 19 rfl rfl)
theorem dX0_start_159 : decode cX0_start 159 = .ok (.iinc 1 1, 3) := dk_132 1 1 (dk_at dksX0_start_7 0 rfl rfl)
theorem dX0_start_162 : decode cX0_start 162 = .ok (.goto (-18), 3) := dk_167 255 238 (dk_at dksX0_start_7 3 rfl rfl)
theorem dX0_start_165 : decode cX0_start 165 = .ok (.return_, 1) := dk_177 (dk_at dksX0_start_7 6 rfl rfl)
abbrev cX0_many : ByteArray := prog_1_method_9_code
def yX0_many : MethodName := ⟨RX0, "many", "()I"⟩
def dkwX0_many_0 : List UInt8 := [42, 180, 0, 19, 180, 0, 95, 182, 0, 141, 172]
abbrev dktX0_many_0 : List UInt8 := dkwX0_many_0 ++ []
theorem dksX0_many_0 : cX0_many.data.toList.drop 0 = dktX0_many_0 := by decide +kernel
theorem dX0_many_0 : decode cX0_many 0 = .ok (.aload_n 0, 1) := dk_42 (dk_at dksX0_many_0 0 rfl rfl)
theorem dX0_many_1 : decode cX0_many 1 = .ok (.getfield 19, 3) := dk_180 0 19 (dk_at dksX0_many_0 1 rfl rfl)
theorem dX0_many_4 : decode cX0_many 4 = .ok (.getfield 95, 3) := dk_180 0 95 (dk_at dksX0_many_0 4 rfl rfl)
theorem dX0_many_7 : decode cX0_many 7 = .ok (.invokevirtual 141, 3) := dk_182 0 141 (dk_at dksX0_many_0 7 rfl rfl)
theorem dX0_many_10 : decode cX0_many 10 = .ok (.ireturn, 1) := dk_172 (dk_at dksX0_many_0 10 rfl rfl)
abbrev cX0_feed : ByteArray := prog_1_method_11_code
def yX0_feed : MethodName := ⟨RX0, "feed", "(IIIII)I"⟩
def dkwX0_feed_2 : List UInt8 := [172]
abbrev dktX0_feed_2 : List UInt8 := dkwX0_feed_2 ++ []
def dkwX0_feed_1 : List UInt8 := [182, 0, 162, 42, 29, 182, 0, 162, 42, 21, 4, 182, 0, 162, 42, 21, 5, 182, 0, 162, 42, 180, 0, 159]
abbrev dktX0_feed_1 : List UInt8 := dkwX0_feed_1 ++ dktX0_feed_2
def dkwX0_feed_0 : List UInt8 := [42, 180, 0, 159, 16, 20, 96, 17, 6, 64, 164, 0, 5, 2, 172, 42, 27, 182, 0, 162, 42, 28]
abbrev dktX0_feed_0 : List UInt8 := dkwX0_feed_0 ++ dktX0_feed_1
theorem dksX0_feed_0 : cX0_feed.data.toList.drop 0 = dktX0_feed_0 := by decide +kernel
theorem dksX0_feed_1 : cX0_feed.data.toList.drop 22 = dktX0_feed_1 := dk_seg dksX0_feed_0 22 rfl rfl
theorem dksX0_feed_2 : cX0_feed.data.toList.drop 46 = dktX0_feed_2 := dk_seg dksX0_feed_1 24 rfl rfl
theorem dX0_feed_0 : decode cX0_feed 0 = .ok (.aload_n 0, 1) := dk_42 (dk_at dksX0_feed_0 0 rfl rfl)
theorem dX0_feed_1 : decode cX0_feed 1 = .ok (.getfield 159, 3) := dk_180 0 159 (dk_at dksX0_feed_0 1 rfl rfl)
theorem dX0_feed_4 : decode cX0_feed 4 = .ok (.bipush 20, 2) := dk_16 20 (dk_at dksX0_feed_0 4 rfl rfl)
theorem dX0_feed_6 : decode cX0_feed 6 = .ok (.iadd, 1) := dk_96 (dk_at dksX0_feed_0 6 rfl rfl)
theorem dX0_feed_7 : decode cX0_feed 7 = .ok (.sipush 1600, 3) := dk_17 6 64 (dk_at dksX0_feed_0 7 rfl rfl)
theorem dX0_feed_10 : decode cX0_feed 10 = .ok (.if_icmp .le 5, 3) := dk_164 0 5 (dk_at dksX0_feed_0 10 rfl rfl)
theorem dX0_feed_13 : decode cX0_feed 13 = .ok (.iconst (-1), 1) := dk_2 (dk_at dksX0_feed_0 13 rfl rfl)
theorem dX0_feed_14 : decode cX0_feed 14 = .ok (.ireturn, 1) := dk_172 (dk_at dksX0_feed_0 14 rfl rfl)
theorem dX0_feed_15 : decode cX0_feed 15 = .ok (.aload_n 0, 1) := dk_42 (dk_at dksX0_feed_0 15 rfl rfl)
theorem dX0_feed_16 : decode cX0_feed 16 = .ok (.iload_n 1, 1) := dk_27 (dk_at dksX0_feed_0 16 rfl rfl)
theorem dX0_feed_17 : decode cX0_feed 17 = .ok (.invokevirtual 162, 3) := dk_182 0 162 (dk_at dksX0_feed_0 17 rfl rfl)
theorem dX0_feed_20 : decode cX0_feed 20 = .ok (.aload_n 0, 1) := dk_42 (dk_at dksX0_feed_0 20 rfl rfl)
theorem dX0_feed_21 : decode cX0_feed 21 = .ok (.iload_n 2, 1) := dk_28 (dk_at dksX0_feed_0 21 rfl rfl)
theorem dX0_feed_22 : decode cX0_feed 22 = .ok (.invokevirtual 162, 3) := dk_182 0 162 (dk_at dksX0_feed_1 0 rfl rfl)
theorem dX0_feed_25 : decode cX0_feed 25 = .ok (.aload_n 0, 1) := dk_42 (dk_at dksX0_feed_1 3 rfl rfl)
theorem dX0_feed_26 : decode cX0_feed 26 = .ok (.iload_n 3, 1) := dk_29 (dk_at dksX0_feed_1 4 rfl rfl)
theorem dX0_feed_27 : decode cX0_feed 27 = .ok (.invokevirtual 162, 3) := dk_182 0 162 (dk_at dksX0_feed_1 5 rfl rfl)
theorem dX0_feed_30 : decode cX0_feed 30 = .ok (.aload_n 0, 1) := dk_42 (dk_at dksX0_feed_1 8 rfl rfl)
theorem dX0_feed_31 : decode cX0_feed 31 = .ok (.iload 4, 2) := dk_21 4 (dk_at dksX0_feed_1 9 rfl rfl)
theorem dX0_feed_33 : decode cX0_feed 33 = .ok (.invokevirtual 162, 3) := dk_182 0 162 (dk_at dksX0_feed_1 11 rfl rfl)
theorem dX0_feed_36 : decode cX0_feed 36 = .ok (.aload_n 0, 1) := dk_42 (dk_at dksX0_feed_1 14 rfl rfl)
theorem dX0_feed_37 : decode cX0_feed 37 = .ok (.iload 5, 2) := dk_21 5 (dk_at dksX0_feed_1 15 rfl rfl)
theorem dX0_feed_39 : decode cX0_feed 39 = .ok (.invokevirtual 162, 3) := dk_182 0 162 (dk_at dksX0_feed_1 17 rfl rfl)
theorem dX0_feed_42 : decode cX0_feed 42 = .ok (.aload_n 0, 1) := dk_42 (dk_at dksX0_feed_1 20 rfl rfl)
theorem dX0_feed_43 : decode cX0_feed 43 = .ok (.getfield 159, 3) := dk_180 0 159 (dk_at dksX0_feed_1 21 rfl rfl)
theorem dX0_feed_46 : decode cX0_feed 46 = .ok (.ireturn, 1) := dk_172 (dk_at dksX0_feed_2 0 rfl rfl)
abbrev cX0_bytes : ByteArray := prog_1_method_12_code
def yX0_bytes : MethodName := ⟨RX0, "bytes", "(I)V"⟩
def dkwX0_bytes_1 : List UInt8 := [180, 0, 159, 4, 96, 181, 0, 159, 132, 2, 248, 167, 255, 226, 177]
abbrev dktX0_bytes_1 : List UInt8 := dkwX0_bytes_1 ++ []
def dkwX0_bytes_0 : List UInt8 := [16, 24, 61, 28, 155, 0, 32, 42, 180, 0, 35, 42, 180, 0, 159, 27, 28, 122, 145, 84, 42, 89]
abbrev dktX0_bytes_0 : List UInt8 := dkwX0_bytes_0 ++ dktX0_bytes_1
theorem dksX0_bytes_0 : cX0_bytes.data.toList.drop 0 = dktX0_bytes_0 := by decide +kernel
theorem dksX0_bytes_1 : cX0_bytes.data.toList.drop 22 = dktX0_bytes_1 := dk_seg dksX0_bytes_0 22 rfl rfl
theorem dX0_bytes_0 : decode cX0_bytes 0 = .ok (.bipush 24, 2) := dk_16 24 (dk_at dksX0_bytes_0 0 rfl rfl)
theorem dX0_bytes_2 : decode cX0_bytes 2 = .ok (.istore_n 2, 1) := dk_61 (dk_at dksX0_bytes_0 2 rfl rfl)
theorem dX0_bytes_3 : decode cX0_bytes 3 = .ok (.iload_n 2, 1) := dk_28 (dk_at dksX0_bytes_0 3 rfl rfl)
theorem dX0_bytes_4 : decode cX0_bytes 4 = .ok (.ifCond .lt 32, 3) := dk_155 0 32 (dk_at dksX0_bytes_0 4 rfl rfl)
theorem dX0_bytes_7 : decode cX0_bytes 7 = .ok (.aload_n 0, 1) := dk_42 (dk_at dksX0_bytes_0 7 rfl rfl)
theorem dX0_bytes_8 : decode cX0_bytes 8 = .ok (.getfield 35, 3) := dk_180 0 35 (dk_at dksX0_bytes_0 8 rfl rfl)
theorem dX0_bytes_11 : decode cX0_bytes 11 = .ok (.aload_n 0, 1) := dk_42 (dk_at dksX0_bytes_0 11 rfl rfl)
theorem dX0_bytes_12 : decode cX0_bytes 12 = .ok (.getfield 159, 3) := dk_180 0 159 (dk_at dksX0_bytes_0 12 rfl rfl)
theorem dX0_bytes_15 : decode cX0_bytes 15 = .ok (.iload_n 1, 1) := dk_27 (dk_at dksX0_bytes_0 15 rfl rfl)
theorem dX0_bytes_16 : decode cX0_bytes 16 = .ok (.iload_n 2, 1) := dk_28 (dk_at dksX0_bytes_0 16 rfl rfl)
theorem dX0_bytes_17 : decode cX0_bytes 17 = .ok (.ishr, 1) := dk_122 (dk_at dksX0_bytes_0 17 rfl rfl)
theorem dX0_bytes_18 : decode cX0_bytes 18 = .ok (.i2b, 1) := dk_145 (dk_at dksX0_bytes_0 18 rfl rfl)
theorem dX0_bytes_19 : decode cX0_bytes 19 = .ok (.bastore, 1) := dk_84 (dk_at dksX0_bytes_0 19 rfl rfl)
theorem dX0_bytes_20 : decode cX0_bytes 20 = .ok (.aload_n 0, 1) := dk_42 (dk_at dksX0_bytes_0 20 rfl rfl)
theorem dX0_bytes_21 : decode cX0_bytes 21 = .ok (.dup, 1) := dk_89 (dk_at dksX0_bytes_0 21 rfl rfl)
theorem dX0_bytes_22 : decode cX0_bytes 22 = .ok (.getfield 159, 3) := dk_180 0 159 (dk_at dksX0_bytes_1 0 rfl rfl)
theorem dX0_bytes_25 : decode cX0_bytes 25 = .ok (.iconst 1, 1) := dk_4 (dk_at dksX0_bytes_1 3 rfl rfl)
theorem dX0_bytes_26 : decode cX0_bytes 26 = .ok (.iadd, 1) := dk_96 (dk_at dksX0_bytes_1 4 rfl rfl)
theorem dX0_bytes_27 : decode cX0_bytes 27 = .ok (.putfield 159, 3) := dk_181 0 159 (dk_at dksX0_bytes_1 5 rfl rfl)
theorem dX0_bytes_30 : decode cX0_bytes 30 = .ok (.iinc 2 (-8), 3) := dk_132 2 248 (dk_at dksX0_bytes_1 8 rfl rfl)
theorem dX0_bytes_33 : decode cX0_bytes 33 = .ok (.goto (-30), 3) := dk_167 255 226 (dk_at dksX0_bytes_1 11 rfl rfl)
theorem dX0_bytes_36 : decode cX0_bytes 36 = .ok (.return_, 1) := dk_177 (dk_at dksX0_bytes_1 14 rfl rfl)
abbrev cX0_end : ByteArray := prog_1_method_13_code
def yX0_end : MethodName := ⟨RX0, "end", "(I)I"⟩
def dkwX0_end_0 : List UInt8 := [27, 155, 0, 11, 27, 42, 180, 0, 159, 164, 0, 5, 2, 172, 42, 27, 181, 0, 159, 27, 172]
abbrev dktX0_end_0 : List UInt8 := dkwX0_end_0 ++ []
theorem dksX0_end_0 : cX0_end.data.toList.drop 0 = dktX0_end_0 := by decide +kernel
theorem dX0_end_0 : decode cX0_end 0 = .ok (.iload_n 1, 1) := dk_27 (dk_at dksX0_end_0 0 rfl rfl)
theorem dX0_end_1 : decode cX0_end 1 = .ok (.ifCond .lt 11, 3) := dk_155 0 11 (dk_at dksX0_end_0 1 rfl rfl)
theorem dX0_end_4 : decode cX0_end 4 = .ok (.iload_n 1, 1) := dk_27 (dk_at dksX0_end_0 4 rfl rfl)
theorem dX0_end_5 : decode cX0_end 5 = .ok (.aload_n 0, 1) := dk_42 (dk_at dksX0_end_0 5 rfl rfl)
theorem dX0_end_6 : decode cX0_end 6 = .ok (.getfield 159, 3) := dk_180 0 159 (dk_at dksX0_end_0 6 rfl rfl)
theorem dX0_end_9 : decode cX0_end 9 = .ok (.if_icmp .le 5, 3) := dk_164 0 5 (dk_at dksX0_end_0 9 rfl rfl)
theorem dX0_end_12 : decode cX0_end 12 = .ok (.iconst (-1), 1) := dk_2 (dk_at dksX0_end_0 12 rfl rfl)
theorem dX0_end_13 : decode cX0_end 13 = .ok (.ireturn, 1) := dk_172 (dk_at dksX0_end_0 13 rfl rfl)
theorem dX0_end_14 : decode cX0_end 14 = .ok (.aload_n 0, 1) := dk_42 (dk_at dksX0_end_0 14 rfl rfl)
theorem dX0_end_15 : decode cX0_end 15 = .ok (.iload_n 1, 1) := dk_27 (dk_at dksX0_end_0 15 rfl rfl)
theorem dX0_end_16 : decode cX0_end 16 = .ok (.putfield 159, 3) := dk_181 0 159 (dk_at dksX0_end_0 16 rfl rfl)
theorem dX0_end_19 : decode cX0_end 19 = .ok (.iload_n 1, 1) := dk_27 (dk_at dksX0_end_0 19 rfl rfl)
theorem dX0_end_20 : decode cX0_end 20 = .ok (.ireturn, 1) := dk_172 (dk_at dksX0_end_0 20 rfl rfl)
abbrev cX0_house : ByteArray := prog_1_method_14_code
def yX0_house : MethodName := ⟨RX0, "house", "()I"⟩
def dkwX0_house_3 : List UInt8 := [182, 0, 91, 172]
abbrev dktX0_house_3 : List UInt8 := dkwX0_house_3 ++ []
def dkwX0_house_2 : List UInt8 := [44, 180, 0, 178, 181, 0, 166, 42, 44, 180, 0, 181, 181, 0, 46, 2, 172, 42, 182, 0, 85, 42]
abbrev dktX0_house_2 : List UInt8 := dkwX0_house_2 ++ dktX0_house_3
def dkwX0_house_1 : List UInt8 := [89, 42, 180, 0, 35, 27, 42, 180, 0, 42, 183, 0, 171, 182, 0, 174, 181, 0, 19, 167, 0, 22, 77, 42]
abbrev dktX0_house_1 : List UInt8 := dkwX0_house_1 ++ dktX0_house_2
def dkwX0_house_0 : List UInt8 := [42, 180, 0, 159, 60, 42, 3, 181, 0, 159, 42, 3, 181, 0, 166, 42, 2, 181, 0, 46, 42, 187, 0, 169]
abbrev dktX0_house_0 : List UInt8 := dkwX0_house_0 ++ dktX0_house_1
theorem dksX0_house_0 : cX0_house.data.toList.drop 0 = dktX0_house_0 := by decide +kernel
theorem dksX0_house_1 : cX0_house.data.toList.drop 24 = dktX0_house_1 := dk_seg dksX0_house_0 24 rfl rfl
theorem dksX0_house_2 : cX0_house.data.toList.drop 48 = dktX0_house_2 := dk_seg dksX0_house_1 24 rfl rfl
theorem dksX0_house_3 : cX0_house.data.toList.drop 70 = dktX0_house_3 := dk_seg dksX0_house_2 22 rfl rfl
theorem dX0_house_0 : decode cX0_house 0 = .ok (.aload_n 0, 1) := dk_42 (dk_at dksX0_house_0 0 rfl rfl)
theorem dX0_house_1 : decode cX0_house 1 = .ok (.getfield 159, 3) := dk_180 0 159 (dk_at dksX0_house_0 1 rfl rfl)
theorem dX0_house_4 : decode cX0_house 4 = .ok (.istore_n 1, 1) := dk_60 (dk_at dksX0_house_0 4 rfl rfl)
theorem dX0_house_5 : decode cX0_house 5 = .ok (.aload_n 0, 1) := dk_42 (dk_at dksX0_house_0 5 rfl rfl)
theorem dX0_house_6 : decode cX0_house 6 = .ok (.iconst 0, 1) := dk_3 (dk_at dksX0_house_0 6 rfl rfl)
theorem dX0_house_7 : decode cX0_house 7 = .ok (.putfield 159, 3) := dk_181 0 159 (dk_at dksX0_house_0 7 rfl rfl)
theorem dX0_house_10 : decode cX0_house 10 = .ok (.aload_n 0, 1) := dk_42 (dk_at dksX0_house_0 10 rfl rfl)
theorem dX0_house_11 : decode cX0_house 11 = .ok (.iconst 0, 1) := dk_3 (dk_at dksX0_house_0 11 rfl rfl)
theorem dX0_house_12 : decode cX0_house 12 = .ok (.putfield 166, 3) := dk_181 0 166 (dk_at dksX0_house_0 12 rfl rfl)
theorem dX0_house_15 : decode cX0_house 15 = .ok (.aload_n 0, 1) := dk_42 (dk_at dksX0_house_0 15 rfl rfl)
theorem dX0_house_16 : decode cX0_house 16 = .ok (.iconst (-1), 1) := dk_2 (dk_at dksX0_house_0 16 rfl rfl)
theorem dX0_house_17 : decode cX0_house 17 = .ok (.putfield 46, 3) := dk_181 0 46 (dk_at dksX0_house_0 17 rfl rfl)
theorem dX0_house_20 : decode cX0_house 20 = .ok (.aload_n 0, 1) := dk_42 (dk_at dksX0_house_0 20 rfl rfl)
theorem dX0_house_21 : decode cX0_house 21 = .ok (.new 169, 3) := dk_187 0 169 (dk_at dksX0_house_0 21 rfl rfl)
theorem dX0_house_24 : decode cX0_house 24 = .ok (.dup, 1) := dk_89 (dk_at dksX0_house_1 0 rfl rfl)
theorem dX0_house_25 : decode cX0_house 25 = .ok (.aload_n 0, 1) := dk_42 (dk_at dksX0_house_1 1 rfl rfl)
theorem dX0_house_26 : decode cX0_house 26 = .ok (.getfield 35, 3) := dk_180 0 35 (dk_at dksX0_house_1 2 rfl rfl)
theorem dX0_house_29 : decode cX0_house 29 = .ok (.iload_n 1, 1) := dk_27 (dk_at dksX0_house_1 5 rfl rfl)
theorem dX0_house_30 : decode cX0_house 30 = .ok (.aload_n 0, 1) := dk_42 (dk_at dksX0_house_1 6 rfl rfl)
theorem dX0_house_31 : decode cX0_house 31 = .ok (.getfield 42, 3) := dk_180 0 42 (dk_at dksX0_house_1 7 rfl rfl)
theorem dX0_house_34 : decode cX0_house 34 = .ok (.invokespecial 171, 3) := dk_183 0 171 (dk_at dksX0_house_1 10 rfl rfl)
theorem dX0_house_37 : decode cX0_house 37 = .ok (.invokevirtual 174, 3) := dk_182 0 174 (dk_at dksX0_house_1 13 rfl rfl)
theorem dX0_house_40 : decode cX0_house 40 = .ok (.putfield 19, 3) := dk_181 0 19 (dk_at dksX0_house_1 16 rfl rfl)
theorem dX0_house_43 : decode cX0_house 43 = .ok (.goto 22, 3) := dk_167 0 22 (dk_at dksX0_house_1 19 rfl rfl)
theorem dX0_house_46 : decode cX0_house 46 = .ok (.astore_n 2, 1) := dk_77 (dk_at dksX0_house_1 22 rfl rfl)
theorem dX0_house_47 : decode cX0_house 47 = .ok (.aload_n 0, 1) := dk_42 (dk_at dksX0_house_1 23 rfl rfl)
theorem dX0_house_48 : decode cX0_house 48 = .ok (.aload_n 2, 1) := dk_44 (dk_at dksX0_house_2 0 rfl rfl)
theorem dX0_house_49 : decode cX0_house 49 = .ok (.getfield 178, 3) := dk_180 0 178 (dk_at dksX0_house_2 1 rfl rfl)
theorem dX0_house_52 : decode cX0_house 52 = .ok (.putfield 166, 3) := dk_181 0 166 (dk_at dksX0_house_2 4 rfl rfl)
theorem dX0_house_55 : decode cX0_house 55 = .ok (.aload_n 0, 1) := dk_42 (dk_at dksX0_house_2 7 rfl rfl)
theorem dX0_house_56 : decode cX0_house 56 = .ok (.aload_n 2, 1) := dk_44 (dk_at dksX0_house_2 8 rfl rfl)
theorem dX0_house_57 : decode cX0_house 57 = .ok (.getfield 181, 3) := dk_180 0 181 (dk_at dksX0_house_2 9 rfl rfl)
theorem dX0_house_60 : decode cX0_house 60 = .ok (.putfield 46, 3) := dk_181 0 46 (dk_at dksX0_house_2 12 rfl rfl)
theorem dX0_house_63 : decode cX0_house 63 = .ok (.iconst (-1), 1) := dk_2 (dk_at dksX0_house_2 15 rfl rfl)
theorem dX0_house_64 : decode cX0_house 64 = .ok (.ireturn, 1) := dk_172 (dk_at dksX0_house_2 16 rfl rfl)
theorem dX0_house_65 : decode cX0_house 65 = .ok (.aload_n 0, 1) := dk_42 (dk_at dksX0_house_2 17 rfl rfl)
theorem dX0_house_66 : decode cX0_house 66 = .ok (.invokevirtual 85, 3) := dk_182 0 85 (dk_at dksX0_house_2 18 rfl rfl)
theorem dX0_house_69 : decode cX0_house 69 = .ok (.aload_n 0, 1) := dk_42 (dk_at dksX0_house_2 21 rfl rfl)
theorem dX0_house_70 : decode cX0_house 70 = .ok (.invokevirtual 91, 3) := dk_182 0 91 (dk_at dksX0_house_3 0 rfl rfl)
theorem dX0_house_73 : decode cX0_house 73 = .ok (.ireturn, 1) := dk_172 (dk_at dksX0_house_3 3 rfl rfl)
abbrev cX0_fault : ByteArray := prog_1_method_15_code
def yX0_fault : MethodName := ⟨RX0, "fault", "(I)I"⟩
def dkwX0_fault_1 : List UInt8 := [172]
abbrev dktX0_fault_1 : List UInt8 := dkwX0_fault_1 ++ []
def dkwX0_fault_0 : List UInt8 := [27, 154, 0, 10, 42, 180, 0, 166, 167, 0, 16, 27, 4, 160, 0, 10, 42, 180, 0, 46, 167, 0, 4, 2]
abbrev dktX0_fault_0 : List UInt8 := dkwX0_fault_0 ++ dktX0_fault_1
theorem dksX0_fault_0 : cX0_fault.data.toList.drop 0 = dktX0_fault_0 := by decide +kernel
theorem dksX0_fault_1 : cX0_fault.data.toList.drop 24 = dktX0_fault_1 := dk_seg dksX0_fault_0 24 rfl rfl
theorem dX0_fault_0 : decode cX0_fault 0 = .ok (.iload_n 1, 1) := dk_27 (dk_at dksX0_fault_0 0 rfl rfl)
theorem dX0_fault_1 : decode cX0_fault 1 = .ok (.ifCond .ne 10, 3) := dk_154 0 10 (dk_at dksX0_fault_0 1 rfl rfl)
theorem dX0_fault_4 : decode cX0_fault 4 = .ok (.aload_n 0, 1) := dk_42 (dk_at dksX0_fault_0 4 rfl rfl)
theorem dX0_fault_5 : decode cX0_fault 5 = .ok (.getfield 166, 3) := dk_180 0 166 (dk_at dksX0_fault_0 5 rfl rfl)
theorem dX0_fault_8 : decode cX0_fault 8 = .ok (.goto 16, 3) := dk_167 0 16 (dk_at dksX0_fault_0 8 rfl rfl)
theorem dX0_fault_11 : decode cX0_fault 11 = .ok (.iload_n 1, 1) := dk_27 (dk_at dksX0_fault_0 11 rfl rfl)
theorem dX0_fault_12 : decode cX0_fault 12 = .ok (.iconst 1, 1) := dk_4 (dk_at dksX0_fault_0 12 rfl rfl)
theorem dX0_fault_13 : decode cX0_fault 13 = .ok (.if_icmp .ne 10, 3) := dk_160 0 10 (dk_at dksX0_fault_0 13 rfl rfl)
theorem dX0_fault_16 : decode cX0_fault 16 = .ok (.aload_n 0, 1) := dk_42 (dk_at dksX0_fault_0 16 rfl rfl)
theorem dX0_fault_17 : decode cX0_fault 17 = .ok (.getfield 46, 3) := dk_180 0 46 (dk_at dksX0_fault_0 17 rfl rfl)
theorem dX0_fault_20 : decode cX0_fault 20 = .ok (.goto 4, 3) := dk_167 0 4 (dk_at dksX0_fault_0 20 rfl rfl)
theorem dX0_fault_23 : decode cX0_fault 23 = .ok (.iconst (-1), 1) := dk_2 (dk_at dksX0_fault_0 23 rfl rfl)
theorem dX0_fault_24 : decode cX0_fault 24 = .ok (.ireturn, 1) := dk_172 (dk_at dksX0_fault_1 0 rfl rfl)
abbrev cX0_tenant : ByteArray := prog_1_method_17_code
def yX0_tenant : MethodName := ⟨RX0, "tenant", "(II)I"⟩
def dkwX0_tenant_5 : List UInt8 := [180, 0, 28, 180, 0, 110, 27, 46, 172, 42, 27, 182, 0, 204, 172, 2, 172]
abbrev dktX0_tenant_5 : List UInt8 := dkwX0_tenant_5 ++ []
def dkwX0_tenant_4 : List UInt8 := [172, 42, 180, 0, 28, 180, 0, 88, 27, 46, 172, 42, 180, 0, 28, 180, 0, 107, 27, 46, 172, 42]
abbrev dktX0_tenant_4 : List UInt8 := dkwX0_tenant_4 ++ dktX0_tenant_5
def dkwX0_tenant_3 : List UInt8 := [45, 180, 0, 192, 172, 45, 180, 0, 104, 172, 45, 180, 0, 195, 172, 45, 180, 0, 198, 172, 45, 180, 0, 201]
abbrev dktX0_tenant_3 : List UInt8 := dkwX0_tenant_3 ++ dktX0_tenant_4
def dkwX0_tenant_2 : List UInt8 := [170, 0, 0, 0, 0, 111, 0, 0, 0, 0, 0, 0, 0, 8, 0, 0, 0, 50, 0, 0, 0, 55, 0, 0, 0, 60, 0, 0, 0, 65, 0, 0, 0, 70, 0, 0, 0, 75, 0, 0, 0, 85, 0, 0, 0, 95, 0, 0, 0, 105]
abbrev dktX0_tenant_2 : List UInt8 := dkwX0_tenant_2 ++ dktX0_tenant_3
def dkwX0_tenant_1 : List UInt8 := [78, 28]
abbrev dktX0_tenant_1 : List UInt8 := dkwX0_tenant_1 ++ dktX0_tenant_2
def dkwX0_tenant_0 : List UInt8 := [42, 27, 182, 0, 188, 154, 0, 5, 2, 172, 42, 180, 0, 19, 180, 0, 95, 27, 182, 0, 98, 192, 0, 102]
abbrev dktX0_tenant_0 : List UInt8 := dkwX0_tenant_0 ++ dktX0_tenant_1
theorem dksX0_tenant_0 : cX0_tenant.data.toList.drop 0 = dktX0_tenant_0 := by decide +kernel
theorem dksX0_tenant_1 : cX0_tenant.data.toList.drop 24 = dktX0_tenant_1 := dk_seg dksX0_tenant_0 24 rfl rfl
theorem dksX0_tenant_2 : cX0_tenant.data.toList.drop 26 = dktX0_tenant_2 := dk_seg dksX0_tenant_1 2 rfl rfl
theorem dksX0_tenant_3 : cX0_tenant.data.toList.drop 76 = dktX0_tenant_3 := dk_seg dksX0_tenant_2 50 rfl rfl
theorem dksX0_tenant_4 : cX0_tenant.data.toList.drop 100 = dktX0_tenant_4 := dk_seg dksX0_tenant_3 24 rfl rfl
theorem dksX0_tenant_5 : cX0_tenant.data.toList.drop 122 = dktX0_tenant_5 := dk_seg dksX0_tenant_4 22 rfl rfl
theorem dX0_tenant_0 : decode cX0_tenant 0 = .ok (.aload_n 0, 1) := dk_42 (dk_at dksX0_tenant_0 0 rfl rfl)
theorem dX0_tenant_1 : decode cX0_tenant 1 = .ok (.iload_n 1, 1) := dk_27 (dk_at dksX0_tenant_0 1 rfl rfl)
theorem dX0_tenant_2 : decode cX0_tenant 2 = .ok (.invokevirtual 188, 3) := dk_182 0 188 (dk_at dksX0_tenant_0 2 rfl rfl)
theorem dX0_tenant_5 : decode cX0_tenant 5 = .ok (.ifCond .ne 5, 3) := dk_154 0 5 (dk_at dksX0_tenant_0 5 rfl rfl)
theorem dX0_tenant_8 : decode cX0_tenant 8 = .ok (.iconst (-1), 1) := dk_2 (dk_at dksX0_tenant_0 8 rfl rfl)
theorem dX0_tenant_9 : decode cX0_tenant 9 = .ok (.ireturn, 1) := dk_172 (dk_at dksX0_tenant_0 9 rfl rfl)
theorem dX0_tenant_10 : decode cX0_tenant 10 = .ok (.aload_n 0, 1) := dk_42 (dk_at dksX0_tenant_0 10 rfl rfl)
theorem dX0_tenant_11 : decode cX0_tenant 11 = .ok (.getfield 19, 3) := dk_180 0 19 (dk_at dksX0_tenant_0 11 rfl rfl)
theorem dX0_tenant_14 : decode cX0_tenant 14 = .ok (.getfield 95, 3) := dk_180 0 95 (dk_at dksX0_tenant_0 14 rfl rfl)
theorem dX0_tenant_17 : decode cX0_tenant 17 = .ok (.iload_n 1, 1) := dk_27 (dk_at dksX0_tenant_0 17 rfl rfl)
theorem dX0_tenant_18 : decode cX0_tenant 18 = .ok (.invokevirtual 98, 3) := dk_182 0 98 (dk_at dksX0_tenant_0 18 rfl rfl)
theorem dX0_tenant_21 : decode cX0_tenant 21 = .ok (.checkcast 102, 3) := dk_192 0 102 (dk_at dksX0_tenant_0 21 rfl rfl)
theorem dX0_tenant_24 : decode cX0_tenant 24 = .ok (.astore_n 3, 1) := dk_78 (dk_at dksX0_tenant_1 0 rfl rfl)
theorem dX0_tenant_25 : decode cX0_tenant 25 = .ok (.iload_n 2, 1) := dk_28 (dk_at dksX0_tenant_1 1 rfl rfl)
theorem dX0_tenant_26 : decode cX0_tenant 26 = .ok (.tableswitch 111 0 8 #[50, 55, 60, 65, 70, 75, 85, 95, 105], 50) := by decide +kernel
theorem dX0_tenant_76 : decode cX0_tenant 76 = .ok (.aload_n 3, 1) := dk_45 (dk_at dksX0_tenant_3 0 rfl rfl)
theorem dX0_tenant_77 : decode cX0_tenant 77 = .ok (.getfield 192, 3) := dk_180 0 192 (dk_at dksX0_tenant_3 1 rfl rfl)
theorem dX0_tenant_80 : decode cX0_tenant 80 = .ok (.ireturn, 1) := dk_172 (dk_at dksX0_tenant_3 4 rfl rfl)
theorem dX0_tenant_81 : decode cX0_tenant 81 = .ok (.aload_n 3, 1) := dk_45 (dk_at dksX0_tenant_3 5 rfl rfl)
theorem dX0_tenant_82 : decode cX0_tenant 82 = .ok (.getfield 104, 3) := dk_180 0 104 (dk_at dksX0_tenant_3 6 rfl rfl)
theorem dX0_tenant_85 : decode cX0_tenant 85 = .ok (.ireturn, 1) := dk_172 (dk_at dksX0_tenant_3 9 rfl rfl)
theorem dX0_tenant_86 : decode cX0_tenant 86 = .ok (.aload_n 3, 1) := dk_45 (dk_at dksX0_tenant_3 10 rfl rfl)
theorem dX0_tenant_87 : decode cX0_tenant 87 = .ok (.getfield 195, 3) := dk_180 0 195 (dk_at dksX0_tenant_3 11 rfl rfl)
theorem dX0_tenant_90 : decode cX0_tenant 90 = .ok (.ireturn, 1) := dk_172 (dk_at dksX0_tenant_3 14 rfl rfl)
theorem dX0_tenant_91 : decode cX0_tenant 91 = .ok (.aload_n 3, 1) := dk_45 (dk_at dksX0_tenant_3 15 rfl rfl)
theorem dX0_tenant_92 : decode cX0_tenant 92 = .ok (.getfield 198, 3) := dk_180 0 198 (dk_at dksX0_tenant_3 16 rfl rfl)
theorem dX0_tenant_95 : decode cX0_tenant 95 = .ok (.ireturn, 1) := dk_172 (dk_at dksX0_tenant_3 19 rfl rfl)
theorem dX0_tenant_96 : decode cX0_tenant 96 = .ok (.aload_n 3, 1) := dk_45 (dk_at dksX0_tenant_3 20 rfl rfl)
theorem dX0_tenant_97 : decode cX0_tenant 97 = .ok (.getfield 201, 3) := dk_180 0 201 (dk_at dksX0_tenant_3 21 rfl rfl)
theorem dX0_tenant_100 : decode cX0_tenant 100 = .ok (.ireturn, 1) := dk_172 (dk_at dksX0_tenant_4 0 rfl rfl)
theorem dX0_tenant_101 : decode cX0_tenant 101 = .ok (.aload_n 0, 1) := dk_42 (dk_at dksX0_tenant_4 1 rfl rfl)
theorem dX0_tenant_102 : decode cX0_tenant 102 = .ok (.getfield 28, 3) := dk_180 0 28 (dk_at dksX0_tenant_4 2 rfl rfl)
theorem dX0_tenant_105 : decode cX0_tenant 105 = .ok (.getfield 88, 3) := dk_180 0 88 (dk_at dksX0_tenant_4 5 rfl rfl)
theorem dX0_tenant_108 : decode cX0_tenant 108 = .ok (.iload_n 1, 1) := dk_27 (dk_at dksX0_tenant_4 8 rfl rfl)
theorem dX0_tenant_109 : decode cX0_tenant 109 = .ok (.iaload, 1) := dk_46 (dk_at dksX0_tenant_4 9 rfl rfl)
theorem dX0_tenant_110 : decode cX0_tenant 110 = .ok (.ireturn, 1) := dk_172 (dk_at dksX0_tenant_4 10 rfl rfl)
theorem dX0_tenant_111 : decode cX0_tenant 111 = .ok (.aload_n 0, 1) := dk_42 (dk_at dksX0_tenant_4 11 rfl rfl)
theorem dX0_tenant_112 : decode cX0_tenant 112 = .ok (.getfield 28, 3) := dk_180 0 28 (dk_at dksX0_tenant_4 12 rfl rfl)
theorem dX0_tenant_115 : decode cX0_tenant 115 = .ok (.getfield 107, 3) := dk_180 0 107 (dk_at dksX0_tenant_4 15 rfl rfl)
theorem dX0_tenant_118 : decode cX0_tenant 118 = .ok (.iload_n 1, 1) := dk_27 (dk_at dksX0_tenant_4 18 rfl rfl)
theorem dX0_tenant_119 : decode cX0_tenant 119 = .ok (.iaload, 1) := dk_46 (dk_at dksX0_tenant_4 19 rfl rfl)
theorem dX0_tenant_120 : decode cX0_tenant 120 = .ok (.ireturn, 1) := dk_172 (dk_at dksX0_tenant_4 20 rfl rfl)
theorem dX0_tenant_121 : decode cX0_tenant 121 = .ok (.aload_n 0, 1) := dk_42 (dk_at dksX0_tenant_4 21 rfl rfl)
theorem dX0_tenant_122 : decode cX0_tenant 122 = .ok (.getfield 28, 3) := dk_180 0 28 (dk_at dksX0_tenant_5 0 rfl rfl)
theorem dX0_tenant_125 : decode cX0_tenant 125 = .ok (.getfield 110, 3) := dk_180 0 110 (dk_at dksX0_tenant_5 3 rfl rfl)
theorem dX0_tenant_128 : decode cX0_tenant 128 = .ok (.iload_n 1, 1) := dk_27 (dk_at dksX0_tenant_5 6 rfl rfl)
theorem dX0_tenant_129 : decode cX0_tenant 129 = .ok (.iaload, 1) := dk_46 (dk_at dksX0_tenant_5 7 rfl rfl)
theorem dX0_tenant_130 : decode cX0_tenant 130 = .ok (.ireturn, 1) := dk_172 (dk_at dksX0_tenant_5 8 rfl rfl)
theorem dX0_tenant_131 : decode cX0_tenant 131 = .ok (.aload_n 0, 1) := dk_42 (dk_at dksX0_tenant_5 9 rfl rfl)
theorem dX0_tenant_132 : decode cX0_tenant 132 = .ok (.iload_n 1, 1) := dk_27 (dk_at dksX0_tenant_5 10 rfl rfl)
theorem dX0_tenant_133 : decode cX0_tenant 133 = .ok (.invokevirtual 204, 3) := dk_182 0 204 (dk_at dksX0_tenant_5 11 rfl rfl)
theorem dX0_tenant_136 : decode cX0_tenant 136 = .ok (.ireturn, 1) := dk_172 (dk_at dksX0_tenant_5 14 rfl rfl)
theorem dX0_tenant_137 : decode cX0_tenant 137 = .ok (.iconst (-1), 1) := dk_2 (dk_at dksX0_tenant_5 15 rfl rfl)
theorem dX0_tenant_138 : decode cX0_tenant 138 = .ok (.ireturn, 1) := dk_172 (dk_at dksX0_tenant_5 16 rfl rfl)
abbrev cX0_isTenant : ByteArray := prog_1_method_10_code
def yX0_isTenant : MethodName := ⟨RX0, "isTenant", "(I)Z"⟩
def dkwX0_isTenant_0 : List UInt8 := [27, 3, 42, 182, 0, 91, 4, 100, 184, 0, 155, 172]
abbrev dktX0_isTenant_0 : List UInt8 := dkwX0_isTenant_0 ++ []
theorem dksX0_isTenant_0 : cX0_isTenant.data.toList.drop 0 = dktX0_isTenant_0 := by decide +kernel
theorem dX0_isTenant_0 : decode cX0_isTenant 0 = .ok (.iload_n 1, 1) := dk_27 (dk_at dksX0_isTenant_0 0 rfl rfl)
theorem dX0_isTenant_1 : decode cX0_isTenant 1 = .ok (.iconst 0, 1) := dk_3 (dk_at dksX0_isTenant_0 1 rfl rfl)
theorem dX0_isTenant_2 : decode cX0_isTenant 2 = .ok (.aload_n 0, 1) := dk_42 (dk_at dksX0_isTenant_0 2 rfl rfl)
theorem dX0_isTenant_3 : decode cX0_isTenant 3 = .ok (.invokevirtual 91, 3) := dk_182 0 91 (dk_at dksX0_isTenant_0 3 rfl rfl)
theorem dX0_isTenant_6 : decode cX0_isTenant 6 = .ok (.iconst 1, 1) := dk_4 (dk_at dksX0_isTenant_0 6 rfl rfl)
theorem dX0_isTenant_7 : decode cX0_isTenant 7 = .ok (.isub, 1) := dk_100 (dk_at dksX0_isTenant_0 7 rfl rfl)
theorem dX0_isTenant_8 : decode cX0_isTenant 8 = .ok (.invokestatic 155, 3) := dk_184 0 155 (dk_at dksX0_isTenant_0 8 rfl rfl)
theorem dX0_isTenant_11 : decode cX0_isTenant 11 = .ok (.ireturn, 1) := dk_172 (dk_at dksX0_isTenant_0 11 rfl rfl)
abbrev cX0_isIn : ByteArray := prog_1_method_1_code
def yX0_isIn : MethodName := ⟨RX0, "isIn", "(III)Z"⟩
def dkwX0_isIn_0 : List UInt8 := [26, 27, 161, 0, 12, 26, 28, 163, 0, 7, 4, 167, 0, 4, 3, 172]
abbrev dktX0_isIn_0 : List UInt8 := dkwX0_isIn_0 ++ []
theorem dksX0_isIn_0 : cX0_isIn.data.toList.drop 0 = dktX0_isIn_0 := by decide +kernel
theorem dX0_isIn_0 : decode cX0_isIn 0 = .ok (.iload_n 0, 1) := dk_26 (dk_at dksX0_isIn_0 0 rfl rfl)
theorem dX0_isIn_1 : decode cX0_isIn 1 = .ok (.iload_n 1, 1) := dk_27 (dk_at dksX0_isIn_0 1 rfl rfl)
theorem dX0_isIn_2 : decode cX0_isIn 2 = .ok (.if_icmp .lt 12, 3) := dk_161 0 12 (dk_at dksX0_isIn_0 2 rfl rfl)
theorem dX0_isIn_5 : decode cX0_isIn 5 = .ok (.iload_n 0, 1) := dk_26 (dk_at dksX0_isIn_0 5 rfl rfl)
theorem dX0_isIn_6 : decode cX0_isIn 6 = .ok (.iload_n 2, 1) := dk_28 (dk_at dksX0_isIn_0 6 rfl rfl)
theorem dX0_isIn_7 : decode cX0_isIn 7 = .ok (.if_icmp .gt 7, 3) := dk_163 0 7 (dk_at dksX0_isIn_0 7 rfl rfl)
theorem dX0_isIn_10 : decode cX0_isIn 10 = .ok (.iconst 1, 1) := dk_4 (dk_at dksX0_isIn_0 10 rfl rfl)
theorem dX0_isIn_11 : decode cX0_isIn 11 = .ok (.goto 4, 3) := dk_167 0 4 (dk_at dksX0_isIn_0 11 rfl rfl)
theorem dX0_isIn_14 : decode cX0_isIn 14 = .ok (.iconst 0, 1) := dk_3 (dk_at dksX0_isIn_0 14 rfl rfl)
theorem dX0_isIn_15 : decode cX0_isIn 15 = .ok (.ireturn, 1) := dk_172 (dk_at dksX0_isIn_0 15 rfl rfl)
abbrev cX0_lackOf : ByteArray := prog_1_method_16_code
def yX0_lackOf : MethodName := ⟨RX0, "lackOf", "(I)I"⟩
def dkwX0_lackOf_0 : List UInt8 := [42, 180, 0, 28, 42, 180, 0, 19, 27, 3, 182, 0, 184, 172]
abbrev dktX0_lackOf_0 : List UInt8 := dkwX0_lackOf_0 ++ []
theorem dksX0_lackOf_0 : cX0_lackOf.data.toList.drop 0 = dktX0_lackOf_0 := by decide +kernel
theorem dX0_lackOf_0 : decode cX0_lackOf 0 = .ok (.aload_n 0, 1) := dk_42 (dk_at dksX0_lackOf_0 0 rfl rfl)
theorem dX0_lackOf_1 : decode cX0_lackOf 1 = .ok (.getfield 28, 3) := dk_180 0 28 (dk_at dksX0_lackOf_0 1 rfl rfl)
theorem dX0_lackOf_4 : decode cX0_lackOf 4 = .ok (.aload_n 0, 1) := dk_42 (dk_at dksX0_lackOf_0 4 rfl rfl)
theorem dX0_lackOf_5 : decode cX0_lackOf 5 = .ok (.getfield 19, 3) := dk_180 0 19 (dk_at dksX0_lackOf_0 5 rfl rfl)
theorem dX0_lackOf_8 : decode cX0_lackOf 8 = .ok (.iload_n 1, 1) := dk_27 (dk_at dksX0_lackOf_0 8 rfl rfl)
theorem dX0_lackOf_9 : decode cX0_lackOf 9 = .ok (.iconst 0, 1) := dk_3 (dk_at dksX0_lackOf_0 9 rfl rfl)
theorem dX0_lackOf_10 : decode cX0_lackOf 10 = .ok (.invokevirtual 184, 3) := dk_182 0 184 (dk_at dksX0_lackOf_0 10 rfl rfl)
theorem dX0_lackOf_13 : decode cX0_lackOf 13 = .ok (.ireturn, 1) := dk_172 (dk_at dksX0_lackOf_0 13 rfl rfl)
abbrev cX0_worth : ByteArray := prog_1_method_19_code
def yX0_worth : MethodName := ⟨RX0, "worth", "(IIIII)I"⟩
def dkwX0_worth_2 : List UInt8 := [42, 180, 0, 28, 180, 0, 113, 182, 0, 220, 167, 0, 13, 28, 42, 180, 0, 19, 29, 182, 0, 211, 104, 172]
abbrev dktX0_worth_2 : List UInt8 := dkwX0_worth_2 ++ []
def dkwX0_worth_1 : List UInt8 := [21, 5, 154, 0, 35, 42, 180, 0, 19, 42, 180, 0, 28, 28, 42, 180, 0, 19, 29, 182, 0, 217, 21, 4]
abbrev dktX0_worth_1 : List UInt8 := dkwX0_worth_1 ++ dktX0_worth_2
def dkwX0_worth_0 : List UInt8 := [42, 27, 28, 29, 21, 4, 182, 0, 213, 153, 0, 13, 21, 5, 3, 4, 184, 0, 155, 154, 0, 5, 2, 172]
abbrev dktX0_worth_0 : List UInt8 := dkwX0_worth_0 ++ dktX0_worth_1
theorem dksX0_worth_0 : cX0_worth.data.toList.drop 0 = dktX0_worth_0 := by decide +kernel
theorem dksX0_worth_1 : cX0_worth.data.toList.drop 24 = dktX0_worth_1 := dk_seg dksX0_worth_0 24 rfl rfl
theorem dksX0_worth_2 : cX0_worth.data.toList.drop 48 = dktX0_worth_2 := dk_seg dksX0_worth_1 24 rfl rfl
theorem dX0_worth_0 : decode cX0_worth 0 = .ok (.aload_n 0, 1) := dk_42 (dk_at dksX0_worth_0 0 rfl rfl)
theorem dX0_worth_1 : decode cX0_worth 1 = .ok (.iload_n 1, 1) := dk_27 (dk_at dksX0_worth_0 1 rfl rfl)
theorem dX0_worth_2 : decode cX0_worth 2 = .ok (.iload_n 2, 1) := dk_28 (dk_at dksX0_worth_0 2 rfl rfl)
theorem dX0_worth_3 : decode cX0_worth 3 = .ok (.iload_n 3, 1) := dk_29 (dk_at dksX0_worth_0 3 rfl rfl)
theorem dX0_worth_4 : decode cX0_worth 4 = .ok (.iload 4, 2) := dk_21 4 (dk_at dksX0_worth_0 4 rfl rfl)
theorem dX0_worth_6 : decode cX0_worth 6 = .ok (.invokevirtual 213, 3) := dk_182 0 213 (dk_at dksX0_worth_0 6 rfl rfl)
theorem dX0_worth_9 : decode cX0_worth 9 = .ok (.ifCond .eq 13, 3) := dk_153 0 13 (dk_at dksX0_worth_0 9 rfl rfl)
theorem dX0_worth_12 : decode cX0_worth 12 = .ok (.iload 5, 2) := dk_21 5 (dk_at dksX0_worth_0 12 rfl rfl)
theorem dX0_worth_14 : decode cX0_worth 14 = .ok (.iconst 0, 1) := dk_3 (dk_at dksX0_worth_0 14 rfl rfl)
theorem dX0_worth_15 : decode cX0_worth 15 = .ok (.iconst 1, 1) := dk_4 (dk_at dksX0_worth_0 15 rfl rfl)
theorem dX0_worth_16 : decode cX0_worth 16 = .ok (.invokestatic 155, 3) := dk_184 0 155 (dk_at dksX0_worth_0 16 rfl rfl)
theorem dX0_worth_19 : decode cX0_worth 19 = .ok (.ifCond .ne 5, 3) := dk_154 0 5 (dk_at dksX0_worth_0 19 rfl rfl)
theorem dX0_worth_22 : decode cX0_worth 22 = .ok (.iconst (-1), 1) := dk_2 (dk_at dksX0_worth_0 22 rfl rfl)
theorem dX0_worth_23 : decode cX0_worth 23 = .ok (.ireturn, 1) := dk_172 (dk_at dksX0_worth_0 23 rfl rfl)
theorem dX0_worth_24 : decode cX0_worth 24 = .ok (.iload 5, 2) := dk_21 5 (dk_at dksX0_worth_1 0 rfl rfl)
theorem dX0_worth_26 : decode cX0_worth 26 = .ok (.ifCond .ne 35, 3) := dk_154 0 35 (dk_at dksX0_worth_1 2 rfl rfl)
theorem dX0_worth_29 : decode cX0_worth 29 = .ok (.aload_n 0, 1) := dk_42 (dk_at dksX0_worth_1 5 rfl rfl)
theorem dX0_worth_30 : decode cX0_worth 30 = .ok (.getfield 19, 3) := dk_180 0 19 (dk_at dksX0_worth_1 6 rfl rfl)
theorem dX0_worth_33 : decode cX0_worth 33 = .ok (.aload_n 0, 1) := dk_42 (dk_at dksX0_worth_1 9 rfl rfl)
theorem dX0_worth_34 : decode cX0_worth 34 = .ok (.getfield 28, 3) := dk_180 0 28 (dk_at dksX0_worth_1 10 rfl rfl)
theorem dX0_worth_37 : decode cX0_worth 37 = .ok (.iload_n 2, 1) := dk_28 (dk_at dksX0_worth_1 13 rfl rfl)
theorem dX0_worth_38 : decode cX0_worth 38 = .ok (.aload_n 0, 1) := dk_42 (dk_at dksX0_worth_1 14 rfl rfl)
theorem dX0_worth_39 : decode cX0_worth 39 = .ok (.getfield 19, 3) := dk_180 0 19 (dk_at dksX0_worth_1 15 rfl rfl)
theorem dX0_worth_42 : decode cX0_worth 42 = .ok (.iload_n 3, 1) := dk_29 (dk_at dksX0_worth_1 18 rfl rfl)
theorem dX0_worth_43 : decode cX0_worth 43 = .ok (.invokevirtual 217, 3) := dk_182 0 217 (dk_at dksX0_worth_1 19 rfl rfl)
theorem dX0_worth_46 : decode cX0_worth 46 = .ok (.iload 4, 2) := dk_21 4 (dk_at dksX0_worth_1 22 rfl rfl)
theorem dX0_worth_48 : decode cX0_worth 48 = .ok (.aload_n 0, 1) := dk_42 (dk_at dksX0_worth_2 0 rfl rfl)
theorem dX0_worth_49 : decode cX0_worth 49 = .ok (.getfield 28, 3) := dk_180 0 28 (dk_at dksX0_worth_2 1 rfl rfl)
theorem dX0_worth_52 : decode cX0_worth 52 = .ok (.getfield 113, 3) := dk_180 0 113 (dk_at dksX0_worth_2 4 rfl rfl)
theorem dX0_worth_55 : decode cX0_worth 55 = .ok (.invokevirtual 220, 3) := dk_182 0 220 (dk_at dksX0_worth_2 7 rfl rfl)
theorem dX0_worth_58 : decode cX0_worth 58 = .ok (.goto 13, 3) := dk_167 0 13 (dk_at dksX0_worth_2 10 rfl rfl)
theorem dX0_worth_61 : decode cX0_worth 61 = .ok (.iload_n 2, 1) := dk_28 (dk_at dksX0_worth_2 13 rfl rfl)
theorem dX0_worth_62 : decode cX0_worth 62 = .ok (.aload_n 0, 1) := dk_42 (dk_at dksX0_worth_2 14 rfl rfl)
theorem dX0_worth_63 : decode cX0_worth 63 = .ok (.getfield 19, 3) := dk_180 0 19 (dk_at dksX0_worth_2 15 rfl rfl)
theorem dX0_worth_66 : decode cX0_worth 66 = .ok (.iload_n 3, 1) := dk_29 (dk_at dksX0_worth_2 18 rfl rfl)
theorem dX0_worth_67 : decode cX0_worth 67 = .ok (.invokevirtual 211, 3) := dk_182 0 211 (dk_at dksX0_worth_2 19 rfl rfl)
theorem dX0_worth_70 : decode cX0_worth 70 = .ok (.imul, 1) := dk_104 (dk_at dksX0_worth_2 22 rfl rfl)
theorem dX0_worth_71 : decode cX0_worth 71 = .ok (.ireturn, 1) := dk_172 (dk_at dksX0_worth_2 23 rfl rfl)
abbrev cX0_canClimb : ByteArray := prog_1_method_18_code
def yX0_canClimb : MethodName := ⟨RX0, "canClimb", "(IIII)Z"⟩
def dkwX0_canClimb_3 : List UInt8 := [180, 0, 88, 27, 46, 163, 0, 7, 4, 167, 0, 4, 3, 172]
abbrev dktX0_canClimb_3 : List UInt8 := dkwX0_canClimb_3 ++ []
def dkwX0_canClimb_2 : List UInt8 := [184, 0, 155, 154, 0, 5, 3, 172, 28, 42, 180, 0, 19, 29, 182, 0, 211, 104, 42, 180, 0, 28]
abbrev dktX0_canClimb_2 : List UInt8 := dkwX0_canClimb_2 ++ dktX0_canClimb_3
def dkwX0_canClimb_1 : List UInt8 := [2, 42, 182, 0, 91, 4, 100, 184, 0, 155, 153, 0, 18, 29, 27, 159, 0, 13, 21, 4, 3, 4]
abbrev dktX0_canClimb_1 : List UInt8 := dkwX0_canClimb_1 ++ dktX0_canClimb_2
def dkwX0_canClimb_0 : List UInt8 := [42, 27, 182, 0, 188, 153, 0, 47, 28, 4, 42, 180, 0, 19, 180, 0, 208, 184, 0, 155, 153, 0, 32, 29]
abbrev dktX0_canClimb_0 : List UInt8 := dkwX0_canClimb_0 ++ dktX0_canClimb_1
theorem dksX0_canClimb_0 : cX0_canClimb.data.toList.drop 0 = dktX0_canClimb_0 := by decide +kernel
theorem dksX0_canClimb_1 : cX0_canClimb.data.toList.drop 24 = dktX0_canClimb_1 := dk_seg dksX0_canClimb_0 24 rfl rfl
theorem dksX0_canClimb_2 : cX0_canClimb.data.toList.drop 46 = dktX0_canClimb_2 := dk_seg dksX0_canClimb_1 22 rfl rfl
theorem dksX0_canClimb_3 : cX0_canClimb.data.toList.drop 68 = dktX0_canClimb_3 := dk_seg dksX0_canClimb_2 22 rfl rfl
theorem dX0_canClimb_0 : decode cX0_canClimb 0 = .ok (.aload_n 0, 1) := dk_42 (dk_at dksX0_canClimb_0 0 rfl rfl)
theorem dX0_canClimb_1 : decode cX0_canClimb 1 = .ok (.iload_n 1, 1) := dk_27 (dk_at dksX0_canClimb_0 1 rfl rfl)
theorem dX0_canClimb_2 : decode cX0_canClimb 2 = .ok (.invokevirtual 188, 3) := dk_182 0 188 (dk_at dksX0_canClimb_0 2 rfl rfl)
theorem dX0_canClimb_5 : decode cX0_canClimb 5 = .ok (.ifCond .eq 47, 3) := dk_153 0 47 (dk_at dksX0_canClimb_0 5 rfl rfl)
theorem dX0_canClimb_8 : decode cX0_canClimb 8 = .ok (.iload_n 2, 1) := dk_28 (dk_at dksX0_canClimb_0 8 rfl rfl)
theorem dX0_canClimb_9 : decode cX0_canClimb 9 = .ok (.iconst 1, 1) := dk_4 (dk_at dksX0_canClimb_0 9 rfl rfl)
theorem dX0_canClimb_10 : decode cX0_canClimb 10 = .ok (.aload_n 0, 1) := dk_42 (dk_at dksX0_canClimb_0 10 rfl rfl)
theorem dX0_canClimb_11 : decode cX0_canClimb 11 = .ok (.getfield 19, 3) := dk_180 0 19 (dk_at dksX0_canClimb_0 11 rfl rfl)
theorem dX0_canClimb_14 : decode cX0_canClimb 14 = .ok (.getfield 208, 3) := dk_180 0 208 (dk_at dksX0_canClimb_0 14 rfl rfl)
theorem dX0_canClimb_17 : decode cX0_canClimb 17 = .ok (.invokestatic 155, 3) := dk_184 0 155 (dk_at dksX0_canClimb_0 17 rfl rfl)
theorem dX0_canClimb_20 : decode cX0_canClimb 20 = .ok (.ifCond .eq 32, 3) := dk_153 0 32 (dk_at dksX0_canClimb_0 20 rfl rfl)
theorem dX0_canClimb_23 : decode cX0_canClimb 23 = .ok (.iload_n 3, 1) := dk_29 (dk_at dksX0_canClimb_0 23 rfl rfl)
theorem dX0_canClimb_24 : decode cX0_canClimb 24 = .ok (.iconst (-1), 1) := dk_2 (dk_at dksX0_canClimb_1 0 rfl rfl)
theorem dX0_canClimb_25 : decode cX0_canClimb 25 = .ok (.aload_n 0, 1) := dk_42 (dk_at dksX0_canClimb_1 1 rfl rfl)
theorem dX0_canClimb_26 : decode cX0_canClimb 26 = .ok (.invokevirtual 91, 3) := dk_182 0 91 (dk_at dksX0_canClimb_1 2 rfl rfl)
theorem dX0_canClimb_29 : decode cX0_canClimb 29 = .ok (.iconst 1, 1) := dk_4 (dk_at dksX0_canClimb_1 5 rfl rfl)
theorem dX0_canClimb_30 : decode cX0_canClimb 30 = .ok (.isub, 1) := dk_100 (dk_at dksX0_canClimb_1 6 rfl rfl)
theorem dX0_canClimb_31 : decode cX0_canClimb 31 = .ok (.invokestatic 155, 3) := dk_184 0 155 (dk_at dksX0_canClimb_1 7 rfl rfl)
theorem dX0_canClimb_34 : decode cX0_canClimb 34 = .ok (.ifCond .eq 18, 3) := dk_153 0 18 (dk_at dksX0_canClimb_1 10 rfl rfl)
theorem dX0_canClimb_37 : decode cX0_canClimb 37 = .ok (.iload_n 3, 1) := dk_29 (dk_at dksX0_canClimb_1 13 rfl rfl)
theorem dX0_canClimb_38 : decode cX0_canClimb 38 = .ok (.iload_n 1, 1) := dk_27 (dk_at dksX0_canClimb_1 14 rfl rfl)
theorem dX0_canClimb_39 : decode cX0_canClimb 39 = .ok (.if_icmp .eq 13, 3) := dk_159 0 13 (dk_at dksX0_canClimb_1 15 rfl rfl)
theorem dX0_canClimb_42 : decode cX0_canClimb 42 = .ok (.iload 4, 2) := dk_21 4 (dk_at dksX0_canClimb_1 18 rfl rfl)
theorem dX0_canClimb_44 : decode cX0_canClimb 44 = .ok (.iconst 0, 1) := dk_3 (dk_at dksX0_canClimb_1 20 rfl rfl)
theorem dX0_canClimb_45 : decode cX0_canClimb 45 = .ok (.iconst 1, 1) := dk_4 (dk_at dksX0_canClimb_1 21 rfl rfl)
theorem dX0_canClimb_46 : decode cX0_canClimb 46 = .ok (.invokestatic 155, 3) := dk_184 0 155 (dk_at dksX0_canClimb_2 0 rfl rfl)
theorem dX0_canClimb_49 : decode cX0_canClimb 49 = .ok (.ifCond .ne 5, 3) := dk_154 0 5 (dk_at dksX0_canClimb_2 3 rfl rfl)
theorem dX0_canClimb_52 : decode cX0_canClimb 52 = .ok (.iconst 0, 1) := dk_3 (dk_at dksX0_canClimb_2 6 rfl rfl)
theorem dX0_canClimb_53 : decode cX0_canClimb 53 = .ok (.ireturn, 1) := dk_172 (dk_at dksX0_canClimb_2 7 rfl rfl)
theorem dX0_canClimb_54 : decode cX0_canClimb 54 = .ok (.iload_n 2, 1) := dk_28 (dk_at dksX0_canClimb_2 8 rfl rfl)
theorem dX0_canClimb_55 : decode cX0_canClimb 55 = .ok (.aload_n 0, 1) := dk_42 (dk_at dksX0_canClimb_2 9 rfl rfl)
theorem dX0_canClimb_56 : decode cX0_canClimb 56 = .ok (.getfield 19, 3) := dk_180 0 19 (dk_at dksX0_canClimb_2 10 rfl rfl)
theorem dX0_canClimb_59 : decode cX0_canClimb 59 = .ok (.iload_n 3, 1) := dk_29 (dk_at dksX0_canClimb_2 13 rfl rfl)
theorem dX0_canClimb_60 : decode cX0_canClimb 60 = .ok (.invokevirtual 211, 3) := dk_182 0 211 (dk_at dksX0_canClimb_2 14 rfl rfl)
theorem dX0_canClimb_63 : decode cX0_canClimb 63 = .ok (.imul, 1) := dk_104 (dk_at dksX0_canClimb_2 17 rfl rfl)
theorem dX0_canClimb_64 : decode cX0_canClimb 64 = .ok (.aload_n 0, 1) := dk_42 (dk_at dksX0_canClimb_2 18 rfl rfl)
theorem dX0_canClimb_65 : decode cX0_canClimb 65 = .ok (.getfield 28, 3) := dk_180 0 28 (dk_at dksX0_canClimb_2 19 rfl rfl)
theorem dX0_canClimb_68 : decode cX0_canClimb 68 = .ok (.getfield 88, 3) := dk_180 0 88 (dk_at dksX0_canClimb_3 0 rfl rfl)
theorem dX0_canClimb_71 : decode cX0_canClimb 71 = .ok (.iload_n 1, 1) := dk_27 (dk_at dksX0_canClimb_3 3 rfl rfl)
theorem dX0_canClimb_72 : decode cX0_canClimb 72 = .ok (.iaload, 1) := dk_46 (dk_at dksX0_canClimb_3 4 rfl rfl)
theorem dX0_canClimb_73 : decode cX0_canClimb 73 = .ok (.if_icmp .gt 7, 3) := dk_163 0 7 (dk_at dksX0_canClimb_3 5 rfl rfl)
theorem dX0_canClimb_76 : decode cX0_canClimb 76 = .ok (.iconst 1, 1) := dk_4 (dk_at dksX0_canClimb_3 8 rfl rfl)
theorem dX0_canClimb_77 : decode cX0_canClimb 77 = .ok (.goto 4, 3) := dk_167 0 4 (dk_at dksX0_canClimb_3 9 rfl rfl)
theorem dX0_canClimb_80 : decode cX0_canClimb 80 = .ok (.iconst 0, 1) := dk_3 (dk_at dksX0_canClimb_3 12 rfl rfl)
theorem dX0_canClimb_81 : decode cX0_canClimb 81 = .ok (.ireturn, 1) := dk_172 (dk_at dksX0_canClimb_3 13 rfl rfl)
abbrev cX0_within : ByteArray := prog_1_method_2_code
def yX0_within : MethodName := ⟨RX0, "within", "(II)I"⟩
def dkwX0_within_0 : List UInt8 := [3, 27, 26, 184, 0, 1, 184, 0, 7, 172]
abbrev dktX0_within_0 : List UInt8 := dkwX0_within_0 ++ []
theorem dksX0_within_0 : cX0_within.data.toList.drop 0 = dktX0_within_0 := by decide +kernel
theorem dX0_within_0 : decode cX0_within 0 = .ok (.iconst 0, 1) := dk_3 (dk_at dksX0_within_0 0 rfl rfl)
theorem dX0_within_1 : decode cX0_within 1 = .ok (.iload_n 1, 1) := dk_27 (dk_at dksX0_within_0 1 rfl rfl)
theorem dX0_within_2 : decode cX0_within 2 = .ok (.iload_n 0, 1) := dk_26 (dk_at dksX0_within_0 2 rfl rfl)
theorem dX0_within_3 : decode cX0_within 3 = .ok (.invokestatic 1, 3) := dk_184 0 1 (dk_at dksX0_within_0 3 rfl rfl)
theorem dX0_within_6 : decode cX0_within 6 = .ok (.invokestatic 7, 3) := dk_184 0 7 (dk_at dksX0_within_0 6 rfl rfl)
theorem dX0_within_9 : decode cX0_within 9 = .ok (.ireturn, 1) := dk_172 (dk_at dksX0_within_0 9 rfl rfl)
abbrev cX0_climb : ByteArray := prog_1_method_20_code
def yX0_climb : MethodName := ⟨RX0, "climb", "(IIII)I"⟩
def dkwX0_climb_7 : List UInt8 := [181, 0, 113, 21, 5, 172]
abbrev dktX0_climb_7 : List UInt8 := dkwX0_climb_7 ++ []
def dkwX0_climb_6 : List UInt8 := [46, 28, 42, 180, 0, 19, 29, 182, 0, 211, 104, 100, 79, 42, 180, 0, 28, 89, 180, 0, 113, 28, 96]
abbrev dktX0_climb_6 : List UInt8 := dkwX0_climb_6 ++ dktX0_climb_7
def dkwX0_climb_5 : List UInt8 := [180, 0, 28, 180, 0, 107, 27, 46, 21, 5, 96, 184, 0, 1, 79, 42, 180, 0, 28, 180, 0, 88, 27, 92]
abbrev dktX0_climb_5 : List UInt8 := dkwX0_climb_5 ++ dktX0_climb_6
def dkwX0_climb_4 : List UInt8 := [192, 0, 102, 180, 0, 201, 162, 0, 6, 3, 54, 5, 42, 180, 0, 28, 180, 0, 107, 27, 17, 39, 15, 42]
abbrev dktX0_climb_4 : List UInt8 := dkwX0_climb_4 ++ dktX0_climb_5
def dkwX0_climb_3 : List UInt8 := [181, 0, 126, 42, 180, 0, 28, 180, 0, 126, 16, 100, 112, 42, 180, 0, 19, 180, 0, 95, 27, 182, 0, 98]
abbrev dktX0_climb_3 : List UInt8 := dkwX0_climb_3 ++ dktX0_climb_4
def dkwX0_climb_2 : List UInt8 := [54, 5, 42, 180, 0, 28, 17, 0, 137, 42, 180, 0, 28, 180, 0, 126, 104, 16, 71, 96, 17, 3, 232, 112]
abbrev dktX0_climb_2 : List UInt8 := dkwX0_climb_2 ++ dktX0_climb_3
def dkwX0_climb_1 : List UInt8 := [180, 0, 28, 28, 42, 180, 0, 19, 29, 182, 0, 217, 21, 4, 42, 180, 0, 28, 180, 0, 113, 182, 0, 220]
abbrev dktX0_climb_1 : List UInt8 := dkwX0_climb_1 ++ dktX0_climb_2
def dkwX0_climb_0 : List UInt8 := [42, 27, 28, 29, 21, 4, 182, 0, 213, 154, 0, 5, 2, 172, 42, 182, 0, 224, 42, 180, 0, 19, 42]
abbrev dktX0_climb_0 : List UInt8 := dkwX0_climb_0 ++ dktX0_climb_1
theorem dksX0_climb_0 : cX0_climb.data.toList.drop 0 = dktX0_climb_0 := by decide +kernel
theorem dksX0_climb_1 : cX0_climb.data.toList.drop 23 = dktX0_climb_1 := dk_seg dksX0_climb_0 23 rfl rfl
theorem dksX0_climb_2 : cX0_climb.data.toList.drop 47 = dktX0_climb_2 := dk_seg dksX0_climb_1 24 rfl rfl
theorem dksX0_climb_3 : cX0_climb.data.toList.drop 71 = dktX0_climb_3 := dk_seg dksX0_climb_2 24 rfl rfl
theorem dksX0_climb_4 : cX0_climb.data.toList.drop 95 = dktX0_climb_4 := dk_seg dksX0_climb_3 24 rfl rfl
theorem dksX0_climb_5 : cX0_climb.data.toList.drop 119 = dktX0_climb_5 := dk_seg dksX0_climb_4 24 rfl rfl
theorem dksX0_climb_6 : cX0_climb.data.toList.drop 143 = dktX0_climb_6 := dk_seg dksX0_climb_5 24 rfl rfl
theorem dksX0_climb_7 : cX0_climb.data.toList.drop 166 = dktX0_climb_7 := dk_seg dksX0_climb_6 23 rfl rfl
theorem dX0_climb_0 : decode cX0_climb 0 = .ok (.aload_n 0, 1) := dk_42 (dk_at dksX0_climb_0 0 rfl rfl)
theorem dX0_climb_1 : decode cX0_climb 1 = .ok (.iload_n 1, 1) := dk_27 (dk_at dksX0_climb_0 1 rfl rfl)
theorem dX0_climb_2 : decode cX0_climb 2 = .ok (.iload_n 2, 1) := dk_28 (dk_at dksX0_climb_0 2 rfl rfl)
theorem dX0_climb_3 : decode cX0_climb 3 = .ok (.iload_n 3, 1) := dk_29 (dk_at dksX0_climb_0 3 rfl rfl)
theorem dX0_climb_4 : decode cX0_climb 4 = .ok (.iload 4, 2) := dk_21 4 (dk_at dksX0_climb_0 4 rfl rfl)
theorem dX0_climb_6 : decode cX0_climb 6 = .ok (.invokevirtual 213, 3) := dk_182 0 213 (dk_at dksX0_climb_0 6 rfl rfl)
theorem dX0_climb_9 : decode cX0_climb 9 = .ok (.ifCond .ne 5, 3) := dk_154 0 5 (dk_at dksX0_climb_0 9 rfl rfl)
theorem dX0_climb_12 : decode cX0_climb 12 = .ok (.iconst (-1), 1) := dk_2 (dk_at dksX0_climb_0 12 rfl rfl)
theorem dX0_climb_13 : decode cX0_climb 13 = .ok (.ireturn, 1) := dk_172 (dk_at dksX0_climb_0 13 rfl rfl)
theorem dX0_climb_14 : decode cX0_climb 14 = .ok (.aload_n 0, 1) := dk_42 (dk_at dksX0_climb_0 14 rfl rfl)
theorem dX0_climb_15 : decode cX0_climb 15 = .ok (.invokevirtual 224, 3) := dk_182 0 224 (dk_at dksX0_climb_0 15 rfl rfl)
theorem dX0_climb_18 : decode cX0_climb 18 = .ok (.aload_n 0, 1) := dk_42 (dk_at dksX0_climb_0 18 rfl rfl)
theorem dX0_climb_19 : decode cX0_climb 19 = .ok (.getfield 19, 3) := dk_180 0 19 (dk_at dksX0_climb_0 19 rfl rfl)
theorem dX0_climb_22 : decode cX0_climb 22 = .ok (.aload_n 0, 1) := dk_42 (dk_at dksX0_climb_0 22 rfl rfl)
theorem dX0_climb_23 : decode cX0_climb 23 = .ok (.getfield 28, 3) := dk_180 0 28 (dk_at dksX0_climb_1 0 rfl rfl)
theorem dX0_climb_26 : decode cX0_climb 26 = .ok (.iload_n 2, 1) := dk_28 (dk_at dksX0_climb_1 3 rfl rfl)
theorem dX0_climb_27 : decode cX0_climb 27 = .ok (.aload_n 0, 1) := dk_42 (dk_at dksX0_climb_1 4 rfl rfl)
theorem dX0_climb_28 : decode cX0_climb 28 = .ok (.getfield 19, 3) := dk_180 0 19 (dk_at dksX0_climb_1 5 rfl rfl)
theorem dX0_climb_31 : decode cX0_climb 31 = .ok (.iload_n 3, 1) := dk_29 (dk_at dksX0_climb_1 8 rfl rfl)
theorem dX0_climb_32 : decode cX0_climb 32 = .ok (.invokevirtual 217, 3) := dk_182 0 217 (dk_at dksX0_climb_1 9 rfl rfl)
theorem dX0_climb_35 : decode cX0_climb 35 = .ok (.iload 4, 2) := dk_21 4 (dk_at dksX0_climb_1 12 rfl rfl)
theorem dX0_climb_37 : decode cX0_climb 37 = .ok (.aload_n 0, 1) := dk_42 (dk_at dksX0_climb_1 14 rfl rfl)
theorem dX0_climb_38 : decode cX0_climb 38 = .ok (.getfield 28, 3) := dk_180 0 28 (dk_at dksX0_climb_1 15 rfl rfl)
theorem dX0_climb_41 : decode cX0_climb 41 = .ok (.getfield 113, 3) := dk_180 0 113 (dk_at dksX0_climb_1 18 rfl rfl)
theorem dX0_climb_44 : decode cX0_climb 44 = .ok (.invokevirtual 220, 3) := dk_182 0 220 (dk_at dksX0_climb_1 21 rfl rfl)
theorem dX0_climb_47 : decode cX0_climb 47 = .ok (.istore 5, 2) := dk_54 5 (dk_at dksX0_climb_2 0 rfl rfl)
theorem dX0_climb_49 : decode cX0_climb 49 = .ok (.aload_n 0, 1) := dk_42 (dk_at dksX0_climb_2 2 rfl rfl)
theorem dX0_climb_50 : decode cX0_climb 50 = .ok (.getfield 28, 3) := dk_180 0 28 (dk_at dksX0_climb_2 3 rfl rfl)
theorem dX0_climb_53 : decode cX0_climb 53 = .ok (.sipush 137, 3) := dk_17 0 137 (dk_at dksX0_climb_2 6 rfl rfl)
theorem dX0_climb_56 : decode cX0_climb 56 = .ok (.aload_n 0, 1) := dk_42 (dk_at dksX0_climb_2 9 rfl rfl)
theorem dX0_climb_57 : decode cX0_climb 57 = .ok (.getfield 28, 3) := dk_180 0 28 (dk_at dksX0_climb_2 10 rfl rfl)
theorem dX0_climb_60 : decode cX0_climb 60 = .ok (.getfield 126, 3) := dk_180 0 126 (dk_at dksX0_climb_2 13 rfl rfl)
theorem dX0_climb_63 : decode cX0_climb 63 = .ok (.imul, 1) := dk_104 (dk_at dksX0_climb_2 16 rfl rfl)
theorem dX0_climb_64 : decode cX0_climb 64 = .ok (.bipush 71, 2) := dk_16 71 (dk_at dksX0_climb_2 17 rfl rfl)
theorem dX0_climb_66 : decode cX0_climb 66 = .ok (.iadd, 1) := dk_96 (dk_at dksX0_climb_2 19 rfl rfl)
theorem dX0_climb_67 : decode cX0_climb 67 = .ok (.sipush 1000, 3) := dk_17 3 232 (dk_at dksX0_climb_2 20 rfl rfl)
theorem dX0_climb_70 : decode cX0_climb 70 = .ok (.irem, 1) := dk_112 (dk_at dksX0_climb_2 23 rfl rfl)
theorem dX0_climb_71 : decode cX0_climb 71 = .ok (.putfield 126, 3) := dk_181 0 126 (dk_at dksX0_climb_3 0 rfl rfl)
theorem dX0_climb_74 : decode cX0_climb 74 = .ok (.aload_n 0, 1) := dk_42 (dk_at dksX0_climb_3 3 rfl rfl)
theorem dX0_climb_75 : decode cX0_climb 75 = .ok (.getfield 28, 3) := dk_180 0 28 (dk_at dksX0_climb_3 4 rfl rfl)
theorem dX0_climb_78 : decode cX0_climb 78 = .ok (.getfield 126, 3) := dk_180 0 126 (dk_at dksX0_climb_3 7 rfl rfl)
theorem dX0_climb_81 : decode cX0_climb 81 = .ok (.bipush 100, 2) := dk_16 100 (dk_at dksX0_climb_3 10 rfl rfl)
theorem dX0_climb_83 : decode cX0_climb 83 = .ok (.irem, 1) := dk_112 (dk_at dksX0_climb_3 12 rfl rfl)
theorem dX0_climb_84 : decode cX0_climb 84 = .ok (.aload_n 0, 1) := dk_42 (dk_at dksX0_climb_3 13 rfl rfl)
theorem dX0_climb_85 : decode cX0_climb 85 = .ok (.getfield 19, 3) := dk_180 0 19 (dk_at dksX0_climb_3 14 rfl rfl)
theorem dX0_climb_88 : decode cX0_climb 88 = .ok (.getfield 95, 3) := dk_180 0 95 (dk_at dksX0_climb_3 17 rfl rfl)
theorem dX0_climb_91 : decode cX0_climb 91 = .ok (.iload_n 1, 1) := dk_27 (dk_at dksX0_climb_3 20 rfl rfl)
theorem dX0_climb_92 : decode cX0_climb 92 = .ok (.invokevirtual 98, 3) := dk_182 0 98 (dk_at dksX0_climb_3 21 rfl rfl)
theorem dX0_climb_95 : decode cX0_climb 95 = .ok (.checkcast 102, 3) := dk_192 0 102 (dk_at dksX0_climb_4 0 rfl rfl)
theorem dX0_climb_98 : decode cX0_climb 98 = .ok (.getfield 201, 3) := dk_180 0 201 (dk_at dksX0_climb_4 3 rfl rfl)
theorem dX0_climb_101 : decode cX0_climb 101 = .ok (.if_icmp .ge 6, 3) := dk_162 0 6 (dk_at dksX0_climb_4 6 rfl rfl)
theorem dX0_climb_104 : decode cX0_climb 104 = .ok (.iconst 0, 1) := dk_3 (dk_at dksX0_climb_4 9 rfl rfl)
theorem dX0_climb_105 : decode cX0_climb 105 = .ok (.istore 5, 2) := dk_54 5 (dk_at dksX0_climb_4 10 rfl rfl)
theorem dX0_climb_107 : decode cX0_climb 107 = .ok (.aload_n 0, 1) := dk_42 (dk_at dksX0_climb_4 12 rfl rfl)
theorem dX0_climb_108 : decode cX0_climb 108 = .ok (.getfield 28, 3) := dk_180 0 28 (dk_at dksX0_climb_4 13 rfl rfl)
theorem dX0_climb_111 : decode cX0_climb 111 = .ok (.getfield 107, 3) := dk_180 0 107 (dk_at dksX0_climb_4 16 rfl rfl)
theorem dX0_climb_114 : decode cX0_climb 114 = .ok (.iload_n 1, 1) := dk_27 (dk_at dksX0_climb_4 19 rfl rfl)
theorem dX0_climb_115 : decode cX0_climb 115 = .ok (.sipush 9999, 3) := dk_17 39 15 (dk_at dksX0_climb_4 20 rfl rfl)
theorem dX0_climb_118 : decode cX0_climb 118 = .ok (.aload_n 0, 1) := dk_42 (dk_at dksX0_climb_4 23 rfl rfl)
theorem dX0_climb_119 : decode cX0_climb 119 = .ok (.getfield 28, 3) := dk_180 0 28 (dk_at dksX0_climb_5 0 rfl rfl)
theorem dX0_climb_122 : decode cX0_climb 122 = .ok (.getfield 107, 3) := dk_180 0 107 (dk_at dksX0_climb_5 3 rfl rfl)
theorem dX0_climb_125 : decode cX0_climb 125 = .ok (.iload_n 1, 1) := dk_27 (dk_at dksX0_climb_5 6 rfl rfl)
theorem dX0_climb_126 : decode cX0_climb 126 = .ok (.iaload, 1) := dk_46 (dk_at dksX0_climb_5 7 rfl rfl)
theorem dX0_climb_127 : decode cX0_climb 127 = .ok (.iload 5, 2) := dk_21 5 (dk_at dksX0_climb_5 8 rfl rfl)
theorem dX0_climb_129 : decode cX0_climb 129 = .ok (.iadd, 1) := dk_96 (dk_at dksX0_climb_5 10 rfl rfl)
theorem dX0_climb_130 : decode cX0_climb 130 = .ok (.invokestatic 1, 3) := dk_184 0 1 (dk_at dksX0_climb_5 11 rfl rfl)
theorem dX0_climb_133 : decode cX0_climb 133 = .ok (.iastore, 1) := dk_79 (dk_at dksX0_climb_5 14 rfl rfl)
theorem dX0_climb_134 : decode cX0_climb 134 = .ok (.aload_n 0, 1) := dk_42 (dk_at dksX0_climb_5 15 rfl rfl)
theorem dX0_climb_135 : decode cX0_climb 135 = .ok (.getfield 28, 3) := dk_180 0 28 (dk_at dksX0_climb_5 16 rfl rfl)
theorem dX0_climb_138 : decode cX0_climb 138 = .ok (.getfield 88, 3) := dk_180 0 88 (dk_at dksX0_climb_5 19 rfl rfl)
theorem dX0_climb_141 : decode cX0_climb 141 = .ok (.iload_n 1, 1) := dk_27 (dk_at dksX0_climb_5 22 rfl rfl)
theorem dX0_climb_142 : decode cX0_climb 142 = .ok (.dup2, 1) := dk_92 (dk_at dksX0_climb_5 23 rfl rfl)
theorem dX0_climb_143 : decode cX0_climb 143 = .ok (.iaload, 1) := dk_46 (dk_at dksX0_climb_6 0 rfl rfl)
theorem dX0_climb_144 : decode cX0_climb 144 = .ok (.iload_n 2, 1) := dk_28 (dk_at dksX0_climb_6 1 rfl rfl)
theorem dX0_climb_145 : decode cX0_climb 145 = .ok (.aload_n 0, 1) := dk_42 (dk_at dksX0_climb_6 2 rfl rfl)
theorem dX0_climb_146 : decode cX0_climb 146 = .ok (.getfield 19, 3) := dk_180 0 19 (dk_at dksX0_climb_6 3 rfl rfl)
theorem dX0_climb_149 : decode cX0_climb 149 = .ok (.iload_n 3, 1) := dk_29 (dk_at dksX0_climb_6 6 rfl rfl)
theorem dX0_climb_150 : decode cX0_climb 150 = .ok (.invokevirtual 211, 3) := dk_182 0 211 (dk_at dksX0_climb_6 7 rfl rfl)
theorem dX0_climb_153 : decode cX0_climb 153 = .ok (.imul, 1) := dk_104 (dk_at dksX0_climb_6 10 rfl rfl)
theorem dX0_climb_154 : decode cX0_climb 154 = .ok (.isub, 1) := dk_100 (dk_at dksX0_climb_6 11 rfl rfl)
theorem dX0_climb_155 : decode cX0_climb 155 = .ok (.iastore, 1) := dk_79 (dk_at dksX0_climb_6 12 rfl rfl)
theorem dX0_climb_156 : decode cX0_climb 156 = .ok (.aload_n 0, 1) := dk_42 (dk_at dksX0_climb_6 13 rfl rfl)
theorem dX0_climb_157 : decode cX0_climb 157 = .ok (.getfield 28, 3) := dk_180 0 28 (dk_at dksX0_climb_6 14 rfl rfl)
theorem dX0_climb_160 : decode cX0_climb 160 = .ok (.dup, 1) := dk_89 (dk_at dksX0_climb_6 17 rfl rfl)
theorem dX0_climb_161 : decode cX0_climb 161 = .ok (.getfield 113, 3) := dk_180 0 113 (dk_at dksX0_climb_6 18 rfl rfl)
theorem dX0_climb_164 : decode cX0_climb 164 = .ok (.iload_n 2, 1) := dk_28 (dk_at dksX0_climb_6 21 rfl rfl)
theorem dX0_climb_165 : decode cX0_climb 165 = .ok (.iadd, 1) := dk_96 (dk_at dksX0_climb_6 22 rfl rfl)
theorem dX0_climb_166 : decode cX0_climb 166 = .ok (.putfield 113, 3) := dk_181 0 113 (dk_at dksX0_climb_7 0 rfl rfl)
theorem dX0_climb_169 : decode cX0_climb 169 = .ok (.iload 5, 2) := dk_21 5 (dk_at dksX0_climb_7 3 rfl rfl)
theorem dX0_climb_171 : decode cX0_climb 171 = .ok (.ireturn, 1) := dk_172 (dk_at dksX0_climb_7 5 rfl rfl)
abbrev cX0_keepAct : ByteArray := prog_1_method_7_code
def yX0_keepAct : MethodName := ⟨RX0, "keepAct", "()V"⟩
def dkwX0_keepAct_2 : List UInt8 := [180, 0, 57, 182, 0, 129, 177]
abbrev dktX0_keepAct_2 : List UInt8 := dkwX0_keepAct_2 ++ []
def dkwX0_keepAct_1 : List UInt8 := [180, 0, 53, 187, 0, 76, 89, 42, 180, 0, 28, 184, 0, 147, 183, 0, 78, 182, 0, 151, 87, 42]
abbrev dktX0_keepAct_1 : List UInt8 := dkwX0_keepAct_1 ++ dktX0_keepAct_2
def dkwX0_keepAct_0 : List UInt8 := [42, 180, 0, 53, 182, 0, 141, 16, 40, 160, 0, 12, 42, 180, 0, 53, 3, 182, 0, 144, 87, 42]
abbrev dktX0_keepAct_0 : List UInt8 := dkwX0_keepAct_0 ++ dktX0_keepAct_1
theorem dksX0_keepAct_0 : cX0_keepAct.data.toList.drop 0 = dktX0_keepAct_0 := by decide +kernel
theorem dksX0_keepAct_1 : cX0_keepAct.data.toList.drop 22 = dktX0_keepAct_1 := dk_seg dksX0_keepAct_0 22 rfl rfl
theorem dksX0_keepAct_2 : cX0_keepAct.data.toList.drop 44 = dktX0_keepAct_2 := dk_seg dksX0_keepAct_1 22 rfl rfl
theorem dX0_keepAct_0 : decode cX0_keepAct 0 = .ok (.aload_n 0, 1) := dk_42 (dk_at dksX0_keepAct_0 0 rfl rfl)
theorem dX0_keepAct_1 : decode cX0_keepAct 1 = .ok (.getfield 53, 3) := dk_180 0 53 (dk_at dksX0_keepAct_0 1 rfl rfl)
theorem dX0_keepAct_4 : decode cX0_keepAct 4 = .ok (.invokevirtual 141, 3) := dk_182 0 141 (dk_at dksX0_keepAct_0 4 rfl rfl)
theorem dX0_keepAct_7 : decode cX0_keepAct 7 = .ok (.bipush 40, 2) := dk_16 40 (dk_at dksX0_keepAct_0 7 rfl rfl)
theorem dX0_keepAct_9 : decode cX0_keepAct 9 = .ok (.if_icmp .ne 12, 3) := dk_160 0 12 (dk_at dksX0_keepAct_0 9 rfl rfl)
theorem dX0_keepAct_12 : decode cX0_keepAct 12 = .ok (.aload_n 0, 1) := dk_42 (dk_at dksX0_keepAct_0 12 rfl rfl)
theorem dX0_keepAct_13 : decode cX0_keepAct 13 = .ok (.getfield 53, 3) := dk_180 0 53 (dk_at dksX0_keepAct_0 13 rfl rfl)
theorem dX0_keepAct_16 : decode cX0_keepAct 16 = .ok (.iconst 0, 1) := dk_3 (dk_at dksX0_keepAct_0 16 rfl rfl)
theorem dX0_keepAct_17 : decode cX0_keepAct 17 = .ok (.invokevirtual 144, 3) := dk_182 0 144 (dk_at dksX0_keepAct_0 17 rfl rfl)
theorem dX0_keepAct_20 : decode cX0_keepAct 20 = .ok (.pop, 1) := dk_87 (dk_at dksX0_keepAct_0 20 rfl rfl)
theorem dX0_keepAct_21 : decode cX0_keepAct 21 = .ok (.aload_n 0, 1) := dk_42 (dk_at dksX0_keepAct_0 21 rfl rfl)
theorem dX0_keepAct_22 : decode cX0_keepAct 22 = .ok (.getfield 53, 3) := dk_180 0 53 (dk_at dksX0_keepAct_1 0 rfl rfl)
theorem dX0_keepAct_25 : decode cX0_keepAct 25 = .ok (.new 76, 3) := dk_187 0 76 (dk_at dksX0_keepAct_1 3 rfl rfl)
theorem dX0_keepAct_28 : decode cX0_keepAct 28 = .ok (.dup, 1) := dk_89 (dk_at dksX0_keepAct_1 6 rfl rfl)
theorem dX0_keepAct_29 : decode cX0_keepAct 29 = .ok (.aload_n 0, 1) := dk_42 (dk_at dksX0_keepAct_1 7 rfl rfl)
theorem dX0_keepAct_30 : decode cX0_keepAct 30 = .ok (.getfield 28, 3) := dk_180 0 28 (dk_at dksX0_keepAct_1 8 rfl rfl)
theorem dX0_keepAct_33 : decode cX0_keepAct 33 = .ok (.invokestatic 147, 3) := dk_184 0 147 (dk_at dksX0_keepAct_1 11 rfl rfl)
theorem dX0_keepAct_36 : decode cX0_keepAct 36 = .ok (.invokespecial 78, 3) := dk_183 0 78 (dk_at dksX0_keepAct_1 14 rfl rfl)
theorem dX0_keepAct_39 : decode cX0_keepAct 39 = .ok (.invokevirtual 151, 3) := dk_182 0 151 (dk_at dksX0_keepAct_1 17 rfl rfl)
theorem dX0_keepAct_42 : decode cX0_keepAct 42 = .ok (.pop, 1) := dk_87 (dk_at dksX0_keepAct_1 20 rfl rfl)
theorem dX0_keepAct_43 : decode cX0_keepAct 43 = .ok (.aload_n 0, 1) := dk_42 (dk_at dksX0_keepAct_1 21 rfl rfl)
theorem dX0_keepAct_44 : decode cX0_keepAct 44 = .ok (.getfield 57, 3) := dk_180 0 57 (dk_at dksX0_keepAct_2 0 rfl rfl)
theorem dX0_keepAct_47 : decode cX0_keepAct 47 = .ok (.invokevirtual 129, 3) := dk_182 0 129 (dk_at dksX0_keepAct_2 3 rfl rfl)
theorem dX0_keepAct_50 : decode cX0_keepAct 50 = .ok (.return_, 1) := dk_177 (dk_at dksX0_keepAct_2 6 rfl rfl)
abbrev cX0_copy : ByteArray := prog_1_method_6_code
def yX0_copy : MethodName := ⟨RX0, "copy", "(LSoManyStairs$State;)LSoManyStairs$State;"⟩
def dkwX0_copy_0 : List UInt8 := [187, 0, 25, 89, 183, 0, 27, 76, 43, 42, 182, 0, 138, 43, 176]
abbrev dktX0_copy_0 : List UInt8 := dkwX0_copy_0 ++ []
theorem dksX0_copy_0 : cX0_copy.data.toList.drop 0 = dktX0_copy_0 := by decide +kernel
theorem dX0_copy_0 : decode cX0_copy 0 = .ok (.new 25, 3) := dk_187 0 25 (dk_at dksX0_copy_0 0 rfl rfl)
theorem dX0_copy_3 : decode cX0_copy 3 = .ok (.dup, 1) := dk_89 (dk_at dksX0_copy_0 3 rfl rfl)
theorem dX0_copy_4 : decode cX0_copy 4 = .ok (.invokespecial 27, 3) := dk_183 0 27 (dk_at dksX0_copy_0 4 rfl rfl)
theorem dX0_copy_7 : decode cX0_copy 7 = .ok (.astore_n 1, 1) := dk_76 (dk_at dksX0_copy_0 7 rfl rfl)
theorem dX0_copy_8 : decode cX0_copy 8 = .ok (.aload_n 1, 1) := dk_43 (dk_at dksX0_copy_0 8 rfl rfl)
theorem dX0_copy_9 : decode cX0_copy 9 = .ok (.aload_n 0, 1) := dk_42 (dk_at dksX0_copy_0 9 rfl rfl)
theorem dX0_copy_10 : decode cX0_copy 10 = .ok (.invokevirtual 138, 3) := dk_182 0 138 (dk_at dksX0_copy_0 10 rfl rfl)
theorem dX0_copy_13 : decode cX0_copy 13 = .ok (.aload_n 1, 1) := dk_43 (dk_at dksX0_copy_0 13 rfl rfl)
theorem dX0_copy_14 : decode cX0_copy 14 = .ok (.areturn, 1) := dk_176 (dk_at dksX0_copy_0 14 rfl rfl)
abbrev cX0_give : ByteArray := prog_1_method_21_code
def yX0_give : MethodName := ⟨RX0, "give", "(III)I"⟩
def dkwX0_give_4 : List UInt8 := [172]
abbrev dktX0_give_4 : List UInt8 := dkwX0_give_4 ++ []
def dkwX0_give_3 : List UInt8 := [100, 79, 42, 180, 0, 28, 180, 0, 107, 28, 92, 46, 29, 96, 79, 42, 180, 0, 28, 180, 0, 107, 28, 46]
abbrev dktX0_give_3 : List UInt8 := dkwX0_give_3 ++ dktX0_give_4
def dkwX0_give_2 : List UInt8 := [96, 17, 39, 15, 164, 0, 5, 2, 172, 42, 182, 0, 224, 42, 180, 0, 28, 180, 0, 107, 27, 92, 46, 29]
abbrev dktX0_give_2 : List UInt8 := dkwX0_give_2 ++ dktX0_give_3
def dkwX0_give_1 : List UInt8 := [180, 0, 28, 180, 0, 107, 27, 46, 184, 0, 155, 153, 0, 20, 42, 180, 0, 28, 180, 0, 107, 28, 46, 29]
abbrev dktX0_give_1 : List UInt8 := dkwX0_give_1 ++ dktX0_give_2
def dkwX0_give_0 : List UInt8 := [42, 27, 182, 0, 188, 153, 0, 50, 42, 28, 182, 0, 188, 153, 0, 42, 27, 28, 159, 0, 37, 29, 4, 42]
abbrev dktX0_give_0 : List UInt8 := dkwX0_give_0 ++ dktX0_give_1
theorem dksX0_give_0 : cX0_give.data.toList.drop 0 = dktX0_give_0 := by decide +kernel
theorem dksX0_give_1 : cX0_give.data.toList.drop 24 = dktX0_give_1 := dk_seg dksX0_give_0 24 rfl rfl
theorem dksX0_give_2 : cX0_give.data.toList.drop 48 = dktX0_give_2 := dk_seg dksX0_give_1 24 rfl rfl
theorem dksX0_give_3 : cX0_give.data.toList.drop 72 = dktX0_give_3 := dk_seg dksX0_give_2 24 rfl rfl
theorem dksX0_give_4 : cX0_give.data.toList.drop 96 = dktX0_give_4 := dk_seg dksX0_give_3 24 rfl rfl
theorem dX0_give_0 : decode cX0_give 0 = .ok (.aload_n 0, 1) := dk_42 (dk_at dksX0_give_0 0 rfl rfl)
theorem dX0_give_1 : decode cX0_give 1 = .ok (.iload_n 1, 1) := dk_27 (dk_at dksX0_give_0 1 rfl rfl)
theorem dX0_give_2 : decode cX0_give 2 = .ok (.invokevirtual 188, 3) := dk_182 0 188 (dk_at dksX0_give_0 2 rfl rfl)
theorem dX0_give_5 : decode cX0_give 5 = .ok (.ifCond .eq 50, 3) := dk_153 0 50 (dk_at dksX0_give_0 5 rfl rfl)
theorem dX0_give_8 : decode cX0_give 8 = .ok (.aload_n 0, 1) := dk_42 (dk_at dksX0_give_0 8 rfl rfl)
theorem dX0_give_9 : decode cX0_give 9 = .ok (.iload_n 2, 1) := dk_28 (dk_at dksX0_give_0 9 rfl rfl)
theorem dX0_give_10 : decode cX0_give 10 = .ok (.invokevirtual 188, 3) := dk_182 0 188 (dk_at dksX0_give_0 10 rfl rfl)
theorem dX0_give_13 : decode cX0_give 13 = .ok (.ifCond .eq 42, 3) := dk_153 0 42 (dk_at dksX0_give_0 13 rfl rfl)
theorem dX0_give_16 : decode cX0_give 16 = .ok (.iload_n 1, 1) := dk_27 (dk_at dksX0_give_0 16 rfl rfl)
theorem dX0_give_17 : decode cX0_give 17 = .ok (.iload_n 2, 1) := dk_28 (dk_at dksX0_give_0 17 rfl rfl)
theorem dX0_give_18 : decode cX0_give 18 = .ok (.if_icmp .eq 37, 3) := dk_159 0 37 (dk_at dksX0_give_0 18 rfl rfl)
theorem dX0_give_21 : decode cX0_give 21 = .ok (.iload_n 3, 1) := dk_29 (dk_at dksX0_give_0 21 rfl rfl)
theorem dX0_give_22 : decode cX0_give 22 = .ok (.iconst 1, 1) := dk_4 (dk_at dksX0_give_0 22 rfl rfl)
theorem dX0_give_23 : decode cX0_give 23 = .ok (.aload_n 0, 1) := dk_42 (dk_at dksX0_give_0 23 rfl rfl)
theorem dX0_give_24 : decode cX0_give 24 = .ok (.getfield 28, 3) := dk_180 0 28 (dk_at dksX0_give_1 0 rfl rfl)
theorem dX0_give_27 : decode cX0_give 27 = .ok (.getfield 107, 3) := dk_180 0 107 (dk_at dksX0_give_1 3 rfl rfl)
theorem dX0_give_30 : decode cX0_give 30 = .ok (.iload_n 1, 1) := dk_27 (dk_at dksX0_give_1 6 rfl rfl)
theorem dX0_give_31 : decode cX0_give 31 = .ok (.iaload, 1) := dk_46 (dk_at dksX0_give_1 7 rfl rfl)
theorem dX0_give_32 : decode cX0_give 32 = .ok (.invokestatic 155, 3) := dk_184 0 155 (dk_at dksX0_give_1 8 rfl rfl)
theorem dX0_give_35 : decode cX0_give 35 = .ok (.ifCond .eq 20, 3) := dk_153 0 20 (dk_at dksX0_give_1 11 rfl rfl)
theorem dX0_give_38 : decode cX0_give 38 = .ok (.aload_n 0, 1) := dk_42 (dk_at dksX0_give_1 14 rfl rfl)
theorem dX0_give_39 : decode cX0_give 39 = .ok (.getfield 28, 3) := dk_180 0 28 (dk_at dksX0_give_1 15 rfl rfl)
theorem dX0_give_42 : decode cX0_give 42 = .ok (.getfield 107, 3) := dk_180 0 107 (dk_at dksX0_give_1 18 rfl rfl)
theorem dX0_give_45 : decode cX0_give 45 = .ok (.iload_n 2, 1) := dk_28 (dk_at dksX0_give_1 21 rfl rfl)
theorem dX0_give_46 : decode cX0_give 46 = .ok (.iaload, 1) := dk_46 (dk_at dksX0_give_1 22 rfl rfl)
theorem dX0_give_47 : decode cX0_give 47 = .ok (.iload_n 3, 1) := dk_29 (dk_at dksX0_give_1 23 rfl rfl)
theorem dX0_give_48 : decode cX0_give 48 = .ok (.iadd, 1) := dk_96 (dk_at dksX0_give_2 0 rfl rfl)
theorem dX0_give_49 : decode cX0_give 49 = .ok (.sipush 9999, 3) := dk_17 39 15 (dk_at dksX0_give_2 1 rfl rfl)
theorem dX0_give_52 : decode cX0_give 52 = .ok (.if_icmp .le 5, 3) := dk_164 0 5 (dk_at dksX0_give_2 4 rfl rfl)
theorem dX0_give_55 : decode cX0_give 55 = .ok (.iconst (-1), 1) := dk_2 (dk_at dksX0_give_2 7 rfl rfl)
theorem dX0_give_56 : decode cX0_give 56 = .ok (.ireturn, 1) := dk_172 (dk_at dksX0_give_2 8 rfl rfl)
theorem dX0_give_57 : decode cX0_give 57 = .ok (.aload_n 0, 1) := dk_42 (dk_at dksX0_give_2 9 rfl rfl)
theorem dX0_give_58 : decode cX0_give 58 = .ok (.invokevirtual 224, 3) := dk_182 0 224 (dk_at dksX0_give_2 10 rfl rfl)
theorem dX0_give_61 : decode cX0_give 61 = .ok (.aload_n 0, 1) := dk_42 (dk_at dksX0_give_2 13 rfl rfl)
theorem dX0_give_62 : decode cX0_give 62 = .ok (.getfield 28, 3) := dk_180 0 28 (dk_at dksX0_give_2 14 rfl rfl)
theorem dX0_give_65 : decode cX0_give 65 = .ok (.getfield 107, 3) := dk_180 0 107 (dk_at dksX0_give_2 17 rfl rfl)
theorem dX0_give_68 : decode cX0_give 68 = .ok (.iload_n 1, 1) := dk_27 (dk_at dksX0_give_2 20 rfl rfl)
theorem dX0_give_69 : decode cX0_give 69 = .ok (.dup2, 1) := dk_92 (dk_at dksX0_give_2 21 rfl rfl)
theorem dX0_give_70 : decode cX0_give 70 = .ok (.iaload, 1) := dk_46 (dk_at dksX0_give_2 22 rfl rfl)
theorem dX0_give_71 : decode cX0_give 71 = .ok (.iload_n 3, 1) := dk_29 (dk_at dksX0_give_2 23 rfl rfl)
theorem dX0_give_72 : decode cX0_give 72 = .ok (.isub, 1) := dk_100 (dk_at dksX0_give_3 0 rfl rfl)
theorem dX0_give_73 : decode cX0_give 73 = .ok (.iastore, 1) := dk_79 (dk_at dksX0_give_3 1 rfl rfl)
theorem dX0_give_74 : decode cX0_give 74 = .ok (.aload_n 0, 1) := dk_42 (dk_at dksX0_give_3 2 rfl rfl)
theorem dX0_give_75 : decode cX0_give 75 = .ok (.getfield 28, 3) := dk_180 0 28 (dk_at dksX0_give_3 3 rfl rfl)
theorem dX0_give_78 : decode cX0_give 78 = .ok (.getfield 107, 3) := dk_180 0 107 (dk_at dksX0_give_3 6 rfl rfl)
theorem dX0_give_81 : decode cX0_give 81 = .ok (.iload_n 2, 1) := dk_28 (dk_at dksX0_give_3 9 rfl rfl)
theorem dX0_give_82 : decode cX0_give 82 = .ok (.dup2, 1) := dk_92 (dk_at dksX0_give_3 10 rfl rfl)
theorem dX0_give_83 : decode cX0_give 83 = .ok (.iaload, 1) := dk_46 (dk_at dksX0_give_3 11 rfl rfl)
theorem dX0_give_84 : decode cX0_give 84 = .ok (.iload_n 3, 1) := dk_29 (dk_at dksX0_give_3 12 rfl rfl)
theorem dX0_give_85 : decode cX0_give 85 = .ok (.iadd, 1) := dk_96 (dk_at dksX0_give_3 13 rfl rfl)
theorem dX0_give_86 : decode cX0_give 86 = .ok (.iastore, 1) := dk_79 (dk_at dksX0_give_3 14 rfl rfl)
theorem dX0_give_87 : decode cX0_give 87 = .ok (.aload_n 0, 1) := dk_42 (dk_at dksX0_give_3 15 rfl rfl)
theorem dX0_give_88 : decode cX0_give 88 = .ok (.getfield 28, 3) := dk_180 0 28 (dk_at dksX0_give_3 16 rfl rfl)
theorem dX0_give_91 : decode cX0_give 91 = .ok (.getfield 107, 3) := dk_180 0 107 (dk_at dksX0_give_3 19 rfl rfl)
theorem dX0_give_94 : decode cX0_give 94 = .ok (.iload_n 2, 1) := dk_28 (dk_at dksX0_give_3 22 rfl rfl)
theorem dX0_give_95 : decode cX0_give 95 = .ok (.iaload, 1) := dk_46 (dk_at dksX0_give_3 23 rfl rfl)
theorem dX0_give_96 : decode cX0_give 96 = .ok (.ireturn, 1) := dk_172 (dk_at dksX0_give_4 0 rfl rfl)
abbrev cX0_week : ByteArray := prog_1_method_22_code
def yX0_week : MethodName := ⟨RX0, "week", "()I"⟩
def dkwX0_week_1 : List UInt8 := [180, 0, 19, 182, 0, 227, 42, 180, 0, 28, 180, 0, 119, 172]
abbrev dktX0_week_1 : List UInt8 := dkwX0_week_1 ++ []
def dkwX0_week_0 : List UInt8 := [42, 180, 0, 28, 180, 0, 120, 17, 3, 231, 160, 0, 5, 2, 172, 42, 182, 0, 224, 42, 180, 0, 28, 42]
abbrev dktX0_week_0 : List UInt8 := dkwX0_week_0 ++ dktX0_week_1
theorem dksX0_week_0 : cX0_week.data.toList.drop 0 = dktX0_week_0 := by decide +kernel
theorem dksX0_week_1 : cX0_week.data.toList.drop 24 = dktX0_week_1 := dk_seg dksX0_week_0 24 rfl rfl
theorem dX0_week_0 : decode cX0_week 0 = .ok (.aload_n 0, 1) := dk_42 (dk_at dksX0_week_0 0 rfl rfl)
theorem dX0_week_1 : decode cX0_week 1 = .ok (.getfield 28, 3) := dk_180 0 28 (dk_at dksX0_week_0 1 rfl rfl)
theorem dX0_week_4 : decode cX0_week 4 = .ok (.getfield 120, 3) := dk_180 0 120 (dk_at dksX0_week_0 4 rfl rfl)
theorem dX0_week_7 : decode cX0_week 7 = .ok (.sipush 999, 3) := dk_17 3 231 (dk_at dksX0_week_0 7 rfl rfl)
theorem dX0_week_10 : decode cX0_week 10 = .ok (.if_icmp .ne 5, 3) := dk_160 0 5 (dk_at dksX0_week_0 10 rfl rfl)
theorem dX0_week_13 : decode cX0_week 13 = .ok (.iconst (-1), 1) := dk_2 (dk_at dksX0_week_0 13 rfl rfl)
theorem dX0_week_14 : decode cX0_week 14 = .ok (.ireturn, 1) := dk_172 (dk_at dksX0_week_0 14 rfl rfl)
theorem dX0_week_15 : decode cX0_week 15 = .ok (.aload_n 0, 1) := dk_42 (dk_at dksX0_week_0 15 rfl rfl)
theorem dX0_week_16 : decode cX0_week 16 = .ok (.invokevirtual 224, 3) := dk_182 0 224 (dk_at dksX0_week_0 16 rfl rfl)
theorem dX0_week_19 : decode cX0_week 19 = .ok (.aload_n 0, 1) := dk_42 (dk_at dksX0_week_0 19 rfl rfl)
theorem dX0_week_20 : decode cX0_week 20 = .ok (.getfield 28, 3) := dk_180 0 28 (dk_at dksX0_week_0 20 rfl rfl)
theorem dX0_week_23 : decode cX0_week 23 = .ok (.aload_n 0, 1) := dk_42 (dk_at dksX0_week_0 23 rfl rfl)
theorem dX0_week_24 : decode cX0_week 24 = .ok (.getfield 19, 3) := dk_180 0 19 (dk_at dksX0_week_1 0 rfl rfl)
theorem dX0_week_27 : decode cX0_week 27 = .ok (.invokevirtual 227, 3) := dk_182 0 227 (dk_at dksX0_week_1 3 rfl rfl)
theorem dX0_week_30 : decode cX0_week 30 = .ok (.aload_n 0, 1) := dk_42 (dk_at dksX0_week_1 6 rfl rfl)
theorem dX0_week_31 : decode cX0_week 31 = .ok (.getfield 28, 3) := dk_180 0 28 (dk_at dksX0_week_1 7 rfl rfl)
theorem dX0_week_34 : decode cX0_week 34 = .ok (.getfield 119, 3) := dk_180 0 119 (dk_at dksX0_week_1 10 rfl rfl)
theorem dX0_week_37 : decode cX0_week 37 = .ok (.ireturn, 1) := dk_172 (dk_at dksX0_week_1 13 rfl rfl)
abbrev cX0_undo : ByteArray := prog_1_method_23_code
def yX0_undo : MethodName := ⟨RX0, "undo", "()Z"⟩
def dkwX0_undo_1 : List UInt8 := [180, 0, 53, 182, 0, 141, 4, 100, 182, 0, 144, 192, 0, 76, 182, 0, 235, 182, 0, 151, 87, 4, 172]
abbrev dktX0_undo_1 : List UInt8 := dkwX0_undo_1 ++ []
def dkwX0_undo_0 : List UInt8 := [42, 180, 0, 53, 182, 0, 231, 153, 0, 5, 3, 172, 42, 180, 0, 57, 42, 42, 180, 0, 53, 42]
abbrev dktX0_undo_0 : List UInt8 := dkwX0_undo_0 ++ dktX0_undo_1
theorem dksX0_undo_0 : cX0_undo.data.toList.drop 0 = dktX0_undo_0 := by decide +kernel
theorem dksX0_undo_1 : cX0_undo.data.toList.drop 22 = dktX0_undo_1 := dk_seg dksX0_undo_0 22 rfl rfl
theorem dX0_undo_0 : decode cX0_undo 0 = .ok (.aload_n 0, 1) := dk_42 (dk_at dksX0_undo_0 0 rfl rfl)
theorem dX0_undo_1 : decode cX0_undo 1 = .ok (.getfield 53, 3) := dk_180 0 53 (dk_at dksX0_undo_0 1 rfl rfl)
theorem dX0_undo_4 : decode cX0_undo 4 = .ok (.invokevirtual 231, 3) := dk_182 0 231 (dk_at dksX0_undo_0 4 rfl rfl)
theorem dX0_undo_7 : decode cX0_undo 7 = .ok (.ifCond .eq 5, 3) := dk_153 0 5 (dk_at dksX0_undo_0 7 rfl rfl)
theorem dX0_undo_10 : decode cX0_undo 10 = .ok (.iconst 0, 1) := dk_3 (dk_at dksX0_undo_0 10 rfl rfl)
theorem dX0_undo_11 : decode cX0_undo 11 = .ok (.ireturn, 1) := dk_172 (dk_at dksX0_undo_0 11 rfl rfl)
theorem dX0_undo_12 : decode cX0_undo 12 = .ok (.aload_n 0, 1) := dk_42 (dk_at dksX0_undo_0 12 rfl rfl)
theorem dX0_undo_13 : decode cX0_undo 13 = .ok (.getfield 57, 3) := dk_180 0 57 (dk_at dksX0_undo_0 13 rfl rfl)
theorem dX0_undo_16 : decode cX0_undo 16 = .ok (.aload_n 0, 1) := dk_42 (dk_at dksX0_undo_0 16 rfl rfl)
theorem dX0_undo_17 : decode cX0_undo 17 = .ok (.aload_n 0, 1) := dk_42 (dk_at dksX0_undo_0 17 rfl rfl)
theorem dX0_undo_18 : decode cX0_undo 18 = .ok (.getfield 53, 3) := dk_180 0 53 (dk_at dksX0_undo_0 18 rfl rfl)
theorem dX0_undo_21 : decode cX0_undo 21 = .ok (.aload_n 0, 1) := dk_42 (dk_at dksX0_undo_0 21 rfl rfl)
theorem dX0_undo_22 : decode cX0_undo 22 = .ok (.getfield 53, 3) := dk_180 0 53 (dk_at dksX0_undo_1 0 rfl rfl)
theorem dX0_undo_25 : decode cX0_undo 25 = .ok (.invokevirtual 141, 3) := dk_182 0 141 (dk_at dksX0_undo_1 3 rfl rfl)
theorem dX0_undo_28 : decode cX0_undo 28 = .ok (.iconst 1, 1) := dk_4 (dk_at dksX0_undo_1 6 rfl rfl)
theorem dX0_undo_29 : decode cX0_undo 29 = .ok (.isub, 1) := dk_100 (dk_at dksX0_undo_1 7 rfl rfl)
theorem dX0_undo_30 : decode cX0_undo 30 = .ok (.invokevirtual 144, 3) := dk_182 0 144 (dk_at dksX0_undo_1 8 rfl rfl)
theorem dX0_undo_33 : decode cX0_undo 33 = .ok (.checkcast 76, 3) := dk_192 0 76 (dk_at dksX0_undo_1 11 rfl rfl)
theorem dX0_undo_36 : decode cX0_undo 36 = .ok (.invokevirtual 235, 3) := dk_182 0 235 (dk_at dksX0_undo_1 14 rfl rfl)
theorem dX0_undo_39 : decode cX0_undo 39 = .ok (.invokevirtual 151, 3) := dk_182 0 151 (dk_at dksX0_undo_1 17 rfl rfl)
theorem dX0_undo_42 : decode cX0_undo 42 = .ok (.pop, 1) := dk_87 (dk_at dksX0_undo_1 20 rfl rfl)
theorem dX0_undo_43 : decode cX0_undo 43 = .ok (.iconst 1, 1) := dk_4 (dk_at dksX0_undo_1 21 rfl rfl)
theorem dX0_undo_44 : decode cX0_undo 44 = .ok (.ireturn, 1) := dk_172 (dk_at dksX0_undo_1 22 rfl rfl)
abbrev cX0_turned : ByteArray := prog_1_method_8_code
def yX0_turned : MethodName := ⟨RX0, "turned", "(LSoManyStairs$Kept;)LSoManyStairs$Kept;"⟩
def dkwX0_turned_1 : List UInt8 := [43, 176]
abbrev dktX0_turned_1 : List UInt8 := dkwX0_turned_1 ++ []
def dkwX0_turned_0 : List UInt8 := [42, 180, 0, 28, 184, 0, 147, 77, 42, 180, 0, 28, 43, 180, 0, 135, 182, 0, 138, 43, 44, 181, 0, 135]
abbrev dktX0_turned_0 : List UInt8 := dkwX0_turned_0 ++ dktX0_turned_1
theorem dksX0_turned_0 : cX0_turned.data.toList.drop 0 = dktX0_turned_0 := by decide +kernel
theorem dksX0_turned_1 : cX0_turned.data.toList.drop 24 = dktX0_turned_1 := dk_seg dksX0_turned_0 24 rfl rfl
theorem dX0_turned_0 : decode cX0_turned 0 = .ok (.aload_n 0, 1) := dk_42 (dk_at dksX0_turned_0 0 rfl rfl)
theorem dX0_turned_1 : decode cX0_turned 1 = .ok (.getfield 28, 3) := dk_180 0 28 (dk_at dksX0_turned_0 1 rfl rfl)
theorem dX0_turned_4 : decode cX0_turned 4 = .ok (.invokestatic 147, 3) := dk_184 0 147 (dk_at dksX0_turned_0 4 rfl rfl)
theorem dX0_turned_7 : decode cX0_turned 7 = .ok (.astore_n 2, 1) := dk_77 (dk_at dksX0_turned_0 7 rfl rfl)
theorem dX0_turned_8 : decode cX0_turned 8 = .ok (.aload_n 0, 1) := dk_42 (dk_at dksX0_turned_0 8 rfl rfl)
theorem dX0_turned_9 : decode cX0_turned 9 = .ok (.getfield 28, 3) := dk_180 0 28 (dk_at dksX0_turned_0 9 rfl rfl)
theorem dX0_turned_12 : decode cX0_turned 12 = .ok (.aload_n 1, 1) := dk_43 (dk_at dksX0_turned_0 12 rfl rfl)
theorem dX0_turned_13 : decode cX0_turned 13 = .ok (.getfield 135, 3) := dk_180 0 135 (dk_at dksX0_turned_0 13 rfl rfl)
theorem dX0_turned_16 : decode cX0_turned 16 = .ok (.invokevirtual 138, 3) := dk_182 0 138 (dk_at dksX0_turned_0 16 rfl rfl)
theorem dX0_turned_19 : decode cX0_turned 19 = .ok (.aload_n 1, 1) := dk_43 (dk_at dksX0_turned_0 19 rfl rfl)
theorem dX0_turned_20 : decode cX0_turned 20 = .ok (.aload_n 2, 1) := dk_44 (dk_at dksX0_turned_0 20 rfl rfl)
theorem dX0_turned_21 : decode cX0_turned 21 = .ok (.putfield 135, 3) := dk_181 0 135 (dk_at dksX0_turned_0 21 rfl rfl)
theorem dX0_turned_24 : decode cX0_turned 24 = .ok (.aload_n 1, 1) := dk_43 (dk_at dksX0_turned_1 0 rfl rfl)
theorem dX0_turned_25 : decode cX0_turned 25 = .ok (.areturn, 1) := dk_176 (dk_at dksX0_turned_1 1 rfl rfl)
abbrev cX0_redo : ByteArray := prog_1_method_24_code
def yX0_redo : MethodName := ⟨RX0, "redo", "()Z"⟩
def dkwX0_redo_1 : List UInt8 := [180, 0, 57, 182, 0, 141, 4, 100, 182, 0, 144, 192, 0, 76, 182, 0, 235, 182, 0, 151, 87, 4, 172]
abbrev dktX0_redo_1 : List UInt8 := dkwX0_redo_1 ++ []
def dkwX0_redo_0 : List UInt8 := [42, 180, 0, 57, 182, 0, 231, 153, 0, 5, 3, 172, 42, 180, 0, 53, 42, 42, 180, 0, 57, 42]
abbrev dktX0_redo_0 : List UInt8 := dkwX0_redo_0 ++ dktX0_redo_1
theorem dksX0_redo_0 : cX0_redo.data.toList.drop 0 = dktX0_redo_0 := by decide +kernel
theorem dksX0_redo_1 : cX0_redo.data.toList.drop 22 = dktX0_redo_1 := dk_seg dksX0_redo_0 22 rfl rfl
theorem dX0_redo_0 : decode cX0_redo 0 = .ok (.aload_n 0, 1) := dk_42 (dk_at dksX0_redo_0 0 rfl rfl)
theorem dX0_redo_1 : decode cX0_redo 1 = .ok (.getfield 57, 3) := dk_180 0 57 (dk_at dksX0_redo_0 1 rfl rfl)
theorem dX0_redo_4 : decode cX0_redo 4 = .ok (.invokevirtual 231, 3) := dk_182 0 231 (dk_at dksX0_redo_0 4 rfl rfl)
theorem dX0_redo_7 : decode cX0_redo 7 = .ok (.ifCond .eq 5, 3) := dk_153 0 5 (dk_at dksX0_redo_0 7 rfl rfl)
theorem dX0_redo_10 : decode cX0_redo 10 = .ok (.iconst 0, 1) := dk_3 (dk_at dksX0_redo_0 10 rfl rfl)
theorem dX0_redo_11 : decode cX0_redo 11 = .ok (.ireturn, 1) := dk_172 (dk_at dksX0_redo_0 11 rfl rfl)
theorem dX0_redo_12 : decode cX0_redo 12 = .ok (.aload_n 0, 1) := dk_42 (dk_at dksX0_redo_0 12 rfl rfl)
theorem dX0_redo_13 : decode cX0_redo 13 = .ok (.getfield 53, 3) := dk_180 0 53 (dk_at dksX0_redo_0 13 rfl rfl)
theorem dX0_redo_16 : decode cX0_redo 16 = .ok (.aload_n 0, 1) := dk_42 (dk_at dksX0_redo_0 16 rfl rfl)
theorem dX0_redo_17 : decode cX0_redo 17 = .ok (.aload_n 0, 1) := dk_42 (dk_at dksX0_redo_0 17 rfl rfl)
theorem dX0_redo_18 : decode cX0_redo 18 = .ok (.getfield 57, 3) := dk_180 0 57 (dk_at dksX0_redo_0 18 rfl rfl)
theorem dX0_redo_21 : decode cX0_redo 21 = .ok (.aload_n 0, 1) := dk_42 (dk_at dksX0_redo_0 21 rfl rfl)
theorem dX0_redo_22 : decode cX0_redo 22 = .ok (.getfield 57, 3) := dk_180 0 57 (dk_at dksX0_redo_1 0 rfl rfl)
theorem dX0_redo_25 : decode cX0_redo 25 = .ok (.invokevirtual 141, 3) := dk_182 0 141 (dk_at dksX0_redo_1 3 rfl rfl)
theorem dX0_redo_28 : decode cX0_redo 28 = .ok (.iconst 1, 1) := dk_4 (dk_at dksX0_redo_1 6 rfl rfl)
theorem dX0_redo_29 : decode cX0_redo 29 = .ok (.isub, 1) := dk_100 (dk_at dksX0_redo_1 7 rfl rfl)
theorem dX0_redo_30 : decode cX0_redo 30 = .ok (.invokevirtual 144, 3) := dk_182 0 144 (dk_at dksX0_redo_1 8 rfl rfl)
theorem dX0_redo_33 : decode cX0_redo 33 = .ok (.checkcast 76, 3) := dk_192 0 76 (dk_at dksX0_redo_1 11 rfl rfl)
theorem dX0_redo_36 : decode cX0_redo 36 = .ok (.invokevirtual 235, 3) := dk_182 0 235 (dk_at dksX0_redo_1 14 rfl rfl)
theorem dX0_redo_39 : decode cX0_redo 39 = .ok (.invokevirtual 151, 3) := dk_182 0 151 (dk_at dksX0_redo_1 17 rfl rfl)
theorem dX0_redo_42 : decode cX0_redo 42 = .ok (.pop, 1) := dk_87 (dk_at dksX0_redo_1 20 rfl rfl)
theorem dX0_redo_43 : decode cX0_redo 43 = .ok (.iconst 1, 1) := dk_4 (dk_at dksX0_redo_1 21 rfl rfl)
theorem dX0_redo_44 : decode cX0_redo 44 = .ok (.ireturn, 1) := dk_172 (dk_at dksX0_redo_1 22 rfl rfl)
abbrev cX0_lies : ByteArray := prog_1_method_25_code
def yX0_lies : MethodName := ⟨RX0, "lies", "(I)I"⟩
def dkwX0_lies_1 : List UInt8 := [16, 254, 172]
abbrev dktX0_lies_1 : List UInt8 := dkwX0_lies_1 ++ []
def dkwX0_lies_0 : List UInt8 := [27, 3, 42, 180, 0, 132, 4, 100, 184, 0, 155, 153, 0, 12, 42, 180, 0, 60, 27, 46, 167, 0, 5]
abbrev dktX0_lies_0 : List UInt8 := dkwX0_lies_0 ++ dktX0_lies_1
theorem dksX0_lies_0 : cX0_lies.data.toList.drop 0 = dktX0_lies_0 := by decide +kernel
theorem dksX0_lies_1 : cX0_lies.data.toList.drop 23 = dktX0_lies_1 := dk_seg dksX0_lies_0 23 rfl rfl
theorem dX0_lies_0 : decode cX0_lies 0 = .ok (.iload_n 1, 1) := dk_27 (dk_at dksX0_lies_0 0 rfl rfl)
theorem dX0_lies_1 : decode cX0_lies 1 = .ok (.iconst 0, 1) := dk_3 (dk_at dksX0_lies_0 1 rfl rfl)
theorem dX0_lies_2 : decode cX0_lies 2 = .ok (.aload_n 0, 1) := dk_42 (dk_at dksX0_lies_0 2 rfl rfl)
theorem dX0_lies_3 : decode cX0_lies 3 = .ok (.getfield 132, 3) := dk_180 0 132 (dk_at dksX0_lies_0 3 rfl rfl)
theorem dX0_lies_6 : decode cX0_lies 6 = .ok (.iconst 1, 1) := dk_4 (dk_at dksX0_lies_0 6 rfl rfl)
theorem dX0_lies_7 : decode cX0_lies 7 = .ok (.isub, 1) := dk_100 (dk_at dksX0_lies_0 7 rfl rfl)
theorem dX0_lies_8 : decode cX0_lies 8 = .ok (.invokestatic 155, 3) := dk_184 0 155 (dk_at dksX0_lies_0 8 rfl rfl)
theorem dX0_lies_11 : decode cX0_lies 11 = .ok (.ifCond .eq 12, 3) := dk_153 0 12 (dk_at dksX0_lies_0 11 rfl rfl)
theorem dX0_lies_14 : decode cX0_lies 14 = .ok (.aload_n 0, 1) := dk_42 (dk_at dksX0_lies_0 14 rfl rfl)
theorem dX0_lies_15 : decode cX0_lies 15 = .ok (.getfield 60, 3) := dk_180 0 60 (dk_at dksX0_lies_0 15 rfl rfl)
theorem dX0_lies_18 : decode cX0_lies 18 = .ok (.iload_n 1, 1) := dk_27 (dk_at dksX0_lies_0 18 rfl rfl)
theorem dX0_lies_19 : decode cX0_lies 19 = .ok (.iaload, 1) := dk_46 (dk_at dksX0_lies_0 19 rfl rfl)
theorem dX0_lies_20 : decode cX0_lies 20 = .ok (.goto 5, 3) := dk_167 0 5 (dk_at dksX0_lies_0 20 rfl rfl)
theorem dX0_lies_23 : decode cX0_lies 23 = .ok (.bipush (-2), 2) := dk_16 254 (dk_at dksX0_lies_1 0 rfl rfl)
theorem dX0_lies_25 : decode cX0_lies 25 = .ok (.ireturn, 1) := dk_172 (dk_at dksX0_lies_1 2 rfl rfl)
abbrev cX0_fewest : ByteArray := prog_1_method_27_code
def yX0_fewest : MethodName := ⟨RX0, "fewest", "(I)I"⟩
def dkwX0_fewest_4 : List UInt8 := [167, 255, 193, 2, 172]
abbrev dktX0_fewest_4 : List UInt8 := dkwX0_fewest_4 ++ []
def dkwX0_fewest_3 : List UInt8 := [180, 0, 28, 180, 0, 88, 27, 46, 182, 0, 248, 42, 180, 0, 132, 158, 0, 5, 28, 172, 132, 2, 1]
abbrev dktX0_fewest_3 : List UInt8 := dkwX0_fewest_3 ++ dktX0_fewest_4
def dkwX0_fewest_2 : List UInt8 := [180, 0, 28, 180, 0, 107, 27, 46, 42, 180, 0, 28, 180, 0, 107, 27, 46, 42, 27, 182, 0, 204, 96, 42]
abbrev dktX0_fewest_2 : List UInt8 := dkwX0_fewest_2 ++ dktX0_fewest_3
def dkwX0_fewest_1 : List UInt8 := [172, 42, 3, 181, 0, 239, 4, 61, 28, 7, 163, 0, 64, 42, 28, 28, 42, 180, 0, 28, 180, 0, 113, 42]
abbrev dktX0_fewest_1 : List UInt8 := dkwX0_fewest_1 ++ dktX0_fewest_2
def dkwX0_fewest_0 : List UInt8 := [42, 3, 181, 0, 132, 42, 27, 182, 0, 188, 154, 0, 5, 2, 172, 42, 27, 182, 0, 204, 154, 0, 5, 3]
abbrev dktX0_fewest_0 : List UInt8 := dkwX0_fewest_0 ++ dktX0_fewest_1
theorem dksX0_fewest_0 : cX0_fewest.data.toList.drop 0 = dktX0_fewest_0 := by decide +kernel
theorem dksX0_fewest_1 : cX0_fewest.data.toList.drop 24 = dktX0_fewest_1 := dk_seg dksX0_fewest_0 24 rfl rfl
theorem dksX0_fewest_2 : cX0_fewest.data.toList.drop 48 = dktX0_fewest_2 := dk_seg dksX0_fewest_1 24 rfl rfl
theorem dksX0_fewest_3 : cX0_fewest.data.toList.drop 72 = dktX0_fewest_3 := dk_seg dksX0_fewest_2 24 rfl rfl
theorem dksX0_fewest_4 : cX0_fewest.data.toList.drop 95 = dktX0_fewest_4 := dk_seg dksX0_fewest_3 23 rfl rfl
theorem dX0_fewest_0 : decode cX0_fewest 0 = .ok (.aload_n 0, 1) := dk_42 (dk_at dksX0_fewest_0 0 rfl rfl)
theorem dX0_fewest_1 : decode cX0_fewest 1 = .ok (.iconst 0, 1) := dk_3 (dk_at dksX0_fewest_0 1 rfl rfl)
theorem dX0_fewest_2 : decode cX0_fewest 2 = .ok (.putfield 132, 3) := dk_181 0 132 (dk_at dksX0_fewest_0 2 rfl rfl)
theorem dX0_fewest_5 : decode cX0_fewest 5 = .ok (.aload_n 0, 1) := dk_42 (dk_at dksX0_fewest_0 5 rfl rfl)
theorem dX0_fewest_6 : decode cX0_fewest 6 = .ok (.iload_n 1, 1) := dk_27 (dk_at dksX0_fewest_0 6 rfl rfl)
theorem dX0_fewest_7 : decode cX0_fewest 7 = .ok (.invokevirtual 188, 3) := dk_182 0 188 (dk_at dksX0_fewest_0 7 rfl rfl)
theorem dX0_fewest_10 : decode cX0_fewest 10 = .ok (.ifCond .ne 5, 3) := dk_154 0 5 (dk_at dksX0_fewest_0 10 rfl rfl)
theorem dX0_fewest_13 : decode cX0_fewest 13 = .ok (.iconst (-1), 1) := dk_2 (dk_at dksX0_fewest_0 13 rfl rfl)
theorem dX0_fewest_14 : decode cX0_fewest 14 = .ok (.ireturn, 1) := dk_172 (dk_at dksX0_fewest_0 14 rfl rfl)
theorem dX0_fewest_15 : decode cX0_fewest 15 = .ok (.aload_n 0, 1) := dk_42 (dk_at dksX0_fewest_0 15 rfl rfl)
theorem dX0_fewest_16 : decode cX0_fewest 16 = .ok (.iload_n 1, 1) := dk_27 (dk_at dksX0_fewest_0 16 rfl rfl)
theorem dX0_fewest_17 : decode cX0_fewest 17 = .ok (.invokevirtual 204, 3) := dk_182 0 204 (dk_at dksX0_fewest_0 17 rfl rfl)
theorem dX0_fewest_20 : decode cX0_fewest 20 = .ok (.ifCond .ne 5, 3) := dk_154 0 5 (dk_at dksX0_fewest_0 20 rfl rfl)
theorem dX0_fewest_23 : decode cX0_fewest 23 = .ok (.iconst 0, 1) := dk_3 (dk_at dksX0_fewest_0 23 rfl rfl)
theorem dX0_fewest_24 : decode cX0_fewest 24 = .ok (.ireturn, 1) := dk_172 (dk_at dksX0_fewest_1 0 rfl rfl)
theorem dX0_fewest_25 : decode cX0_fewest 25 = .ok (.aload_n 0, 1) := dk_42 (dk_at dksX0_fewest_1 1 rfl rfl)
theorem dX0_fewest_26 : decode cX0_fewest 26 = .ok (.iconst 0, 1) := dk_3 (dk_at dksX0_fewest_1 2 rfl rfl)
theorem dX0_fewest_27 : decode cX0_fewest 27 = .ok (.putfield 239, 3) := dk_181 0 239 (dk_at dksX0_fewest_1 3 rfl rfl)
theorem dX0_fewest_30 : decode cX0_fewest 30 = .ok (.iconst 1, 1) := dk_4 (dk_at dksX0_fewest_1 6 rfl rfl)
theorem dX0_fewest_31 : decode cX0_fewest 31 = .ok (.istore_n 2, 1) := dk_61 (dk_at dksX0_fewest_1 7 rfl rfl)
theorem dX0_fewest_32 : decode cX0_fewest 32 = .ok (.iload_n 2, 1) := dk_28 (dk_at dksX0_fewest_1 8 rfl rfl)
theorem dX0_fewest_33 : decode cX0_fewest 33 = .ok (.iconst 4, 1) := dk_7 (dk_at dksX0_fewest_1 9 rfl rfl)
theorem dX0_fewest_34 : decode cX0_fewest 34 = .ok (.if_icmp .gt 64, 3) := dk_163 0 64 (dk_at dksX0_fewest_1 10 rfl rfl)
theorem dX0_fewest_37 : decode cX0_fewest 37 = .ok (.aload_n 0, 1) := dk_42 (dk_at dksX0_fewest_1 13 rfl rfl)
theorem dX0_fewest_38 : decode cX0_fewest 38 = .ok (.iload_n 2, 1) := dk_28 (dk_at dksX0_fewest_1 14 rfl rfl)
theorem dX0_fewest_39 : decode cX0_fewest 39 = .ok (.iload_n 2, 1) := dk_28 (dk_at dksX0_fewest_1 15 rfl rfl)
theorem dX0_fewest_40 : decode cX0_fewest 40 = .ok (.aload_n 0, 1) := dk_42 (dk_at dksX0_fewest_1 16 rfl rfl)
theorem dX0_fewest_41 : decode cX0_fewest 41 = .ok (.getfield 28, 3) := dk_180 0 28 (dk_at dksX0_fewest_1 17 rfl rfl)
theorem dX0_fewest_44 : decode cX0_fewest 44 = .ok (.getfield 113, 3) := dk_180 0 113 (dk_at dksX0_fewest_1 20 rfl rfl)
theorem dX0_fewest_47 : decode cX0_fewest 47 = .ok (.aload_n 0, 1) := dk_42 (dk_at dksX0_fewest_1 23 rfl rfl)
theorem dX0_fewest_48 : decode cX0_fewest 48 = .ok (.getfield 28, 3) := dk_180 0 28 (dk_at dksX0_fewest_2 0 rfl rfl)
theorem dX0_fewest_51 : decode cX0_fewest 51 = .ok (.getfield 107, 3) := dk_180 0 107 (dk_at dksX0_fewest_2 3 rfl rfl)
theorem dX0_fewest_54 : decode cX0_fewest 54 = .ok (.iload_n 1, 1) := dk_27 (dk_at dksX0_fewest_2 6 rfl rfl)
theorem dX0_fewest_55 : decode cX0_fewest 55 = .ok (.iaload, 1) := dk_46 (dk_at dksX0_fewest_2 7 rfl rfl)
theorem dX0_fewest_56 : decode cX0_fewest 56 = .ok (.aload_n 0, 1) := dk_42 (dk_at dksX0_fewest_2 8 rfl rfl)
theorem dX0_fewest_57 : decode cX0_fewest 57 = .ok (.getfield 28, 3) := dk_180 0 28 (dk_at dksX0_fewest_2 9 rfl rfl)
theorem dX0_fewest_60 : decode cX0_fewest 60 = .ok (.getfield 107, 3) := dk_180 0 107 (dk_at dksX0_fewest_2 12 rfl rfl)
theorem dX0_fewest_63 : decode cX0_fewest 63 = .ok (.iload_n 1, 1) := dk_27 (dk_at dksX0_fewest_2 15 rfl rfl)
theorem dX0_fewest_64 : decode cX0_fewest 64 = .ok (.iaload, 1) := dk_46 (dk_at dksX0_fewest_2 16 rfl rfl)
theorem dX0_fewest_65 : decode cX0_fewest 65 = .ok (.aload_n 0, 1) := dk_42 (dk_at dksX0_fewest_2 17 rfl rfl)
theorem dX0_fewest_66 : decode cX0_fewest 66 = .ok (.iload_n 1, 1) := dk_27 (dk_at dksX0_fewest_2 18 rfl rfl)
theorem dX0_fewest_67 : decode cX0_fewest 67 = .ok (.invokevirtual 204, 3) := dk_182 0 204 (dk_at dksX0_fewest_2 19 rfl rfl)
theorem dX0_fewest_70 : decode cX0_fewest 70 = .ok (.iadd, 1) := dk_96 (dk_at dksX0_fewest_2 22 rfl rfl)
theorem dX0_fewest_71 : decode cX0_fewest 71 = .ok (.aload_n 0, 1) := dk_42 (dk_at dksX0_fewest_2 23 rfl rfl)
theorem dX0_fewest_72 : decode cX0_fewest 72 = .ok (.getfield 28, 3) := dk_180 0 28 (dk_at dksX0_fewest_3 0 rfl rfl)
theorem dX0_fewest_75 : decode cX0_fewest 75 = .ok (.getfield 88, 3) := dk_180 0 88 (dk_at dksX0_fewest_3 3 rfl rfl)
theorem dX0_fewest_78 : decode cX0_fewest 78 = .ok (.iload_n 1, 1) := dk_27 (dk_at dksX0_fewest_3 6 rfl rfl)
theorem dX0_fewest_79 : decode cX0_fewest 79 = .ok (.iaload, 1) := dk_46 (dk_at dksX0_fewest_3 7 rfl rfl)
theorem dX0_fewest_80 : decode cX0_fewest 80 = .ok (.invokevirtual 248, 3) := dk_182 0 248 (dk_at dksX0_fewest_3 8 rfl rfl)
theorem dX0_fewest_83 : decode cX0_fewest 83 = .ok (.aload_n 0, 1) := dk_42 (dk_at dksX0_fewest_3 11 rfl rfl)
theorem dX0_fewest_84 : decode cX0_fewest 84 = .ok (.getfield 132, 3) := dk_180 0 132 (dk_at dksX0_fewest_3 12 rfl rfl)
theorem dX0_fewest_87 : decode cX0_fewest 87 = .ok (.ifCond .le 5, 3) := dk_158 0 5 (dk_at dksX0_fewest_3 15 rfl rfl)
theorem dX0_fewest_90 : decode cX0_fewest 90 = .ok (.iload_n 2, 1) := dk_28 (dk_at dksX0_fewest_3 18 rfl rfl)
theorem dX0_fewest_91 : decode cX0_fewest 91 = .ok (.ireturn, 1) := dk_172 (dk_at dksX0_fewest_3 19 rfl rfl)
theorem dX0_fewest_92 : decode cX0_fewest 92 = .ok (.iinc 2 1, 3) := dk_132 2 1 (dk_at dksX0_fewest_3 20 rfl rfl)
theorem dX0_fewest_95 : decode cX0_fewest 95 = .ok (.goto (-63), 3) := dk_167 255 193 (dk_at dksX0_fewest_4 0 rfl rfl)
theorem dX0_fewest_98 : decode cX0_fewest 98 = .ok (.iconst (-1), 1) := dk_2 (dk_at dksX0_fewest_4 3 rfl rfl)
theorem dX0_fewest_99 : decode cX0_fewest 99 = .ok (.ireturn, 1) := dk_172 (dk_at dksX0_fewest_4 4 rfl rfl)
abbrev cX0_goClimb : ByteArray := prog_1_method_26_code
def yX0_goClimb : MethodName := ⟨RX0, "goClimb", "(IIIIII)V"⟩
def dkwX0_goClimb_5 : List UInt8 := [184, 0, 1, 21, 5, 21, 6, 21, 7, 100, 182, 0, 248, 132, 7, 1, 167, 255, 182, 177]
abbrev dktX0_goClimb_5 : List UInt8 := dkwX0_goClimb_5 ++ []
def dkwX0_goClimb_4 : List UInt8 := [17, 39, 15, 21, 4, 42, 180, 0, 19, 42, 180, 0, 28, 21, 7, 3, 3, 29, 182, 0, 220, 96]
abbrev dktX0_goClimb_4 : List UInt8 := dkwX0_goClimb_4 ++ dktX0_goClimb_5
def dkwX0_goClimb_3 : List UInt8 := [163, 0, 63, 42, 180, 0, 64, 27, 28, 100, 21, 7, 79, 42, 27, 28, 4, 100, 29, 21, 7, 96]
abbrev dktX0_goClimb_3 : List UInt8 := dkwX0_goClimb_3 ++ dktX0_goClimb_4
def dkwX0_goClimb_2 : List UInt8 := [27, 184, 0, 242, 177, 4, 54, 7, 21, 7, 42, 180, 0, 19, 180, 0, 208, 21, 6, 184, 0, 1]
abbrev dktX0_goClimb_2 : List UInt8 := dkwX0_goClimb_2 ++ dktX0_goClimb_3
def dkwX0_goClimb_1 : List UInt8 := [161, 0, 4, 177, 42, 29, 181, 0, 239, 42, 27, 181, 0, 132, 42, 180, 0, 64, 3, 42, 180, 0, 60, 3]
abbrev dktX0_goClimb_1 : List UInt8 := dkwX0_goClimb_1 ++ dktX0_goClimb_2
def dkwX0_goClimb_0 : List UInt8 := [28, 154, 0, 52, 21, 4, 21, 5, 161, 0, 19, 42, 180, 0, 132, 27, 160, 0, 12, 29, 42, 180, 0, 239]
abbrev dktX0_goClimb_0 : List UInt8 := dkwX0_goClimb_0 ++ dktX0_goClimb_1
theorem dksX0_goClimb_0 : cX0_goClimb.data.toList.drop 0 = dktX0_goClimb_0 := by decide +kernel
theorem dksX0_goClimb_1 : cX0_goClimb.data.toList.drop 24 = dktX0_goClimb_1 := dk_seg dksX0_goClimb_0 24 rfl rfl
theorem dksX0_goClimb_2 : cX0_goClimb.data.toList.drop 48 = dktX0_goClimb_2 := dk_seg dksX0_goClimb_1 24 rfl rfl
theorem dksX0_goClimb_3 : cX0_goClimb.data.toList.drop 70 = dktX0_goClimb_3 := dk_seg dksX0_goClimb_2 22 rfl rfl
theorem dksX0_goClimb_4 : cX0_goClimb.data.toList.drop 92 = dktX0_goClimb_4 := dk_seg dksX0_goClimb_3 22 rfl rfl
theorem dksX0_goClimb_5 : cX0_goClimb.data.toList.drop 114 = dktX0_goClimb_5 := dk_seg dksX0_goClimb_4 22 rfl rfl
theorem dX0_goClimb_0 : decode cX0_goClimb 0 = .ok (.iload_n 2, 1) := dk_28 (dk_at dksX0_goClimb_0 0 rfl rfl)
theorem dX0_goClimb_1 : decode cX0_goClimb 1 = .ok (.ifCond .ne 52, 3) := dk_154 0 52 (dk_at dksX0_goClimb_0 1 rfl rfl)
theorem dX0_goClimb_4 : decode cX0_goClimb 4 = .ok (.iload 4, 2) := dk_21 4 (dk_at dksX0_goClimb_0 4 rfl rfl)
theorem dX0_goClimb_6 : decode cX0_goClimb 6 = .ok (.iload 5, 2) := dk_21 5 (dk_at dksX0_goClimb_0 6 rfl rfl)
theorem dX0_goClimb_8 : decode cX0_goClimb 8 = .ok (.if_icmp .lt 19, 3) := dk_161 0 19 (dk_at dksX0_goClimb_0 8 rfl rfl)
theorem dX0_goClimb_11 : decode cX0_goClimb 11 = .ok (.aload_n 0, 1) := dk_42 (dk_at dksX0_goClimb_0 11 rfl rfl)
theorem dX0_goClimb_12 : decode cX0_goClimb 12 = .ok (.getfield 132, 3) := dk_180 0 132 (dk_at dksX0_goClimb_0 12 rfl rfl)
theorem dX0_goClimb_15 : decode cX0_goClimb 15 = .ok (.iload_n 1, 1) := dk_27 (dk_at dksX0_goClimb_0 15 rfl rfl)
theorem dX0_goClimb_16 : decode cX0_goClimb 16 = .ok (.if_icmp .ne 12, 3) := dk_160 0 12 (dk_at dksX0_goClimb_0 16 rfl rfl)
theorem dX0_goClimb_19 : decode cX0_goClimb 19 = .ok (.iload_n 3, 1) := dk_29 (dk_at dksX0_goClimb_0 19 rfl rfl)
theorem dX0_goClimb_20 : decode cX0_goClimb 20 = .ok (.aload_n 0, 1) := dk_42 (dk_at dksX0_goClimb_0 20 rfl rfl)
theorem dX0_goClimb_21 : decode cX0_goClimb 21 = .ok (.getfield 239, 3) := dk_180 0 239 (dk_at dksX0_goClimb_0 21 rfl rfl)
theorem dX0_goClimb_24 : decode cX0_goClimb 24 = .ok (.if_icmp .lt 4, 3) := dk_161 0 4 (dk_at dksX0_goClimb_1 0 rfl rfl)
theorem dX0_goClimb_27 : decode cX0_goClimb 27 = .ok (.return_, 1) := dk_177 (dk_at dksX0_goClimb_1 3 rfl rfl)
theorem dX0_goClimb_28 : decode cX0_goClimb 28 = .ok (.aload_n 0, 1) := dk_42 (dk_at dksX0_goClimb_1 4 rfl rfl)
theorem dX0_goClimb_29 : decode cX0_goClimb 29 = .ok (.iload_n 3, 1) := dk_29 (dk_at dksX0_goClimb_1 5 rfl rfl)
theorem dX0_goClimb_30 : decode cX0_goClimb 30 = .ok (.putfield 239, 3) := dk_181 0 239 (dk_at dksX0_goClimb_1 6 rfl rfl)
theorem dX0_goClimb_33 : decode cX0_goClimb 33 = .ok (.aload_n 0, 1) := dk_42 (dk_at dksX0_goClimb_1 9 rfl rfl)
theorem dX0_goClimb_34 : decode cX0_goClimb 34 = .ok (.iload_n 1, 1) := dk_27 (dk_at dksX0_goClimb_1 10 rfl rfl)
theorem dX0_goClimb_35 : decode cX0_goClimb 35 = .ok (.putfield 132, 3) := dk_181 0 132 (dk_at dksX0_goClimb_1 11 rfl rfl)
theorem dX0_goClimb_38 : decode cX0_goClimb 38 = .ok (.aload_n 0, 1) := dk_42 (dk_at dksX0_goClimb_1 14 rfl rfl)
theorem dX0_goClimb_39 : decode cX0_goClimb 39 = .ok (.getfield 64, 3) := dk_180 0 64 (dk_at dksX0_goClimb_1 15 rfl rfl)
theorem dX0_goClimb_42 : decode cX0_goClimb 42 = .ok (.iconst 0, 1) := dk_3 (dk_at dksX0_goClimb_1 18 rfl rfl)
theorem dX0_goClimb_43 : decode cX0_goClimb 43 = .ok (.aload_n 0, 1) := dk_42 (dk_at dksX0_goClimb_1 19 rfl rfl)
theorem dX0_goClimb_44 : decode cX0_goClimb 44 = .ok (.getfield 60, 3) := dk_180 0 60 (dk_at dksX0_goClimb_1 20 rfl rfl)
theorem dX0_goClimb_47 : decode cX0_goClimb 47 = .ok (.iconst 0, 1) := dk_3 (dk_at dksX0_goClimb_1 23 rfl rfl)
theorem dX0_goClimb_48 : decode cX0_goClimb 48 = .ok (.iload_n 1, 1) := dk_27 (dk_at dksX0_goClimb_2 0 rfl rfl)
theorem dX0_goClimb_49 : decode cX0_goClimb 49 = .ok (.invokestatic 242, 3) := dk_184 0 242 (dk_at dksX0_goClimb_2 1 rfl rfl)
theorem dX0_goClimb_52 : decode cX0_goClimb 52 = .ok (.return_, 1) := dk_177 (dk_at dksX0_goClimb_2 4 rfl rfl)
theorem dX0_goClimb_53 : decode cX0_goClimb 53 = .ok (.iconst 1, 1) := dk_4 (dk_at dksX0_goClimb_2 5 rfl rfl)
theorem dX0_goClimb_54 : decode cX0_goClimb 54 = .ok (.istore 7, 2) := dk_54 7 (dk_at dksX0_goClimb_2 6 rfl rfl)
theorem dX0_goClimb_56 : decode cX0_goClimb 56 = .ok (.iload 7, 2) := dk_21 7 (dk_at dksX0_goClimb_2 8 rfl rfl)
theorem dX0_goClimb_58 : decode cX0_goClimb 58 = .ok (.aload_n 0, 1) := dk_42 (dk_at dksX0_goClimb_2 10 rfl rfl)
theorem dX0_goClimb_59 : decode cX0_goClimb 59 = .ok (.getfield 19, 3) := dk_180 0 19 (dk_at dksX0_goClimb_2 11 rfl rfl)
theorem dX0_goClimb_62 : decode cX0_goClimb 62 = .ok (.getfield 208, 3) := dk_180 0 208 (dk_at dksX0_goClimb_2 14 rfl rfl)
theorem dX0_goClimb_65 : decode cX0_goClimb 65 = .ok (.iload 6, 2) := dk_21 6 (dk_at dksX0_goClimb_2 17 rfl rfl)
theorem dX0_goClimb_67 : decode cX0_goClimb 67 = .ok (.invokestatic 1, 3) := dk_184 0 1 (dk_at dksX0_goClimb_2 19 rfl rfl)
theorem dX0_goClimb_70 : decode cX0_goClimb 70 = .ok (.if_icmp .gt 63, 3) := dk_163 0 63 (dk_at dksX0_goClimb_3 0 rfl rfl)
theorem dX0_goClimb_73 : decode cX0_goClimb 73 = .ok (.aload_n 0, 1) := dk_42 (dk_at dksX0_goClimb_3 3 rfl rfl)
theorem dX0_goClimb_74 : decode cX0_goClimb 74 = .ok (.getfield 64, 3) := dk_180 0 64 (dk_at dksX0_goClimb_3 4 rfl rfl)
theorem dX0_goClimb_77 : decode cX0_goClimb 77 = .ok (.iload_n 1, 1) := dk_27 (dk_at dksX0_goClimb_3 7 rfl rfl)
theorem dX0_goClimb_78 : decode cX0_goClimb 78 = .ok (.iload_n 2, 1) := dk_28 (dk_at dksX0_goClimb_3 8 rfl rfl)
theorem dX0_goClimb_79 : decode cX0_goClimb 79 = .ok (.isub, 1) := dk_100 (dk_at dksX0_goClimb_3 9 rfl rfl)
theorem dX0_goClimb_80 : decode cX0_goClimb 80 = .ok (.iload 7, 2) := dk_21 7 (dk_at dksX0_goClimb_3 10 rfl rfl)
theorem dX0_goClimb_82 : decode cX0_goClimb 82 = .ok (.iastore, 1) := dk_79 (dk_at dksX0_goClimb_3 12 rfl rfl)
theorem dX0_goClimb_83 : decode cX0_goClimb 83 = .ok (.aload_n 0, 1) := dk_42 (dk_at dksX0_goClimb_3 13 rfl rfl)
theorem dX0_goClimb_84 : decode cX0_goClimb 84 = .ok (.iload_n 1, 1) := dk_27 (dk_at dksX0_goClimb_3 14 rfl rfl)
theorem dX0_goClimb_85 : decode cX0_goClimb 85 = .ok (.iload_n 2, 1) := dk_28 (dk_at dksX0_goClimb_3 15 rfl rfl)
theorem dX0_goClimb_86 : decode cX0_goClimb 86 = .ok (.iconst 1, 1) := dk_4 (dk_at dksX0_goClimb_3 16 rfl rfl)
theorem dX0_goClimb_87 : decode cX0_goClimb 87 = .ok (.isub, 1) := dk_100 (dk_at dksX0_goClimb_3 17 rfl rfl)
theorem dX0_goClimb_88 : decode cX0_goClimb 88 = .ok (.iload_n 3, 1) := dk_29 (dk_at dksX0_goClimb_3 18 rfl rfl)
theorem dX0_goClimb_89 : decode cX0_goClimb 89 = .ok (.iload 7, 2) := dk_21 7 (dk_at dksX0_goClimb_3 19 rfl rfl)
theorem dX0_goClimb_91 : decode cX0_goClimb 91 = .ok (.iadd, 1) := dk_96 (dk_at dksX0_goClimb_3 21 rfl rfl)
theorem dX0_goClimb_92 : decode cX0_goClimb 92 = .ok (.sipush 9999, 3) := dk_17 39 15 (dk_at dksX0_goClimb_4 0 rfl rfl)
theorem dX0_goClimb_95 : decode cX0_goClimb 95 = .ok (.iload 4, 2) := dk_21 4 (dk_at dksX0_goClimb_4 3 rfl rfl)
theorem dX0_goClimb_97 : decode cX0_goClimb 97 = .ok (.aload_n 0, 1) := dk_42 (dk_at dksX0_goClimb_4 5 rfl rfl)
theorem dX0_goClimb_98 : decode cX0_goClimb 98 = .ok (.getfield 19, 3) := dk_180 0 19 (dk_at dksX0_goClimb_4 6 rfl rfl)
theorem dX0_goClimb_101 : decode cX0_goClimb 101 = .ok (.aload_n 0, 1) := dk_42 (dk_at dksX0_goClimb_4 9 rfl rfl)
theorem dX0_goClimb_102 : decode cX0_goClimb 102 = .ok (.getfield 28, 3) := dk_180 0 28 (dk_at dksX0_goClimb_4 10 rfl rfl)
theorem dX0_goClimb_105 : decode cX0_goClimb 105 = .ok (.iload 7, 2) := dk_21 7 (dk_at dksX0_goClimb_4 13 rfl rfl)
theorem dX0_goClimb_107 : decode cX0_goClimb 107 = .ok (.iconst 0, 1) := dk_3 (dk_at dksX0_goClimb_4 15 rfl rfl)
theorem dX0_goClimb_108 : decode cX0_goClimb 108 = .ok (.iconst 0, 1) := dk_3 (dk_at dksX0_goClimb_4 16 rfl rfl)
theorem dX0_goClimb_109 : decode cX0_goClimb 109 = .ok (.iload_n 3, 1) := dk_29 (dk_at dksX0_goClimb_4 17 rfl rfl)
theorem dX0_goClimb_110 : decode cX0_goClimb 110 = .ok (.invokevirtual 220, 3) := dk_182 0 220 (dk_at dksX0_goClimb_4 18 rfl rfl)
theorem dX0_goClimb_113 : decode cX0_goClimb 113 = .ok (.iadd, 1) := dk_96 (dk_at dksX0_goClimb_4 21 rfl rfl)
theorem dX0_goClimb_114 : decode cX0_goClimb 114 = .ok (.invokestatic 1, 3) := dk_184 0 1 (dk_at dksX0_goClimb_5 0 rfl rfl)
theorem dX0_goClimb_117 : decode cX0_goClimb 117 = .ok (.iload 5, 2) := dk_21 5 (dk_at dksX0_goClimb_5 3 rfl rfl)
theorem dX0_goClimb_119 : decode cX0_goClimb 119 = .ok (.iload 6, 2) := dk_21 6 (dk_at dksX0_goClimb_5 5 rfl rfl)
theorem dX0_goClimb_121 : decode cX0_goClimb 121 = .ok (.iload 7, 2) := dk_21 7 (dk_at dksX0_goClimb_5 7 rfl rfl)
theorem dX0_goClimb_123 : decode cX0_goClimb 123 = .ok (.isub, 1) := dk_100 (dk_at dksX0_goClimb_5 9 rfl rfl)
theorem dX0_goClimb_124 : decode cX0_goClimb 124 = .ok (.invokevirtual 248, 3) := dk_182 0 248 (dk_at dksX0_goClimb_5 10 rfl rfl)
theorem dX0_goClimb_127 : decode cX0_goClimb 127 = .ok (.iinc 7 1, 3) := dk_132 7 1 (dk_at dksX0_goClimb_5 13 rfl rfl)
theorem dX0_goClimb_130 : decode cX0_goClimb 130 = .ok (.goto (-74), 3) := dk_167 255 182 (dk_at dksX0_goClimb_5 16 rfl rfl)
theorem dX0_goClimb_133 : decode cX0_goClimb 133 = .ok (.return_, 1) := dk_177 (dk_at dksX0_goClimb_5 19 rfl rfl)
abbrev cX0_stride : ByteArray := prog_1_method_28_code
def yX0_stride : MethodName := ⟨RX0, "stride", "(II)I"⟩
def dkwX0_stride_4 : List UInt8 := [21, 5, 62, 21, 6, 54, 4, 132, 5, 1, 167, 255, 179, 29, 172]
abbrev dktX0_stride_4 : List UInt8 := dkwX0_stride_4 ++ []
def dkwX0_stride_3 : List UInt8 := [182, 0, 220, 54, 6, 29, 155, 0, 18, 21, 6, 29, 104, 21, 4, 21, 5, 104, 163, 0, 6, 167, 0, 10]
abbrev dktX0_stride_3 : List UInt8 := dkwX0_stride_3 ++ dktX0_stride_4
def dkwX0_stride_2 : List UInt8 := [163, 0, 59, 42, 180, 0, 19, 42, 180, 0, 28, 21, 5, 3, 28, 42, 180, 0, 28, 180, 0, 113]
abbrev dktX0_stride_2 : List UInt8 := dkwX0_stride_2 ++ dktX0_stride_3
def dkwX0_stride_1 : List UInt8 := [4, 54, 5, 21, 5, 42, 180, 0, 19, 180, 0, 208, 42, 180, 0, 28, 180, 0, 88, 27, 46, 184, 0, 1]
abbrev dktX0_stride_1 : List UInt8 := dkwX0_stride_1 ++ dktX0_stride_2
def dkwX0_stride_0 : List UInt8 := [42, 27, 182, 0, 188, 153, 0, 12, 28, 3, 4, 184, 0, 155, 154, 0, 5, 2, 172, 2, 62, 3, 54, 4]
abbrev dktX0_stride_0 : List UInt8 := dkwX0_stride_0 ++ dktX0_stride_1
theorem dksX0_stride_0 : cX0_stride.data.toList.drop 0 = dktX0_stride_0 := by decide +kernel
theorem dksX0_stride_1 : cX0_stride.data.toList.drop 24 = dktX0_stride_1 := dk_seg dksX0_stride_0 24 rfl rfl
theorem dksX0_stride_2 : cX0_stride.data.toList.drop 48 = dktX0_stride_2 := dk_seg dksX0_stride_1 24 rfl rfl
theorem dksX0_stride_3 : cX0_stride.data.toList.drop 70 = dktX0_stride_3 := dk_seg dksX0_stride_2 22 rfl rfl
theorem dksX0_stride_4 : cX0_stride.data.toList.drop 94 = dktX0_stride_4 := dk_seg dksX0_stride_3 24 rfl rfl
theorem dX0_stride_0 : decode cX0_stride 0 = .ok (.aload_n 0, 1) := dk_42 (dk_at dksX0_stride_0 0 rfl rfl)
theorem dX0_stride_1 : decode cX0_stride 1 = .ok (.iload_n 1, 1) := dk_27 (dk_at dksX0_stride_0 1 rfl rfl)
theorem dX0_stride_2 : decode cX0_stride 2 = .ok (.invokevirtual 188, 3) := dk_182 0 188 (dk_at dksX0_stride_0 2 rfl rfl)
theorem dX0_stride_5 : decode cX0_stride 5 = .ok (.ifCond .eq 12, 3) := dk_153 0 12 (dk_at dksX0_stride_0 5 rfl rfl)
theorem dX0_stride_8 : decode cX0_stride 8 = .ok (.iload_n 2, 1) := dk_28 (dk_at dksX0_stride_0 8 rfl rfl)
theorem dX0_stride_9 : decode cX0_stride 9 = .ok (.iconst 0, 1) := dk_3 (dk_at dksX0_stride_0 9 rfl rfl)
theorem dX0_stride_10 : decode cX0_stride 10 = .ok (.iconst 1, 1) := dk_4 (dk_at dksX0_stride_0 10 rfl rfl)
theorem dX0_stride_11 : decode cX0_stride 11 = .ok (.invokestatic 155, 3) := dk_184 0 155 (dk_at dksX0_stride_0 11 rfl rfl)
theorem dX0_stride_14 : decode cX0_stride 14 = .ok (.ifCond .ne 5, 3) := dk_154 0 5 (dk_at dksX0_stride_0 14 rfl rfl)
theorem dX0_stride_17 : decode cX0_stride 17 = .ok (.iconst (-1), 1) := dk_2 (dk_at dksX0_stride_0 17 rfl rfl)
theorem dX0_stride_18 : decode cX0_stride 18 = .ok (.ireturn, 1) := dk_172 (dk_at dksX0_stride_0 18 rfl rfl)
theorem dX0_stride_19 : decode cX0_stride 19 = .ok (.iconst (-1), 1) := dk_2 (dk_at dksX0_stride_0 19 rfl rfl)
theorem dX0_stride_20 : decode cX0_stride 20 = .ok (.istore_n 3, 1) := dk_62 (dk_at dksX0_stride_0 20 rfl rfl)
theorem dX0_stride_21 : decode cX0_stride 21 = .ok (.iconst 0, 1) := dk_3 (dk_at dksX0_stride_0 21 rfl rfl)
theorem dX0_stride_22 : decode cX0_stride 22 = .ok (.istore 4, 2) := dk_54 4 (dk_at dksX0_stride_0 22 rfl rfl)
theorem dX0_stride_24 : decode cX0_stride 24 = .ok (.iconst 1, 1) := dk_4 (dk_at dksX0_stride_1 0 rfl rfl)
theorem dX0_stride_25 : decode cX0_stride 25 = .ok (.istore 5, 2) := dk_54 5 (dk_at dksX0_stride_1 1 rfl rfl)
theorem dX0_stride_27 : decode cX0_stride 27 = .ok (.iload 5, 2) := dk_21 5 (dk_at dksX0_stride_1 3 rfl rfl)
theorem dX0_stride_29 : decode cX0_stride 29 = .ok (.aload_n 0, 1) := dk_42 (dk_at dksX0_stride_1 5 rfl rfl)
theorem dX0_stride_30 : decode cX0_stride 30 = .ok (.getfield 19, 3) := dk_180 0 19 (dk_at dksX0_stride_1 6 rfl rfl)
theorem dX0_stride_33 : decode cX0_stride 33 = .ok (.getfield 208, 3) := dk_180 0 208 (dk_at dksX0_stride_1 9 rfl rfl)
theorem dX0_stride_36 : decode cX0_stride 36 = .ok (.aload_n 0, 1) := dk_42 (dk_at dksX0_stride_1 12 rfl rfl)
theorem dX0_stride_37 : decode cX0_stride 37 = .ok (.getfield 28, 3) := dk_180 0 28 (dk_at dksX0_stride_1 13 rfl rfl)
theorem dX0_stride_40 : decode cX0_stride 40 = .ok (.getfield 88, 3) := dk_180 0 88 (dk_at dksX0_stride_1 16 rfl rfl)
theorem dX0_stride_43 : decode cX0_stride 43 = .ok (.iload_n 1, 1) := dk_27 (dk_at dksX0_stride_1 19 rfl rfl)
theorem dX0_stride_44 : decode cX0_stride 44 = .ok (.iaload, 1) := dk_46 (dk_at dksX0_stride_1 20 rfl rfl)
theorem dX0_stride_45 : decode cX0_stride 45 = .ok (.invokestatic 1, 3) := dk_184 0 1 (dk_at dksX0_stride_1 21 rfl rfl)
theorem dX0_stride_48 : decode cX0_stride 48 = .ok (.if_icmp .gt 59, 3) := dk_163 0 59 (dk_at dksX0_stride_2 0 rfl rfl)
theorem dX0_stride_51 : decode cX0_stride 51 = .ok (.aload_n 0, 1) := dk_42 (dk_at dksX0_stride_2 3 rfl rfl)
theorem dX0_stride_52 : decode cX0_stride 52 = .ok (.getfield 19, 3) := dk_180 0 19 (dk_at dksX0_stride_2 4 rfl rfl)
theorem dX0_stride_55 : decode cX0_stride 55 = .ok (.aload_n 0, 1) := dk_42 (dk_at dksX0_stride_2 7 rfl rfl)
theorem dX0_stride_56 : decode cX0_stride 56 = .ok (.getfield 28, 3) := dk_180 0 28 (dk_at dksX0_stride_2 8 rfl rfl)
theorem dX0_stride_59 : decode cX0_stride 59 = .ok (.iload 5, 2) := dk_21 5 (dk_at dksX0_stride_2 11 rfl rfl)
theorem dX0_stride_61 : decode cX0_stride 61 = .ok (.iconst 0, 1) := dk_3 (dk_at dksX0_stride_2 13 rfl rfl)
theorem dX0_stride_62 : decode cX0_stride 62 = .ok (.iload_n 2, 1) := dk_28 (dk_at dksX0_stride_2 14 rfl rfl)
theorem dX0_stride_63 : decode cX0_stride 63 = .ok (.aload_n 0, 1) := dk_42 (dk_at dksX0_stride_2 15 rfl rfl)
theorem dX0_stride_64 : decode cX0_stride 64 = .ok (.getfield 28, 3) := dk_180 0 28 (dk_at dksX0_stride_2 16 rfl rfl)
theorem dX0_stride_67 : decode cX0_stride 67 = .ok (.getfield 113, 3) := dk_180 0 113 (dk_at dksX0_stride_2 19 rfl rfl)
theorem dX0_stride_70 : decode cX0_stride 70 = .ok (.invokevirtual 220, 3) := dk_182 0 220 (dk_at dksX0_stride_3 0 rfl rfl)
theorem dX0_stride_73 : decode cX0_stride 73 = .ok (.istore 6, 2) := dk_54 6 (dk_at dksX0_stride_3 3 rfl rfl)
theorem dX0_stride_75 : decode cX0_stride 75 = .ok (.iload_n 3, 1) := dk_29 (dk_at dksX0_stride_3 5 rfl rfl)
theorem dX0_stride_76 : decode cX0_stride 76 = .ok (.ifCond .lt 18, 3) := dk_155 0 18 (dk_at dksX0_stride_3 6 rfl rfl)
theorem dX0_stride_79 : decode cX0_stride 79 = .ok (.iload 6, 2) := dk_21 6 (dk_at dksX0_stride_3 9 rfl rfl)
theorem dX0_stride_81 : decode cX0_stride 81 = .ok (.iload_n 3, 1) := dk_29 (dk_at dksX0_stride_3 11 rfl rfl)
theorem dX0_stride_82 : decode cX0_stride 82 = .ok (.imul, 1) := dk_104 (dk_at dksX0_stride_3 12 rfl rfl)
theorem dX0_stride_83 : decode cX0_stride 83 = .ok (.iload 4, 2) := dk_21 4 (dk_at dksX0_stride_3 13 rfl rfl)
theorem dX0_stride_85 : decode cX0_stride 85 = .ok (.iload 5, 2) := dk_21 5 (dk_at dksX0_stride_3 15 rfl rfl)
theorem dX0_stride_87 : decode cX0_stride 87 = .ok (.imul, 1) := dk_104 (dk_at dksX0_stride_3 17 rfl rfl)
theorem dX0_stride_88 : decode cX0_stride 88 = .ok (.if_icmp .gt 6, 3) := dk_163 0 6 (dk_at dksX0_stride_3 18 rfl rfl)
theorem dX0_stride_91 : decode cX0_stride 91 = .ok (.goto 10, 3) := dk_167 0 10 (dk_at dksX0_stride_3 21 rfl rfl)
theorem dX0_stride_94 : decode cX0_stride 94 = .ok (.iload 5, 2) := dk_21 5 (dk_at dksX0_stride_4 0 rfl rfl)
theorem dX0_stride_96 : decode cX0_stride 96 = .ok (.istore_n 3, 1) := dk_62 (dk_at dksX0_stride_4 2 rfl rfl)
theorem dX0_stride_97 : decode cX0_stride 97 = .ok (.iload 6, 2) := dk_21 6 (dk_at dksX0_stride_4 3 rfl rfl)
theorem dX0_stride_99 : decode cX0_stride 99 = .ok (.istore 4, 2) := dk_54 4 (dk_at dksX0_stride_4 5 rfl rfl)
theorem dX0_stride_101 : decode cX0_stride 101 = .ok (.iinc 5 1, 3) := dk_132 5 1 (dk_at dksX0_stride_4 7 rfl rfl)
theorem dX0_stride_104 : decode cX0_stride 104 = .ok (.goto (-77), 3) := dk_167 255 179 (dk_at dksX0_stride_4 10 rfl rfl)
theorem dX0_stride_107 : decode cX0_stride 107 = .ok (.iload_n 3, 1) := dk_29 (dk_at dksX0_stride_4 13 rfl rfl)
theorem dX0_stride_108 : decode cX0_stride 108 = .ok (.ireturn, 1) := dk_172 (dk_at dksX0_stride_4 14 rfl rfl)
abbrev cX0_carries : ByteArray := prog_1_method_29_code
def yX0_carries : MethodName := ⟨RX0, "carries", "(II)I"⟩
def dkwX0_carries_2 : List UInt8 := [184, 0, 1, 172]
abbrev dktX0_carries_2 : List UInt8 := dkwX0_carries_2 ++ []
def dkwX0_carries_1 : List UInt8 := [180, 0, 19, 180, 0, 208, 42, 180, 0, 28, 180, 0, 88, 27, 46, 42, 180, 0, 19, 28, 182, 0, 211, 108]
abbrev dktX0_carries_1 : List UInt8 := dkwX0_carries_1 ++ dktX0_carries_2
def dkwX0_carries_0 : List UInt8 := [42, 27, 182, 0, 188, 153, 0, 16, 42, 28, 182, 0, 188, 153, 0, 8, 27, 28, 160, 0, 5, 2, 172, 42]
abbrev dktX0_carries_0 : List UInt8 := dkwX0_carries_0 ++ dktX0_carries_1
theorem dksX0_carries_0 : cX0_carries.data.toList.drop 0 = dktX0_carries_0 := by decide +kernel
theorem dksX0_carries_1 : cX0_carries.data.toList.drop 24 = dktX0_carries_1 := dk_seg dksX0_carries_0 24 rfl rfl
theorem dksX0_carries_2 : cX0_carries.data.toList.drop 48 = dktX0_carries_2 := dk_seg dksX0_carries_1 24 rfl rfl
theorem dX0_carries_0 : decode cX0_carries 0 = .ok (.aload_n 0, 1) := dk_42 (dk_at dksX0_carries_0 0 rfl rfl)
theorem dX0_carries_1 : decode cX0_carries 1 = .ok (.iload_n 1, 1) := dk_27 (dk_at dksX0_carries_0 1 rfl rfl)
theorem dX0_carries_2 : decode cX0_carries 2 = .ok (.invokevirtual 188, 3) := dk_182 0 188 (dk_at dksX0_carries_0 2 rfl rfl)
theorem dX0_carries_5 : decode cX0_carries 5 = .ok (.ifCond .eq 16, 3) := dk_153 0 16 (dk_at dksX0_carries_0 5 rfl rfl)
theorem dX0_carries_8 : decode cX0_carries 8 = .ok (.aload_n 0, 1) := dk_42 (dk_at dksX0_carries_0 8 rfl rfl)
theorem dX0_carries_9 : decode cX0_carries 9 = .ok (.iload_n 2, 1) := dk_28 (dk_at dksX0_carries_0 9 rfl rfl)
theorem dX0_carries_10 : decode cX0_carries 10 = .ok (.invokevirtual 188, 3) := dk_182 0 188 (dk_at dksX0_carries_0 10 rfl rfl)
theorem dX0_carries_13 : decode cX0_carries 13 = .ok (.ifCond .eq 8, 3) := dk_153 0 8 (dk_at dksX0_carries_0 13 rfl rfl)
theorem dX0_carries_16 : decode cX0_carries 16 = .ok (.iload_n 1, 1) := dk_27 (dk_at dksX0_carries_0 16 rfl rfl)
theorem dX0_carries_17 : decode cX0_carries 17 = .ok (.iload_n 2, 1) := dk_28 (dk_at dksX0_carries_0 17 rfl rfl)
theorem dX0_carries_18 : decode cX0_carries 18 = .ok (.if_icmp .ne 5, 3) := dk_160 0 5 (dk_at dksX0_carries_0 18 rfl rfl)
theorem dX0_carries_21 : decode cX0_carries 21 = .ok (.iconst (-1), 1) := dk_2 (dk_at dksX0_carries_0 21 rfl rfl)
theorem dX0_carries_22 : decode cX0_carries 22 = .ok (.ireturn, 1) := dk_172 (dk_at dksX0_carries_0 22 rfl rfl)
theorem dX0_carries_23 : decode cX0_carries 23 = .ok (.aload_n 0, 1) := dk_42 (dk_at dksX0_carries_0 23 rfl rfl)
theorem dX0_carries_24 : decode cX0_carries 24 = .ok (.getfield 19, 3) := dk_180 0 19 (dk_at dksX0_carries_1 0 rfl rfl)
theorem dX0_carries_27 : decode cX0_carries 27 = .ok (.getfield 208, 3) := dk_180 0 208 (dk_at dksX0_carries_1 3 rfl rfl)
theorem dX0_carries_30 : decode cX0_carries 30 = .ok (.aload_n 0, 1) := dk_42 (dk_at dksX0_carries_1 6 rfl rfl)
theorem dX0_carries_31 : decode cX0_carries 31 = .ok (.getfield 28, 3) := dk_180 0 28 (dk_at dksX0_carries_1 7 rfl rfl)
theorem dX0_carries_34 : decode cX0_carries 34 = .ok (.getfield 88, 3) := dk_180 0 88 (dk_at dksX0_carries_1 10 rfl rfl)
theorem dX0_carries_37 : decode cX0_carries 37 = .ok (.iload_n 1, 1) := dk_27 (dk_at dksX0_carries_1 13 rfl rfl)
theorem dX0_carries_38 : decode cX0_carries 38 = .ok (.iaload, 1) := dk_46 (dk_at dksX0_carries_1 14 rfl rfl)
theorem dX0_carries_39 : decode cX0_carries 39 = .ok (.aload_n 0, 1) := dk_42 (dk_at dksX0_carries_1 15 rfl rfl)
theorem dX0_carries_40 : decode cX0_carries 40 = .ok (.getfield 19, 3) := dk_180 0 19 (dk_at dksX0_carries_1 16 rfl rfl)
theorem dX0_carries_43 : decode cX0_carries 43 = .ok (.iload_n 2, 1) := dk_28 (dk_at dksX0_carries_1 19 rfl rfl)
theorem dX0_carries_44 : decode cX0_carries 44 = .ok (.invokevirtual 211, 3) := dk_182 0 211 (dk_at dksX0_carries_1 20 rfl rfl)
theorem dX0_carries_47 : decode cX0_carries 47 = .ok (.idiv, 1) := dk_108 (dk_at dksX0_carries_1 23 rfl rfl)
theorem dX0_carries_48 : decode cX0_carries 48 = .ok (.invokestatic 1, 3) := dk_184 0 1 (dk_at dksX0_carries_2 0 rfl rfl)
theorem dX0_carries_51 : decode cX0_carries 51 = .ok (.ireturn, 1) := dk_172 (dk_at dksX0_carries_2 3 rfl rfl)
abbrev cX0_care : ByteArray := prog_1_method_32_code
def yX0_care : MethodName := ⟨RX0, "care", "()I"⟩
def dkwX0_care_10 : List UInt8 := [128, 61, 132, 3, 1, 167, 255, 159, 42, 27, 181, 0, 132, 42, 3, 3, 182, 0, 255, 172]
abbrev dktX0_care_10 : List UInt8 := dkwX0_care_10 ++ []
def dkwX0_care_9 : List UInt8 := [21, 4, 27, 162, 0, 8, 21, 4, 167, 0, 4, 2, 79, 21, 4, 27, 162, 0, 10, 28, 4, 21, 4, 120]
abbrev dktX0_care_9 : List UInt8 := dkwX0_care_9 ++ dktX0_care_10
def dkwX0_care_8 : List UInt8 := [182, 0, 255, 96, 42, 29, 28, 182, 0, 255, 162, 0, 9, 132, 4, 1, 167, 255, 204, 42, 180, 0, 60, 29]
abbrev dktX0_care_8 : List UInt8 := dkwX0_care_8 ++ dktX0_care_9
def dkwX0_care_7 : List UInt8 := [154, 0, 37, 42, 21, 4, 29, 182, 1, 6, 153, 0, 27, 4, 42, 29, 4, 96, 28, 4, 21, 4, 120, 128]
abbrev dktX0_care_7 : List UInt8 := dkwX0_care_7 ++ dktX0_care_8
def dkwX0_care_6 : List UInt8 := [3, 61, 3, 62, 29, 27, 162, 0, 98, 3, 54, 4, 21, 4, 27, 162, 0, 52, 28, 21, 4, 184, 1, 2]
abbrev dktX0_care_6 : List UInt8 := dkwX0_care_6 ++ dktX0_care_7
def dkwX0_care_5 : List UInt8 := [180, 0, 67, 28, 16, 8, 120, 29, 128, 21, 4, 79, 132, 3, 1, 167, 255, 167, 132, 2, 255, 167, 255, 155]
abbrev dktX0_care_5 : List UInt8 := dkwX0_care_5 ++ dktX0_care_6
def dkwX0_care_4 : List UInt8 := [96, 29, 4, 21, 5, 120, 128, 182, 0, 255, 96, 184, 0, 7, 54, 4, 132, 5, 1, 167, 255, 206, 42]
abbrev dktX0_care_4 : List UInt8 := dkwX0_care_4 ++ dktX0_care_5
def dkwX0_care_3 : List UInt8 := [21, 5, 184, 1, 2, 154, 0, 35, 42, 21, 5, 28, 182, 1, 6, 153, 0, 25, 21, 4, 4, 42, 28, 4]
abbrev dktX0_care_3 : List UInt8 := dkwX0_care_3 ++ dktX0_care_4
def dkwX0_care_2 : List UInt8 := [162, 0, 88, 42, 28, 4, 96, 29, 182, 0, 255, 54, 4, 3, 54, 5, 21, 5, 27, 162, 0, 50, 29]
abbrev dktX0_care_2 : List UInt8 := dkwX0_care_2 ++ dktX0_care_3
def dkwX0_care_1 : List UInt8 := [3, 79, 132, 2, 1, 167, 255, 234, 27, 4, 100, 61, 28, 155, 0, 103, 3, 62, 29, 4, 27, 120]
abbrev dktX0_care_1 : List UInt8 := dkwX0_care_1 ++ dktX0_care_2
def dkwX0_care_0 : List UInt8 := [42, 182, 0, 91, 60, 3, 61, 28, 4, 27, 120, 162, 0, 21, 42, 180, 0, 67, 27, 16, 8, 120, 28, 128]
abbrev dktX0_care_0 : List UInt8 := dkwX0_care_0 ++ dktX0_care_1
theorem dksX0_care_0 : cX0_care.data.toList.drop 0 = dktX0_care_0 := by decide +kernel
theorem dksX0_care_1 : cX0_care.data.toList.drop 24 = dktX0_care_1 := dk_seg dksX0_care_0 24 rfl rfl
theorem dksX0_care_2 : cX0_care.data.toList.drop 46 = dktX0_care_2 := dk_seg dksX0_care_1 22 rfl rfl
theorem dksX0_care_3 : cX0_care.data.toList.drop 69 = dktX0_care_3 := dk_seg dksX0_care_2 23 rfl rfl
theorem dksX0_care_4 : cX0_care.data.toList.drop 93 = dktX0_care_4 := dk_seg dksX0_care_3 24 rfl rfl
theorem dksX0_care_5 : cX0_care.data.toList.drop 116 = dktX0_care_5 := dk_seg dksX0_care_4 23 rfl rfl
theorem dksX0_care_6 : cX0_care.data.toList.drop 140 = dktX0_care_6 := dk_seg dksX0_care_5 24 rfl rfl
theorem dksX0_care_7 : cX0_care.data.toList.drop 164 = dktX0_care_7 := dk_seg dksX0_care_6 24 rfl rfl
theorem dksX0_care_8 : cX0_care.data.toList.drop 188 = dktX0_care_8 := dk_seg dksX0_care_7 24 rfl rfl
theorem dksX0_care_9 : cX0_care.data.toList.drop 212 = dktX0_care_9 := dk_seg dksX0_care_8 24 rfl rfl
theorem dksX0_care_10 : cX0_care.data.toList.drop 236 = dktX0_care_10 := dk_seg dksX0_care_9 24 rfl rfl
theorem dX0_care_0 : decode cX0_care 0 = .ok (.aload_n 0, 1) := dk_42 (dk_at dksX0_care_0 0 rfl rfl)
theorem dX0_care_1 : decode cX0_care 1 = .ok (.invokevirtual 91, 3) := dk_182 0 91 (dk_at dksX0_care_0 1 rfl rfl)
theorem dX0_care_4 : decode cX0_care 4 = .ok (.istore_n 1, 1) := dk_60 (dk_at dksX0_care_0 4 rfl rfl)
theorem dX0_care_5 : decode cX0_care 5 = .ok (.iconst 0, 1) := dk_3 (dk_at dksX0_care_0 5 rfl rfl)
theorem dX0_care_6 : decode cX0_care 6 = .ok (.istore_n 2, 1) := dk_61 (dk_at dksX0_care_0 6 rfl rfl)
theorem dX0_care_7 : decode cX0_care 7 = .ok (.iload_n 2, 1) := dk_28 (dk_at dksX0_care_0 7 rfl rfl)
theorem dX0_care_8 : decode cX0_care 8 = .ok (.iconst 1, 1) := dk_4 (dk_at dksX0_care_0 8 rfl rfl)
theorem dX0_care_9 : decode cX0_care 9 = .ok (.iload_n 1, 1) := dk_27 (dk_at dksX0_care_0 9 rfl rfl)
theorem dX0_care_10 : decode cX0_care 10 = .ok (.ishl, 1) := dk_120 (dk_at dksX0_care_0 10 rfl rfl)
theorem dX0_care_11 : decode cX0_care 11 = .ok (.if_icmp .ge 21, 3) := dk_162 0 21 (dk_at dksX0_care_0 11 rfl rfl)
theorem dX0_care_14 : decode cX0_care 14 = .ok (.aload_n 0, 1) := dk_42 (dk_at dksX0_care_0 14 rfl rfl)
theorem dX0_care_15 : decode cX0_care 15 = .ok (.getfield 67, 3) := dk_180 0 67 (dk_at dksX0_care_0 15 rfl rfl)
theorem dX0_care_18 : decode cX0_care 18 = .ok (.iload_n 1, 1) := dk_27 (dk_at dksX0_care_0 18 rfl rfl)
theorem dX0_care_19 : decode cX0_care 19 = .ok (.bipush 8, 2) := dk_16 8 (dk_at dksX0_care_0 19 rfl rfl)
theorem dX0_care_21 : decode cX0_care 21 = .ok (.ishl, 1) := dk_120 (dk_at dksX0_care_0 21 rfl rfl)
theorem dX0_care_22 : decode cX0_care 22 = .ok (.iload_n 2, 1) := dk_28 (dk_at dksX0_care_0 22 rfl rfl)
theorem dX0_care_23 : decode cX0_care 23 = .ok (.ior, 1) := dk_128 (dk_at dksX0_care_0 23 rfl rfl)
theorem dX0_care_24 : decode cX0_care 24 = .ok (.iconst 0, 1) := dk_3 (dk_at dksX0_care_1 0 rfl rfl)
theorem dX0_care_25 : decode cX0_care 25 = .ok (.iastore, 1) := dk_79 (dk_at dksX0_care_1 1 rfl rfl)
theorem dX0_care_26 : decode cX0_care 26 = .ok (.iinc 2 1, 3) := dk_132 2 1 (dk_at dksX0_care_1 2 rfl rfl)
theorem dX0_care_29 : decode cX0_care 29 = .ok (.goto (-22), 3) := dk_167 255 234 (dk_at dksX0_care_1 5 rfl rfl)
theorem dX0_care_32 : decode cX0_care 32 = .ok (.iload_n 1, 1) := dk_27 (dk_at dksX0_care_1 8 rfl rfl)
theorem dX0_care_33 : decode cX0_care 33 = .ok (.iconst 1, 1) := dk_4 (dk_at dksX0_care_1 9 rfl rfl)
theorem dX0_care_34 : decode cX0_care 34 = .ok (.isub, 1) := dk_100 (dk_at dksX0_care_1 10 rfl rfl)
theorem dX0_care_35 : decode cX0_care 35 = .ok (.istore_n 2, 1) := dk_61 (dk_at dksX0_care_1 11 rfl rfl)
theorem dX0_care_36 : decode cX0_care 36 = .ok (.iload_n 2, 1) := dk_28 (dk_at dksX0_care_1 12 rfl rfl)
theorem dX0_care_37 : decode cX0_care 37 = .ok (.ifCond .lt 103, 3) := dk_155 0 103 (dk_at dksX0_care_1 13 rfl rfl)
theorem dX0_care_40 : decode cX0_care 40 = .ok (.iconst 0, 1) := dk_3 (dk_at dksX0_care_1 16 rfl rfl)
theorem dX0_care_41 : decode cX0_care 41 = .ok (.istore_n 3, 1) := dk_62 (dk_at dksX0_care_1 17 rfl rfl)
theorem dX0_care_42 : decode cX0_care 42 = .ok (.iload_n 3, 1) := dk_29 (dk_at dksX0_care_1 18 rfl rfl)
theorem dX0_care_43 : decode cX0_care 43 = .ok (.iconst 1, 1) := dk_4 (dk_at dksX0_care_1 19 rfl rfl)
theorem dX0_care_44 : decode cX0_care 44 = .ok (.iload_n 1, 1) := dk_27 (dk_at dksX0_care_1 20 rfl rfl)
theorem dX0_care_45 : decode cX0_care 45 = .ok (.ishl, 1) := dk_120 (dk_at dksX0_care_1 21 rfl rfl)
theorem dX0_care_46 : decode cX0_care 46 = .ok (.if_icmp .ge 88, 3) := dk_162 0 88 (dk_at dksX0_care_2 0 rfl rfl)
theorem dX0_care_49 : decode cX0_care 49 = .ok (.aload_n 0, 1) := dk_42 (dk_at dksX0_care_2 3 rfl rfl)
theorem dX0_care_50 : decode cX0_care 50 = .ok (.iload_n 2, 1) := dk_28 (dk_at dksX0_care_2 4 rfl rfl)
theorem dX0_care_51 : decode cX0_care 51 = .ok (.iconst 1, 1) := dk_4 (dk_at dksX0_care_2 5 rfl rfl)
theorem dX0_care_52 : decode cX0_care 52 = .ok (.iadd, 1) := dk_96 (dk_at dksX0_care_2 6 rfl rfl)
theorem dX0_care_53 : decode cX0_care 53 = .ok (.iload_n 3, 1) := dk_29 (dk_at dksX0_care_2 7 rfl rfl)
theorem dX0_care_54 : decode cX0_care 54 = .ok (.invokevirtual 255, 3) := dk_182 0 255 (dk_at dksX0_care_2 8 rfl rfl)
theorem dX0_care_57 : decode cX0_care 57 = .ok (.istore 4, 2) := dk_54 4 (dk_at dksX0_care_2 11 rfl rfl)
theorem dX0_care_59 : decode cX0_care 59 = .ok (.iconst 0, 1) := dk_3 (dk_at dksX0_care_2 13 rfl rfl)
theorem dX0_care_60 : decode cX0_care 60 = .ok (.istore 5, 2) := dk_54 5 (dk_at dksX0_care_2 14 rfl rfl)
theorem dX0_care_62 : decode cX0_care 62 = .ok (.iload 5, 2) := dk_21 5 (dk_at dksX0_care_2 16 rfl rfl)
theorem dX0_care_64 : decode cX0_care 64 = .ok (.iload_n 1, 1) := dk_27 (dk_at dksX0_care_2 18 rfl rfl)
theorem dX0_care_65 : decode cX0_care 65 = .ok (.if_icmp .ge 50, 3) := dk_162 0 50 (dk_at dksX0_care_2 19 rfl rfl)
theorem dX0_care_68 : decode cX0_care 68 = .ok (.iload_n 3, 1) := dk_29 (dk_at dksX0_care_2 22 rfl rfl)
theorem dX0_care_69 : decode cX0_care 69 = .ok (.iload 5, 2) := dk_21 5 (dk_at dksX0_care_3 0 rfl rfl)
theorem dX0_care_71 : decode cX0_care 71 = .ok (.invokestatic 258, 3) := dk_184 1 2 (dk_at dksX0_care_3 2 rfl rfl)
theorem dX0_care_74 : decode cX0_care 74 = .ok (.ifCond .ne 35, 3) := dk_154 0 35 (dk_at dksX0_care_3 5 rfl rfl)
theorem dX0_care_77 : decode cX0_care 77 = .ok (.aload_n 0, 1) := dk_42 (dk_at dksX0_care_3 8 rfl rfl)
theorem dX0_care_78 : decode cX0_care 78 = .ok (.iload 5, 2) := dk_21 5 (dk_at dksX0_care_3 9 rfl rfl)
theorem dX0_care_80 : decode cX0_care 80 = .ok (.iload_n 2, 1) := dk_28 (dk_at dksX0_care_3 11 rfl rfl)
theorem dX0_care_81 : decode cX0_care 81 = .ok (.invokevirtual 262, 3) := dk_182 1 6 (dk_at dksX0_care_3 12 rfl rfl)
theorem dX0_care_84 : decode cX0_care 84 = .ok (.ifCond .eq 25, 3) := dk_153 0 25 (dk_at dksX0_care_3 15 rfl rfl)
theorem dX0_care_87 : decode cX0_care 87 = .ok (.iload 4, 2) := dk_21 4 (dk_at dksX0_care_3 18 rfl rfl)
theorem dX0_care_89 : decode cX0_care 89 = .ok (.iconst 1, 1) := dk_4 (dk_at dksX0_care_3 20 rfl rfl)
theorem dX0_care_90 : decode cX0_care 90 = .ok (.aload_n 0, 1) := dk_42 (dk_at dksX0_care_3 21 rfl rfl)
theorem dX0_care_91 : decode cX0_care 91 = .ok (.iload_n 2, 1) := dk_28 (dk_at dksX0_care_3 22 rfl rfl)
theorem dX0_care_92 : decode cX0_care 92 = .ok (.iconst 1, 1) := dk_4 (dk_at dksX0_care_3 23 rfl rfl)
theorem dX0_care_93 : decode cX0_care 93 = .ok (.iadd, 1) := dk_96 (dk_at dksX0_care_4 0 rfl rfl)
theorem dX0_care_94 : decode cX0_care 94 = .ok (.iload_n 3, 1) := dk_29 (dk_at dksX0_care_4 1 rfl rfl)
theorem dX0_care_95 : decode cX0_care 95 = .ok (.iconst 1, 1) := dk_4 (dk_at dksX0_care_4 2 rfl rfl)
theorem dX0_care_96 : decode cX0_care 96 = .ok (.iload 5, 2) := dk_21 5 (dk_at dksX0_care_4 3 rfl rfl)
theorem dX0_care_98 : decode cX0_care 98 = .ok (.ishl, 1) := dk_120 (dk_at dksX0_care_4 5 rfl rfl)
theorem dX0_care_99 : decode cX0_care 99 = .ok (.ior, 1) := dk_128 (dk_at dksX0_care_4 6 rfl rfl)
theorem dX0_care_100 : decode cX0_care 100 = .ok (.invokevirtual 255, 3) := dk_182 0 255 (dk_at dksX0_care_4 7 rfl rfl)
theorem dX0_care_103 : decode cX0_care 103 = .ok (.iadd, 1) := dk_96 (dk_at dksX0_care_4 10 rfl rfl)
theorem dX0_care_104 : decode cX0_care 104 = .ok (.invokestatic 7, 3) := dk_184 0 7 (dk_at dksX0_care_4 11 rfl rfl)
theorem dX0_care_107 : decode cX0_care 107 = .ok (.istore 4, 2) := dk_54 4 (dk_at dksX0_care_4 14 rfl rfl)
theorem dX0_care_109 : decode cX0_care 109 = .ok (.iinc 5 1, 3) := dk_132 5 1 (dk_at dksX0_care_4 16 rfl rfl)
theorem dX0_care_112 : decode cX0_care 112 = .ok (.goto (-50), 3) := dk_167 255 206 (dk_at dksX0_care_4 19 rfl rfl)
theorem dX0_care_115 : decode cX0_care 115 = .ok (.aload_n 0, 1) := dk_42 (dk_at dksX0_care_4 22 rfl rfl)
theorem dX0_care_116 : decode cX0_care 116 = .ok (.getfield 67, 3) := dk_180 0 67 (dk_at dksX0_care_5 0 rfl rfl)
theorem dX0_care_119 : decode cX0_care 119 = .ok (.iload_n 2, 1) := dk_28 (dk_at dksX0_care_5 3 rfl rfl)
theorem dX0_care_120 : decode cX0_care 120 = .ok (.bipush 8, 2) := dk_16 8 (dk_at dksX0_care_5 4 rfl rfl)
theorem dX0_care_122 : decode cX0_care 122 = .ok (.ishl, 1) := dk_120 (dk_at dksX0_care_5 6 rfl rfl)
theorem dX0_care_123 : decode cX0_care 123 = .ok (.iload_n 3, 1) := dk_29 (dk_at dksX0_care_5 7 rfl rfl)
theorem dX0_care_124 : decode cX0_care 124 = .ok (.ior, 1) := dk_128 (dk_at dksX0_care_5 8 rfl rfl)
theorem dX0_care_125 : decode cX0_care 125 = .ok (.iload 4, 2) := dk_21 4 (dk_at dksX0_care_5 9 rfl rfl)
theorem dX0_care_127 : decode cX0_care 127 = .ok (.iastore, 1) := dk_79 (dk_at dksX0_care_5 11 rfl rfl)
theorem dX0_care_128 : decode cX0_care 128 = .ok (.iinc 3 1, 3) := dk_132 3 1 (dk_at dksX0_care_5 12 rfl rfl)
theorem dX0_care_131 : decode cX0_care 131 = .ok (.goto (-89), 3) := dk_167 255 167 (dk_at dksX0_care_5 15 rfl rfl)
theorem dX0_care_134 : decode cX0_care 134 = .ok (.iinc 2 (-1), 3) := dk_132 2 255 (dk_at dksX0_care_5 18 rfl rfl)
theorem dX0_care_137 : decode cX0_care 137 = .ok (.goto (-101), 3) := dk_167 255 155 (dk_at dksX0_care_5 21 rfl rfl)
theorem dX0_care_140 : decode cX0_care 140 = .ok (.iconst 0, 1) := dk_3 (dk_at dksX0_care_6 0 rfl rfl)
theorem dX0_care_141 : decode cX0_care 141 = .ok (.istore_n 2, 1) := dk_61 (dk_at dksX0_care_6 1 rfl rfl)
theorem dX0_care_142 : decode cX0_care 142 = .ok (.iconst 0, 1) := dk_3 (dk_at dksX0_care_6 2 rfl rfl)
theorem dX0_care_143 : decode cX0_care 143 = .ok (.istore_n 3, 1) := dk_62 (dk_at dksX0_care_6 3 rfl rfl)
theorem dX0_care_144 : decode cX0_care 144 = .ok (.iload_n 3, 1) := dk_29 (dk_at dksX0_care_6 4 rfl rfl)
theorem dX0_care_145 : decode cX0_care 145 = .ok (.iload_n 1, 1) := dk_27 (dk_at dksX0_care_6 5 rfl rfl)
theorem dX0_care_146 : decode cX0_care 146 = .ok (.if_icmp .ge 98, 3) := dk_162 0 98 (dk_at dksX0_care_6 6 rfl rfl)
theorem dX0_care_149 : decode cX0_care 149 = .ok (.iconst 0, 1) := dk_3 (dk_at dksX0_care_6 9 rfl rfl)
theorem dX0_care_150 : decode cX0_care 150 = .ok (.istore 4, 2) := dk_54 4 (dk_at dksX0_care_6 10 rfl rfl)
theorem dX0_care_152 : decode cX0_care 152 = .ok (.iload 4, 2) := dk_21 4 (dk_at dksX0_care_6 12 rfl rfl)
theorem dX0_care_154 : decode cX0_care 154 = .ok (.iload_n 1, 1) := dk_27 (dk_at dksX0_care_6 14 rfl rfl)
theorem dX0_care_155 : decode cX0_care 155 = .ok (.if_icmp .ge 52, 3) := dk_162 0 52 (dk_at dksX0_care_6 15 rfl rfl)
theorem dX0_care_158 : decode cX0_care 158 = .ok (.iload_n 2, 1) := dk_28 (dk_at dksX0_care_6 18 rfl rfl)
theorem dX0_care_159 : decode cX0_care 159 = .ok (.iload 4, 2) := dk_21 4 (dk_at dksX0_care_6 19 rfl rfl)
theorem dX0_care_161 : decode cX0_care 161 = .ok (.invokestatic 258, 3) := dk_184 1 2 (dk_at dksX0_care_6 21 rfl rfl)
theorem dX0_care_164 : decode cX0_care 164 = .ok (.ifCond .ne 37, 3) := dk_154 0 37 (dk_at dksX0_care_7 0 rfl rfl)
theorem dX0_care_167 : decode cX0_care 167 = .ok (.aload_n 0, 1) := dk_42 (dk_at dksX0_care_7 3 rfl rfl)
theorem dX0_care_168 : decode cX0_care 168 = .ok (.iload 4, 2) := dk_21 4 (dk_at dksX0_care_7 4 rfl rfl)
theorem dX0_care_170 : decode cX0_care 170 = .ok (.iload_n 3, 1) := dk_29 (dk_at dksX0_care_7 6 rfl rfl)
theorem dX0_care_171 : decode cX0_care 171 = .ok (.invokevirtual 262, 3) := dk_182 1 6 (dk_at dksX0_care_7 7 rfl rfl)
theorem dX0_care_174 : decode cX0_care 174 = .ok (.ifCond .eq 27, 3) := dk_153 0 27 (dk_at dksX0_care_7 10 rfl rfl)
theorem dX0_care_177 : decode cX0_care 177 = .ok (.iconst 1, 1) := dk_4 (dk_at dksX0_care_7 13 rfl rfl)
theorem dX0_care_178 : decode cX0_care 178 = .ok (.aload_n 0, 1) := dk_42 (dk_at dksX0_care_7 14 rfl rfl)
theorem dX0_care_179 : decode cX0_care 179 = .ok (.iload_n 3, 1) := dk_29 (dk_at dksX0_care_7 15 rfl rfl)
theorem dX0_care_180 : decode cX0_care 180 = .ok (.iconst 1, 1) := dk_4 (dk_at dksX0_care_7 16 rfl rfl)
theorem dX0_care_181 : decode cX0_care 181 = .ok (.iadd, 1) := dk_96 (dk_at dksX0_care_7 17 rfl rfl)
theorem dX0_care_182 : decode cX0_care 182 = .ok (.iload_n 2, 1) := dk_28 (dk_at dksX0_care_7 18 rfl rfl)
theorem dX0_care_183 : decode cX0_care 183 = .ok (.iconst 1, 1) := dk_4 (dk_at dksX0_care_7 19 rfl rfl)
theorem dX0_care_184 : decode cX0_care 184 = .ok (.iload 4, 2) := dk_21 4 (dk_at dksX0_care_7 20 rfl rfl)
theorem dX0_care_186 : decode cX0_care 186 = .ok (.ishl, 1) := dk_120 (dk_at dksX0_care_7 22 rfl rfl)
theorem dX0_care_187 : decode cX0_care 187 = .ok (.ior, 1) := dk_128 (dk_at dksX0_care_7 23 rfl rfl)
theorem dX0_care_188 : decode cX0_care 188 = .ok (.invokevirtual 255, 3) := dk_182 0 255 (dk_at dksX0_care_8 0 rfl rfl)
theorem dX0_care_191 : decode cX0_care 191 = .ok (.iadd, 1) := dk_96 (dk_at dksX0_care_8 3 rfl rfl)
theorem dX0_care_192 : decode cX0_care 192 = .ok (.aload_n 0, 1) := dk_42 (dk_at dksX0_care_8 4 rfl rfl)
theorem dX0_care_193 : decode cX0_care 193 = .ok (.iload_n 3, 1) := dk_29 (dk_at dksX0_care_8 5 rfl rfl)
theorem dX0_care_194 : decode cX0_care 194 = .ok (.iload_n 2, 1) := dk_28 (dk_at dksX0_care_8 6 rfl rfl)
theorem dX0_care_195 : decode cX0_care 195 = .ok (.invokevirtual 255, 3) := dk_182 0 255 (dk_at dksX0_care_8 7 rfl rfl)
theorem dX0_care_198 : decode cX0_care 198 = .ok (.if_icmp .ge 9, 3) := dk_162 0 9 (dk_at dksX0_care_8 10 rfl rfl)
theorem dX0_care_201 : decode cX0_care 201 = .ok (.iinc 4 1, 3) := dk_132 4 1 (dk_at dksX0_care_8 13 rfl rfl)
theorem dX0_care_204 : decode cX0_care 204 = .ok (.goto (-52), 3) := dk_167 255 204 (dk_at dksX0_care_8 16 rfl rfl)
theorem dX0_care_207 : decode cX0_care 207 = .ok (.aload_n 0, 1) := dk_42 (dk_at dksX0_care_8 19 rfl rfl)
theorem dX0_care_208 : decode cX0_care 208 = .ok (.getfield 60, 3) := dk_180 0 60 (dk_at dksX0_care_8 20 rfl rfl)
theorem dX0_care_211 : decode cX0_care 211 = .ok (.iload_n 3, 1) := dk_29 (dk_at dksX0_care_8 23 rfl rfl)
theorem dX0_care_212 : decode cX0_care 212 = .ok (.iload 4, 2) := dk_21 4 (dk_at dksX0_care_9 0 rfl rfl)
theorem dX0_care_214 : decode cX0_care 214 = .ok (.iload_n 1, 1) := dk_27 (dk_at dksX0_care_9 2 rfl rfl)
theorem dX0_care_215 : decode cX0_care 215 = .ok (.if_icmp .ge 8, 3) := dk_162 0 8 (dk_at dksX0_care_9 3 rfl rfl)
theorem dX0_care_218 : decode cX0_care 218 = .ok (.iload 4, 2) := dk_21 4 (dk_at dksX0_care_9 6 rfl rfl)
theorem dX0_care_220 : decode cX0_care 220 = .ok (.goto 4, 3) := dk_167 0 4 (dk_at dksX0_care_9 8 rfl rfl)
theorem dX0_care_223 : decode cX0_care 223 = .ok (.iconst (-1), 1) := dk_2 (dk_at dksX0_care_9 11 rfl rfl)
theorem dX0_care_224 : decode cX0_care 224 = .ok (.iastore, 1) := dk_79 (dk_at dksX0_care_9 12 rfl rfl)
theorem dX0_care_225 : decode cX0_care 225 = .ok (.iload 4, 2) := dk_21 4 (dk_at dksX0_care_9 13 rfl rfl)
theorem dX0_care_227 : decode cX0_care 227 = .ok (.iload_n 1, 1) := dk_27 (dk_at dksX0_care_9 15 rfl rfl)
theorem dX0_care_228 : decode cX0_care 228 = .ok (.if_icmp .ge 10, 3) := dk_162 0 10 (dk_at dksX0_care_9 16 rfl rfl)
theorem dX0_care_231 : decode cX0_care 231 = .ok (.iload_n 2, 1) := dk_28 (dk_at dksX0_care_9 19 rfl rfl)
theorem dX0_care_232 : decode cX0_care 232 = .ok (.iconst 1, 1) := dk_4 (dk_at dksX0_care_9 20 rfl rfl)
theorem dX0_care_233 : decode cX0_care 233 = .ok (.iload 4, 2) := dk_21 4 (dk_at dksX0_care_9 21 rfl rfl)
theorem dX0_care_235 : decode cX0_care 235 = .ok (.ishl, 1) := dk_120 (dk_at dksX0_care_9 23 rfl rfl)
theorem dX0_care_236 : decode cX0_care 236 = .ok (.ior, 1) := dk_128 (dk_at dksX0_care_10 0 rfl rfl)
theorem dX0_care_237 : decode cX0_care 237 = .ok (.istore_n 2, 1) := dk_61 (dk_at dksX0_care_10 1 rfl rfl)
theorem dX0_care_238 : decode cX0_care 238 = .ok (.iinc 3 1, 3) := dk_132 3 1 (dk_at dksX0_care_10 2 rfl rfl)
theorem dX0_care_241 : decode cX0_care 241 = .ok (.goto (-97), 3) := dk_167 255 159 (dk_at dksX0_care_10 5 rfl rfl)
theorem dX0_care_244 : decode cX0_care 244 = .ok (.aload_n 0, 1) := dk_42 (dk_at dksX0_care_10 8 rfl rfl)
theorem dX0_care_245 : decode cX0_care 245 = .ok (.iload_n 1, 1) := dk_27 (dk_at dksX0_care_10 9 rfl rfl)
theorem dX0_care_246 : decode cX0_care 246 = .ok (.putfield 132, 3) := dk_181 0 132 (dk_at dksX0_care_10 10 rfl rfl)
theorem dX0_care_249 : decode cX0_care 249 = .ok (.aload_n 0, 1) := dk_42 (dk_at dksX0_care_10 13 rfl rfl)
theorem dX0_care_250 : decode cX0_care 250 = .ok (.iconst 0, 1) := dk_3 (dk_at dksX0_care_10 14 rfl rfl)
theorem dX0_care_251 : decode cX0_care 251 = .ok (.iconst 0, 1) := dk_3 (dk_at dksX0_care_10 15 rfl rfl)
theorem dX0_care_252 : decode cX0_care 252 = .ok (.invokevirtual 255, 3) := dk_182 0 255 (dk_at dksX0_care_10 16 rfl rfl)
theorem dX0_care_255 : decode cX0_care 255 = .ok (.ireturn, 1) := dk_172 (dk_at dksX0_care_10 19 rfl rfl)
abbrev cX0_caredFrom : ByteArray := prog_1_method_31_code
def yX0_caredFrom : MethodName := ⟨RX0, "caredFrom", "(II)I"⟩
def dkwX0_caredFrom_0 : List UInt8 := [42, 180, 0, 67, 27, 16, 8, 120, 28, 128, 46, 172]
abbrev dktX0_caredFrom_0 : List UInt8 := dkwX0_caredFrom_0 ++ []
theorem dksX0_caredFrom_0 : cX0_caredFrom.data.toList.drop 0 = dktX0_caredFrom_0 := by decide +kernel
theorem dX0_caredFrom_0 : decode cX0_caredFrom 0 = .ok (.aload_n 0, 1) := dk_42 (dk_at dksX0_caredFrom_0 0 rfl rfl)
theorem dX0_caredFrom_1 : decode cX0_caredFrom 1 = .ok (.getfield 67, 3) := dk_180 0 67 (dk_at dksX0_caredFrom_0 1 rfl rfl)
theorem dX0_caredFrom_4 : decode cX0_caredFrom 4 = .ok (.iload_n 1, 1) := dk_27 (dk_at dksX0_caredFrom_0 4 rfl rfl)
theorem dX0_caredFrom_5 : decode cX0_caredFrom 5 = .ok (.bipush 8, 2) := dk_16 8 (dk_at dksX0_caredFrom_0 5 rfl rfl)
theorem dX0_caredFrom_7 : decode cX0_caredFrom 7 = .ok (.ishl, 1) := dk_120 (dk_at dksX0_caredFrom_0 7 rfl rfl)
theorem dX0_caredFrom_8 : decode cX0_caredFrom 8 = .ok (.iload_n 2, 1) := dk_28 (dk_at dksX0_caredFrom_0 8 rfl rfl)
theorem dX0_caredFrom_9 : decode cX0_caredFrom 9 = .ok (.ior, 1) := dk_128 (dk_at dksX0_caredFrom_0 9 rfl rfl)
theorem dX0_caredFrom_10 : decode cX0_caredFrom 10 = .ok (.iaload, 1) := dk_46 (dk_at dksX0_caredFrom_0 10 rfl rfl)
theorem dX0_caredFrom_11 : decode cX0_caredFrom 11 = .ok (.ireturn, 1) := dk_172 (dk_at dksX0_caredFrom_0 11 rfl rfl)
abbrev cX0_has : ByteArray := prog_1_method_3_code
def yX0_has : MethodName := ⟨RX0, "has", "(II)Z"⟩
def dkwX0_has_0 : List UInt8 := [26, 27, 122, 4, 126, 4, 160, 0, 7, 4, 167, 0, 4, 3, 172]
abbrev dktX0_has_0 : List UInt8 := dkwX0_has_0 ++ []
theorem dksX0_has_0 : cX0_has.data.toList.drop 0 = dktX0_has_0 := by decide +kernel
theorem dX0_has_0 : decode cX0_has 0 = .ok (.iload_n 0, 1) := dk_26 (dk_at dksX0_has_0 0 rfl rfl)
theorem dX0_has_1 : decode cX0_has 1 = .ok (.iload_n 1, 1) := dk_27 (dk_at dksX0_has_0 1 rfl rfl)
theorem dX0_has_2 : decode cX0_has 2 = .ok (.ishr, 1) := dk_122 (dk_at dksX0_has_0 2 rfl rfl)
theorem dX0_has_3 : decode cX0_has 3 = .ok (.iconst 1, 1) := dk_4 (dk_at dksX0_has_0 3 rfl rfl)
theorem dX0_has_4 : decode cX0_has 4 = .ok (.iand, 1) := dk_126 (dk_at dksX0_has_0 4 rfl rfl)
theorem dX0_has_5 : decode cX0_has 5 = .ok (.iconst 1, 1) := dk_4 (dk_at dksX0_has_0 5 rfl rfl)
theorem dX0_has_6 : decode cX0_has 6 = .ok (.if_icmp .ne 7, 3) := dk_160 0 7 (dk_at dksX0_has_0 6 rfl rfl)
theorem dX0_has_9 : decode cX0_has 9 = .ok (.iconst 1, 1) := dk_4 (dk_at dksX0_has_0 9 rfl rfl)
theorem dX0_has_10 : decode cX0_has 10 = .ok (.goto 4, 3) := dk_167 0 4 (dk_at dksX0_has_0 10 rfl rfl)
theorem dX0_has_13 : decode cX0_has 13 = .ok (.iconst 0, 1) := dk_3 (dk_at dksX0_has_0 13 rfl rfl)
theorem dX0_has_14 : decode cX0_has 14 = .ok (.ireturn, 1) := dk_172 (dk_at dksX0_has_0 14 rfl rfl)
abbrev cX0_canCare : ByteArray := prog_1_method_30_code
def yX0_canCare : MethodName := ⟨RX0, "canCare", "(II)Z"⟩
def dkwX0_canCare_2 : List UInt8 := [167, 0, 4, 3, 172]
abbrev dktX0_canCare_2 : List UInt8 := dkwX0_canCare_2 ++ []
def dkwX0_canCare_1 : List UInt8 := [182, 0, 252, 42, 180, 0, 19, 180, 0, 95, 28, 182, 0, 98, 192, 0, 102, 180, 0, 192, 161, 0, 7, 4]
abbrev dktX0_canCare_1 : List UInt8 := dkwX0_canCare_1 ++ dktX0_canCare_2
def dkwX0_canCare_0 : List UInt8 := [42, 180, 0, 19, 180, 0, 95, 28, 182, 0, 98, 192, 0, 102, 180, 0, 192, 158, 0, 33, 42, 27, 28]
abbrev dktX0_canCare_0 : List UInt8 := dkwX0_canCare_0 ++ dktX0_canCare_1
theorem dksX0_canCare_0 : cX0_canCare.data.toList.drop 0 = dktX0_canCare_0 := by decide +kernel
theorem dksX0_canCare_1 : cX0_canCare.data.toList.drop 23 = dktX0_canCare_1 := dk_seg dksX0_canCare_0 23 rfl rfl
theorem dksX0_canCare_2 : cX0_canCare.data.toList.drop 47 = dktX0_canCare_2 := dk_seg dksX0_canCare_1 24 rfl rfl
theorem dX0_canCare_0 : decode cX0_canCare 0 = .ok (.aload_n 0, 1) := dk_42 (dk_at dksX0_canCare_0 0 rfl rfl)
theorem dX0_canCare_1 : decode cX0_canCare 1 = .ok (.getfield 19, 3) := dk_180 0 19 (dk_at dksX0_canCare_0 1 rfl rfl)
theorem dX0_canCare_4 : decode cX0_canCare 4 = .ok (.getfield 95, 3) := dk_180 0 95 (dk_at dksX0_canCare_0 4 rfl rfl)
theorem dX0_canCare_7 : decode cX0_canCare 7 = .ok (.iload_n 2, 1) := dk_28 (dk_at dksX0_canCare_0 7 rfl rfl)
theorem dX0_canCare_8 : decode cX0_canCare 8 = .ok (.invokevirtual 98, 3) := dk_182 0 98 (dk_at dksX0_canCare_0 8 rfl rfl)
theorem dX0_canCare_11 : decode cX0_canCare 11 = .ok (.checkcast 102, 3) := dk_192 0 102 (dk_at dksX0_canCare_0 11 rfl rfl)
theorem dX0_canCare_14 : decode cX0_canCare 14 = .ok (.getfield 192, 3) := dk_180 0 192 (dk_at dksX0_canCare_0 14 rfl rfl)
theorem dX0_canCare_17 : decode cX0_canCare 17 = .ok (.ifCond .le 33, 3) := dk_158 0 33 (dk_at dksX0_canCare_0 17 rfl rfl)
theorem dX0_canCare_20 : decode cX0_canCare 20 = .ok (.aload_n 0, 1) := dk_42 (dk_at dksX0_canCare_0 20 rfl rfl)
theorem dX0_canCare_21 : decode cX0_canCare 21 = .ok (.iload_n 1, 1) := dk_27 (dk_at dksX0_canCare_0 21 rfl rfl)
theorem dX0_canCare_22 : decode cX0_canCare 22 = .ok (.iload_n 2, 1) := dk_28 (dk_at dksX0_canCare_0 22 rfl rfl)
theorem dX0_canCare_23 : decode cX0_canCare 23 = .ok (.invokevirtual 252, 3) := dk_182 0 252 (dk_at dksX0_canCare_1 0 rfl rfl)
theorem dX0_canCare_26 : decode cX0_canCare 26 = .ok (.aload_n 0, 1) := dk_42 (dk_at dksX0_canCare_1 3 rfl rfl)
theorem dX0_canCare_27 : decode cX0_canCare 27 = .ok (.getfield 19, 3) := dk_180 0 19 (dk_at dksX0_canCare_1 4 rfl rfl)
theorem dX0_canCare_30 : decode cX0_canCare 30 = .ok (.getfield 95, 3) := dk_180 0 95 (dk_at dksX0_canCare_1 7 rfl rfl)
theorem dX0_canCare_33 : decode cX0_canCare 33 = .ok (.iload_n 2, 1) := dk_28 (dk_at dksX0_canCare_1 10 rfl rfl)
theorem dX0_canCare_34 : decode cX0_canCare 34 = .ok (.invokevirtual 98, 3) := dk_182 0 98 (dk_at dksX0_canCare_1 11 rfl rfl)
theorem dX0_canCare_37 : decode cX0_canCare 37 = .ok (.checkcast 102, 3) := dk_192 0 102 (dk_at dksX0_canCare_1 14 rfl rfl)
theorem dX0_canCare_40 : decode cX0_canCare 40 = .ok (.getfield 192, 3) := dk_180 0 192 (dk_at dksX0_canCare_1 17 rfl rfl)
theorem dX0_canCare_43 : decode cX0_canCare 43 = .ok (.if_icmp .lt 7, 3) := dk_161 0 7 (dk_at dksX0_canCare_1 20 rfl rfl)
theorem dX0_canCare_46 : decode cX0_canCare 46 = .ok (.iconst 1, 1) := dk_4 (dk_at dksX0_canCare_1 23 rfl rfl)
theorem dX0_canCare_47 : decode cX0_canCare 47 = .ok (.goto 4, 3) := dk_167 0 4 (dk_at dksX0_canCare_2 0 rfl rfl)
theorem dX0_canCare_50 : decode cX0_canCare 50 = .ok (.iconst 0, 1) := dk_3 (dk_at dksX0_canCare_2 3 rfl rfl)
theorem dX0_canCare_51 : decode cX0_canCare 51 = .ok (.ireturn, 1) := dk_172 (dk_at dksX0_canCare_2 4 rfl rfl)
abbrev cX0_proxy : ByteArray := prog_1_method_36_code
def yX0_proxy : MethodName := ⟨RX0, "proxy", "()I"⟩
def dkwX0_proxy_6 : List UInt8 := [4, 100, 17, 3, 232, 108, 172]
abbrev dktX0_proxy_6 : List UInt8 := dkwX0_proxy_6 ++ []
def dkwX0_proxy_5 : List UInt8 := [21, 4, 120, 128, 61, 132, 3, 1, 167, 255, 141, 42, 42, 182, 0, 91, 181, 0, 132, 27, 17, 3, 232, 96]
abbrev dktX0_proxy_5 : List UInt8 := dkwX0_proxy_5 ++ dktX0_proxy_6
def dkwX0_proxy_4 : List UInt8 := [182, 0, 91, 162, 0, 8, 21, 4, 167, 0, 4, 2, 79, 21, 4, 42, 182, 0, 91, 162, 0, 10, 28, 4]
abbrev dktX0_proxy_4 : List UInt8 := dkwX0_proxy_4 ++ dktX0_proxy_5
def dkwX0_proxy_3 : List UInt8 := [42, 29, 28, 182, 0, 255, 162, 0, 9, 132, 4, 1, 167, 255, 195, 42, 180, 0, 60, 29, 21, 4, 42]
abbrev dktX0_proxy_3 : List UInt8 := dkwX0_proxy_3 ++ dktX0_proxy_4
def dkwX0_proxy_2 : List UInt8 := [155, 0, 33, 42, 21, 4, 29, 182, 1, 12, 42, 29, 4, 96, 28, 4, 21, 4, 120, 128, 182, 0, 255, 96]
abbrev dktX0_proxy_2 : List UInt8 := dkwX0_proxy_2 ++ dktX0_proxy_3
def dkwX0_proxy_1 : List UInt8 := [182, 0, 91, 162, 0, 58, 28, 21, 4, 184, 1, 2, 154, 0, 43, 42, 21, 4, 29, 182, 1, 12]
abbrev dktX0_proxy_1 : List UInt8 := dkwX0_proxy_1 ++ dktX0_proxy_2
def dkwX0_proxy_0 : List UInt8 := [42, 182, 1, 15, 60, 3, 61, 3, 62, 29, 42, 182, 0, 91, 162, 0, 113, 3, 54, 4, 21, 4, 42]
abbrev dktX0_proxy_0 : List UInt8 := dkwX0_proxy_0 ++ dktX0_proxy_1
theorem dksX0_proxy_0 : cX0_proxy.data.toList.drop 0 = dktX0_proxy_0 := by decide +kernel
theorem dksX0_proxy_1 : cX0_proxy.data.toList.drop 23 = dktX0_proxy_1 := dk_seg dksX0_proxy_0 23 rfl rfl
theorem dksX0_proxy_2 : cX0_proxy.data.toList.drop 45 = dktX0_proxy_2 := dk_seg dksX0_proxy_1 22 rfl rfl
theorem dksX0_proxy_3 : cX0_proxy.data.toList.drop 69 = dktX0_proxy_3 := dk_seg dksX0_proxy_2 24 rfl rfl
theorem dksX0_proxy_4 : cX0_proxy.data.toList.drop 92 = dktX0_proxy_4 := dk_seg dksX0_proxy_3 23 rfl rfl
theorem dksX0_proxy_5 : cX0_proxy.data.toList.drop 116 = dktX0_proxy_5 := dk_seg dksX0_proxy_4 24 rfl rfl
theorem dksX0_proxy_6 : cX0_proxy.data.toList.drop 140 = dktX0_proxy_6 := dk_seg dksX0_proxy_5 24 rfl rfl
theorem dX0_proxy_0 : decode cX0_proxy 0 = .ok (.aload_n 0, 1) := dk_42 (dk_at dksX0_proxy_0 0 rfl rfl)
theorem dX0_proxy_1 : decode cX0_proxy 1 = .ok (.invokevirtual 271, 3) := dk_182 1 15 (dk_at dksX0_proxy_0 1 rfl rfl)
theorem dX0_proxy_4 : decode cX0_proxy 4 = .ok (.istore_n 1, 1) := dk_60 (dk_at dksX0_proxy_0 4 rfl rfl)
theorem dX0_proxy_5 : decode cX0_proxy 5 = .ok (.iconst 0, 1) := dk_3 (dk_at dksX0_proxy_0 5 rfl rfl)
theorem dX0_proxy_6 : decode cX0_proxy 6 = .ok (.istore_n 2, 1) := dk_61 (dk_at dksX0_proxy_0 6 rfl rfl)
theorem dX0_proxy_7 : decode cX0_proxy 7 = .ok (.iconst 0, 1) := dk_3 (dk_at dksX0_proxy_0 7 rfl rfl)
theorem dX0_proxy_8 : decode cX0_proxy 8 = .ok (.istore_n 3, 1) := dk_62 (dk_at dksX0_proxy_0 8 rfl rfl)
theorem dX0_proxy_9 : decode cX0_proxy 9 = .ok (.iload_n 3, 1) := dk_29 (dk_at dksX0_proxy_0 9 rfl rfl)
theorem dX0_proxy_10 : decode cX0_proxy 10 = .ok (.aload_n 0, 1) := dk_42 (dk_at dksX0_proxy_0 10 rfl rfl)
theorem dX0_proxy_11 : decode cX0_proxy 11 = .ok (.invokevirtual 91, 3) := dk_182 0 91 (dk_at dksX0_proxy_0 11 rfl rfl)
theorem dX0_proxy_14 : decode cX0_proxy 14 = .ok (.if_icmp .ge 113, 3) := dk_162 0 113 (dk_at dksX0_proxy_0 14 rfl rfl)
theorem dX0_proxy_17 : decode cX0_proxy 17 = .ok (.iconst 0, 1) := dk_3 (dk_at dksX0_proxy_0 17 rfl rfl)
theorem dX0_proxy_18 : decode cX0_proxy 18 = .ok (.istore 4, 2) := dk_54 4 (dk_at dksX0_proxy_0 18 rfl rfl)
theorem dX0_proxy_20 : decode cX0_proxy 20 = .ok (.iload 4, 2) := dk_21 4 (dk_at dksX0_proxy_0 20 rfl rfl)
theorem dX0_proxy_22 : decode cX0_proxy 22 = .ok (.aload_n 0, 1) := dk_42 (dk_at dksX0_proxy_0 22 rfl rfl)
theorem dX0_proxy_23 : decode cX0_proxy 23 = .ok (.invokevirtual 91, 3) := dk_182 0 91 (dk_at dksX0_proxy_1 0 rfl rfl)
theorem dX0_proxy_26 : decode cX0_proxy 26 = .ok (.if_icmp .ge 58, 3) := dk_162 0 58 (dk_at dksX0_proxy_1 3 rfl rfl)
theorem dX0_proxy_29 : decode cX0_proxy 29 = .ok (.iload_n 2, 1) := dk_28 (dk_at dksX0_proxy_1 6 rfl rfl)
theorem dX0_proxy_30 : decode cX0_proxy 30 = .ok (.iload 4, 2) := dk_21 4 (dk_at dksX0_proxy_1 7 rfl rfl)
theorem dX0_proxy_32 : decode cX0_proxy 32 = .ok (.invokestatic 258, 3) := dk_184 1 2 (dk_at dksX0_proxy_1 9 rfl rfl)
theorem dX0_proxy_35 : decode cX0_proxy 35 = .ok (.ifCond .ne 43, 3) := dk_154 0 43 (dk_at dksX0_proxy_1 12 rfl rfl)
theorem dX0_proxy_38 : decode cX0_proxy 38 = .ok (.aload_n 0, 1) := dk_42 (dk_at dksX0_proxy_1 15 rfl rfl)
theorem dX0_proxy_39 : decode cX0_proxy 39 = .ok (.iload 4, 2) := dk_21 4 (dk_at dksX0_proxy_1 16 rfl rfl)
theorem dX0_proxy_41 : decode cX0_proxy 41 = .ok (.iload_n 3, 1) := dk_29 (dk_at dksX0_proxy_1 18 rfl rfl)
theorem dX0_proxy_42 : decode cX0_proxy 42 = .ok (.invokevirtual 268, 3) := dk_182 1 12 (dk_at dksX0_proxy_1 19 rfl rfl)
theorem dX0_proxy_45 : decode cX0_proxy 45 = .ok (.ifCond .lt 33, 3) := dk_155 0 33 (dk_at dksX0_proxy_2 0 rfl rfl)
theorem dX0_proxy_48 : decode cX0_proxy 48 = .ok (.aload_n 0, 1) := dk_42 (dk_at dksX0_proxy_2 3 rfl rfl)
theorem dX0_proxy_49 : decode cX0_proxy 49 = .ok (.iload 4, 2) := dk_21 4 (dk_at dksX0_proxy_2 4 rfl rfl)
theorem dX0_proxy_51 : decode cX0_proxy 51 = .ok (.iload_n 3, 1) := dk_29 (dk_at dksX0_proxy_2 6 rfl rfl)
theorem dX0_proxy_52 : decode cX0_proxy 52 = .ok (.invokevirtual 268, 3) := dk_182 1 12 (dk_at dksX0_proxy_2 7 rfl rfl)
theorem dX0_proxy_55 : decode cX0_proxy 55 = .ok (.aload_n 0, 1) := dk_42 (dk_at dksX0_proxy_2 10 rfl rfl)
theorem dX0_proxy_56 : decode cX0_proxy 56 = .ok (.iload_n 3, 1) := dk_29 (dk_at dksX0_proxy_2 11 rfl rfl)
theorem dX0_proxy_57 : decode cX0_proxy 57 = .ok (.iconst 1, 1) := dk_4 (dk_at dksX0_proxy_2 12 rfl rfl)
theorem dX0_proxy_58 : decode cX0_proxy 58 = .ok (.iadd, 1) := dk_96 (dk_at dksX0_proxy_2 13 rfl rfl)
theorem dX0_proxy_59 : decode cX0_proxy 59 = .ok (.iload_n 2, 1) := dk_28 (dk_at dksX0_proxy_2 14 rfl rfl)
theorem dX0_proxy_60 : decode cX0_proxy 60 = .ok (.iconst 1, 1) := dk_4 (dk_at dksX0_proxy_2 15 rfl rfl)
theorem dX0_proxy_61 : decode cX0_proxy 61 = .ok (.iload 4, 2) := dk_21 4 (dk_at dksX0_proxy_2 16 rfl rfl)
theorem dX0_proxy_63 : decode cX0_proxy 63 = .ok (.ishl, 1) := dk_120 (dk_at dksX0_proxy_2 18 rfl rfl)
theorem dX0_proxy_64 : decode cX0_proxy 64 = .ok (.ior, 1) := dk_128 (dk_at dksX0_proxy_2 19 rfl rfl)
theorem dX0_proxy_65 : decode cX0_proxy 65 = .ok (.invokevirtual 255, 3) := dk_182 0 255 (dk_at dksX0_proxy_2 20 rfl rfl)
theorem dX0_proxy_68 : decode cX0_proxy 68 = .ok (.iadd, 1) := dk_96 (dk_at dksX0_proxy_2 23 rfl rfl)
theorem dX0_proxy_69 : decode cX0_proxy 69 = .ok (.aload_n 0, 1) := dk_42 (dk_at dksX0_proxy_3 0 rfl rfl)
theorem dX0_proxy_70 : decode cX0_proxy 70 = .ok (.iload_n 3, 1) := dk_29 (dk_at dksX0_proxy_3 1 rfl rfl)
theorem dX0_proxy_71 : decode cX0_proxy 71 = .ok (.iload_n 2, 1) := dk_28 (dk_at dksX0_proxy_3 2 rfl rfl)
theorem dX0_proxy_72 : decode cX0_proxy 72 = .ok (.invokevirtual 255, 3) := dk_182 0 255 (dk_at dksX0_proxy_3 3 rfl rfl)
theorem dX0_proxy_75 : decode cX0_proxy 75 = .ok (.if_icmp .ge 9, 3) := dk_162 0 9 (dk_at dksX0_proxy_3 6 rfl rfl)
theorem dX0_proxy_78 : decode cX0_proxy 78 = .ok (.iinc 4 1, 3) := dk_132 4 1 (dk_at dksX0_proxy_3 9 rfl rfl)
theorem dX0_proxy_81 : decode cX0_proxy 81 = .ok (.goto (-61), 3) := dk_167 255 195 (dk_at dksX0_proxy_3 12 rfl rfl)
theorem dX0_proxy_84 : decode cX0_proxy 84 = .ok (.aload_n 0, 1) := dk_42 (dk_at dksX0_proxy_3 15 rfl rfl)
theorem dX0_proxy_85 : decode cX0_proxy 85 = .ok (.getfield 60, 3) := dk_180 0 60 (dk_at dksX0_proxy_3 16 rfl rfl)
theorem dX0_proxy_88 : decode cX0_proxy 88 = .ok (.iload_n 3, 1) := dk_29 (dk_at dksX0_proxy_3 19 rfl rfl)
theorem dX0_proxy_89 : decode cX0_proxy 89 = .ok (.iload 4, 2) := dk_21 4 (dk_at dksX0_proxy_3 20 rfl rfl)
theorem dX0_proxy_91 : decode cX0_proxy 91 = .ok (.aload_n 0, 1) := dk_42 (dk_at dksX0_proxy_3 22 rfl rfl)
theorem dX0_proxy_92 : decode cX0_proxy 92 = .ok (.invokevirtual 91, 3) := dk_182 0 91 (dk_at dksX0_proxy_4 0 rfl rfl)
theorem dX0_proxy_95 : decode cX0_proxy 95 = .ok (.if_icmp .ge 8, 3) := dk_162 0 8 (dk_at dksX0_proxy_4 3 rfl rfl)
theorem dX0_proxy_98 : decode cX0_proxy 98 = .ok (.iload 4, 2) := dk_21 4 (dk_at dksX0_proxy_4 6 rfl rfl)
theorem dX0_proxy_100 : decode cX0_proxy 100 = .ok (.goto 4, 3) := dk_167 0 4 (dk_at dksX0_proxy_4 8 rfl rfl)
theorem dX0_proxy_103 : decode cX0_proxy 103 = .ok (.iconst (-1), 1) := dk_2 (dk_at dksX0_proxy_4 11 rfl rfl)
theorem dX0_proxy_104 : decode cX0_proxy 104 = .ok (.iastore, 1) := dk_79 (dk_at dksX0_proxy_4 12 rfl rfl)
theorem dX0_proxy_105 : decode cX0_proxy 105 = .ok (.iload 4, 2) := dk_21 4 (dk_at dksX0_proxy_4 13 rfl rfl)
theorem dX0_proxy_107 : decode cX0_proxy 107 = .ok (.aload_n 0, 1) := dk_42 (dk_at dksX0_proxy_4 15 rfl rfl)
theorem dX0_proxy_108 : decode cX0_proxy 108 = .ok (.invokevirtual 91, 3) := dk_182 0 91 (dk_at dksX0_proxy_4 16 rfl rfl)
theorem dX0_proxy_111 : decode cX0_proxy 111 = .ok (.if_icmp .ge 10, 3) := dk_162 0 10 (dk_at dksX0_proxy_4 19 rfl rfl)
theorem dX0_proxy_114 : decode cX0_proxy 114 = .ok (.iload_n 2, 1) := dk_28 (dk_at dksX0_proxy_4 22 rfl rfl)
theorem dX0_proxy_115 : decode cX0_proxy 115 = .ok (.iconst 1, 1) := dk_4 (dk_at dksX0_proxy_4 23 rfl rfl)
theorem dX0_proxy_116 : decode cX0_proxy 116 = .ok (.iload 4, 2) := dk_21 4 (dk_at dksX0_proxy_5 0 rfl rfl)
theorem dX0_proxy_118 : decode cX0_proxy 118 = .ok (.ishl, 1) := dk_120 (dk_at dksX0_proxy_5 2 rfl rfl)
theorem dX0_proxy_119 : decode cX0_proxy 119 = .ok (.ior, 1) := dk_128 (dk_at dksX0_proxy_5 3 rfl rfl)
theorem dX0_proxy_120 : decode cX0_proxy 120 = .ok (.istore_n 2, 1) := dk_61 (dk_at dksX0_proxy_5 4 rfl rfl)
theorem dX0_proxy_121 : decode cX0_proxy 121 = .ok (.iinc 3 1, 3) := dk_132 3 1 (dk_at dksX0_proxy_5 5 rfl rfl)
theorem dX0_proxy_124 : decode cX0_proxy 124 = .ok (.goto (-115), 3) := dk_167 255 141 (dk_at dksX0_proxy_5 8 rfl rfl)
theorem dX0_proxy_127 : decode cX0_proxy 127 = .ok (.aload_n 0, 1) := dk_42 (dk_at dksX0_proxy_5 11 rfl rfl)
theorem dX0_proxy_128 : decode cX0_proxy 128 = .ok (.aload_n 0, 1) := dk_42 (dk_at dksX0_proxy_5 12 rfl rfl)
theorem dX0_proxy_129 : decode cX0_proxy 129 = .ok (.invokevirtual 91, 3) := dk_182 0 91 (dk_at dksX0_proxy_5 13 rfl rfl)
theorem dX0_proxy_132 : decode cX0_proxy 132 = .ok (.putfield 132, 3) := dk_181 0 132 (dk_at dksX0_proxy_5 16 rfl rfl)
theorem dX0_proxy_135 : decode cX0_proxy 135 = .ok (.iload_n 1, 1) := dk_27 (dk_at dksX0_proxy_5 19 rfl rfl)
theorem dX0_proxy_136 : decode cX0_proxy 136 = .ok (.sipush 1000, 3) := dk_17 3 232 (dk_at dksX0_proxy_5 20 rfl rfl)
theorem dX0_proxy_139 : decode cX0_proxy 139 = .ok (.iadd, 1) := dk_96 (dk_at dksX0_proxy_5 23 rfl rfl)
theorem dX0_proxy_140 : decode cX0_proxy 140 = .ok (.iconst 1, 1) := dk_4 (dk_at dksX0_proxy_6 0 rfl rfl)
theorem dX0_proxy_141 : decode cX0_proxy 141 = .ok (.isub, 1) := dk_100 (dk_at dksX0_proxy_6 1 rfl rfl)
theorem dX0_proxy_142 : decode cX0_proxy 142 = .ok (.sipush 1000, 3) := dk_17 3 232 (dk_at dksX0_proxy_6 2 rfl rfl)
theorem dX0_proxy_145 : decode cX0_proxy 145 = .ok (.idiv, 1) := dk_108 (dk_at dksX0_proxy_6 5 rfl rfl)
theorem dX0_proxy_146 : decode cX0_proxy 146 = .ok (.ireturn, 1) := dk_172 (dk_at dksX0_proxy_6 6 rfl rfl)
abbrev cX0_layProxy : ByteArray := prog_1_method_35_code
def yX0_layProxy : MethodName := ⟨RX0, "layProxy", "()I"⟩
def dkwX0_layProxy_6 : List UInt8 := [167, 255, 158, 132, 2, 255, 167, 255, 146, 42, 3, 3, 182, 0, 255, 172]
abbrev dktX0_layProxy_6 : List UInt8 := dkwX0_layProxy_6 ++ []
def dkwX0_layProxy_5 : List UInt8 := [54, 4, 132, 5, 1, 167, 255, 197, 42, 180, 0, 67, 28, 16, 8, 120, 29, 128, 21, 4, 79, 132, 3, 1]
abbrev dktX0_layProxy_5 : List UInt8 := dkwX0_layProxy_5 ++ dktX0_layProxy_6
def dkwX0_layProxy_4 : List UInt8 := [155, 0, 26, 21, 4, 21, 6, 42, 28, 4, 96, 29, 4, 21, 5, 120, 128, 182, 0, 255, 96, 184, 0, 7]
abbrev dktX0_layProxy_4 : List UInt8 := dkwX0_layProxy_4 ++ dktX0_layProxy_5
def dkwX0_layProxy_3 : List UInt8 := [21, 5, 184, 1, 2, 153, 0, 7, 2, 167, 0, 10, 42, 21, 5, 28, 182, 1, 12, 54, 6, 21, 6]
abbrev dktX0_layProxy_3 : List UInt8 := dkwX0_layProxy_3 ++ dktX0_layProxy_4
def dkwX0_layProxy_2 : List UInt8 := [162, 0, 97, 42, 28, 4, 96, 29, 182, 0, 255, 54, 4, 3, 54, 5, 21, 5, 27, 162, 0, 59, 29]
abbrev dktX0_layProxy_2 : List UInt8 := dkwX0_layProxy_2 ++ dktX0_layProxy_3
def dkwX0_layProxy_1 : List UInt8 := [3, 79, 132, 2, 1, 167, 255, 234, 27, 4, 100, 61, 28, 155, 0, 112, 3, 62, 29, 4, 27, 120]
abbrev dktX0_layProxy_1 : List UInt8 := dkwX0_layProxy_1 ++ dktX0_layProxy_2
def dkwX0_layProxy_0 : List UInt8 := [42, 182, 0, 91, 60, 3, 61, 28, 4, 27, 120, 162, 0, 21, 42, 180, 0, 67, 27, 16, 8, 120, 28, 128]
abbrev dktX0_layProxy_0 : List UInt8 := dkwX0_layProxy_0 ++ dktX0_layProxy_1
theorem dksX0_layProxy_0 : cX0_layProxy.data.toList.drop 0 = dktX0_layProxy_0 := by decide +kernel
theorem dksX0_layProxy_1 : cX0_layProxy.data.toList.drop 24 = dktX0_layProxy_1 := dk_seg dksX0_layProxy_0 24 rfl rfl
theorem dksX0_layProxy_2 : cX0_layProxy.data.toList.drop 46 = dktX0_layProxy_2 := dk_seg dksX0_layProxy_1 22 rfl rfl
theorem dksX0_layProxy_3 : cX0_layProxy.data.toList.drop 69 = dktX0_layProxy_3 := dk_seg dksX0_layProxy_2 23 rfl rfl
theorem dksX0_layProxy_4 : cX0_layProxy.data.toList.drop 92 = dktX0_layProxy_4 := dk_seg dksX0_layProxy_3 23 rfl rfl
theorem dksX0_layProxy_5 : cX0_layProxy.data.toList.drop 116 = dktX0_layProxy_5 := dk_seg dksX0_layProxy_4 24 rfl rfl
theorem dksX0_layProxy_6 : cX0_layProxy.data.toList.drop 140 = dktX0_layProxy_6 := dk_seg dksX0_layProxy_5 24 rfl rfl
theorem dX0_layProxy_0 : decode cX0_layProxy 0 = .ok (.aload_n 0, 1) := dk_42 (dk_at dksX0_layProxy_0 0 rfl rfl)
theorem dX0_layProxy_1 : decode cX0_layProxy 1 = .ok (.invokevirtual 91, 3) := dk_182 0 91 (dk_at dksX0_layProxy_0 1 rfl rfl)
theorem dX0_layProxy_4 : decode cX0_layProxy 4 = .ok (.istore_n 1, 1) := dk_60 (dk_at dksX0_layProxy_0 4 rfl rfl)
theorem dX0_layProxy_5 : decode cX0_layProxy 5 = .ok (.iconst 0, 1) := dk_3 (dk_at dksX0_layProxy_0 5 rfl rfl)
theorem dX0_layProxy_6 : decode cX0_layProxy 6 = .ok (.istore_n 2, 1) := dk_61 (dk_at dksX0_layProxy_0 6 rfl rfl)
theorem dX0_layProxy_7 : decode cX0_layProxy 7 = .ok (.iload_n 2, 1) := dk_28 (dk_at dksX0_layProxy_0 7 rfl rfl)
theorem dX0_layProxy_8 : decode cX0_layProxy 8 = .ok (.iconst 1, 1) := dk_4 (dk_at dksX0_layProxy_0 8 rfl rfl)
theorem dX0_layProxy_9 : decode cX0_layProxy 9 = .ok (.iload_n 1, 1) := dk_27 (dk_at dksX0_layProxy_0 9 rfl rfl)
theorem dX0_layProxy_10 : decode cX0_layProxy 10 = .ok (.ishl, 1) := dk_120 (dk_at dksX0_layProxy_0 10 rfl rfl)
theorem dX0_layProxy_11 : decode cX0_layProxy 11 = .ok (.if_icmp .ge 21, 3) := dk_162 0 21 (dk_at dksX0_layProxy_0 11 rfl rfl)
theorem dX0_layProxy_14 : decode cX0_layProxy 14 = .ok (.aload_n 0, 1) := dk_42 (dk_at dksX0_layProxy_0 14 rfl rfl)
theorem dX0_layProxy_15 : decode cX0_layProxy 15 = .ok (.getfield 67, 3) := dk_180 0 67 (dk_at dksX0_layProxy_0 15 rfl rfl)
theorem dX0_layProxy_18 : decode cX0_layProxy 18 = .ok (.iload_n 1, 1) := dk_27 (dk_at dksX0_layProxy_0 18 rfl rfl)
theorem dX0_layProxy_19 : decode cX0_layProxy 19 = .ok (.bipush 8, 2) := dk_16 8 (dk_at dksX0_layProxy_0 19 rfl rfl)
theorem dX0_layProxy_21 : decode cX0_layProxy 21 = .ok (.ishl, 1) := dk_120 (dk_at dksX0_layProxy_0 21 rfl rfl)
theorem dX0_layProxy_22 : decode cX0_layProxy 22 = .ok (.iload_n 2, 1) := dk_28 (dk_at dksX0_layProxy_0 22 rfl rfl)
theorem dX0_layProxy_23 : decode cX0_layProxy 23 = .ok (.ior, 1) := dk_128 (dk_at dksX0_layProxy_0 23 rfl rfl)
theorem dX0_layProxy_24 : decode cX0_layProxy 24 = .ok (.iconst 0, 1) := dk_3 (dk_at dksX0_layProxy_1 0 rfl rfl)
theorem dX0_layProxy_25 : decode cX0_layProxy 25 = .ok (.iastore, 1) := dk_79 (dk_at dksX0_layProxy_1 1 rfl rfl)
theorem dX0_layProxy_26 : decode cX0_layProxy 26 = .ok (.iinc 2 1, 3) := dk_132 2 1 (dk_at dksX0_layProxy_1 2 rfl rfl)
theorem dX0_layProxy_29 : decode cX0_layProxy 29 = .ok (.goto (-22), 3) := dk_167 255 234 (dk_at dksX0_layProxy_1 5 rfl rfl)
theorem dX0_layProxy_32 : decode cX0_layProxy 32 = .ok (.iload_n 1, 1) := dk_27 (dk_at dksX0_layProxy_1 8 rfl rfl)
theorem dX0_layProxy_33 : decode cX0_layProxy 33 = .ok (.iconst 1, 1) := dk_4 (dk_at dksX0_layProxy_1 9 rfl rfl)
theorem dX0_layProxy_34 : decode cX0_layProxy 34 = .ok (.isub, 1) := dk_100 (dk_at dksX0_layProxy_1 10 rfl rfl)
theorem dX0_layProxy_35 : decode cX0_layProxy 35 = .ok (.istore_n 2, 1) := dk_61 (dk_at dksX0_layProxy_1 11 rfl rfl)
theorem dX0_layProxy_36 : decode cX0_layProxy 36 = .ok (.iload_n 2, 1) := dk_28 (dk_at dksX0_layProxy_1 12 rfl rfl)
theorem dX0_layProxy_37 : decode cX0_layProxy 37 = .ok (.ifCond .lt 112, 3) := dk_155 0 112 (dk_at dksX0_layProxy_1 13 rfl rfl)
theorem dX0_layProxy_40 : decode cX0_layProxy 40 = .ok (.iconst 0, 1) := dk_3 (dk_at dksX0_layProxy_1 16 rfl rfl)
theorem dX0_layProxy_41 : decode cX0_layProxy 41 = .ok (.istore_n 3, 1) := dk_62 (dk_at dksX0_layProxy_1 17 rfl rfl)
theorem dX0_layProxy_42 : decode cX0_layProxy 42 = .ok (.iload_n 3, 1) := dk_29 (dk_at dksX0_layProxy_1 18 rfl rfl)
theorem dX0_layProxy_43 : decode cX0_layProxy 43 = .ok (.iconst 1, 1) := dk_4 (dk_at dksX0_layProxy_1 19 rfl rfl)
theorem dX0_layProxy_44 : decode cX0_layProxy 44 = .ok (.iload_n 1, 1) := dk_27 (dk_at dksX0_layProxy_1 20 rfl rfl)
theorem dX0_layProxy_45 : decode cX0_layProxy 45 = .ok (.ishl, 1) := dk_120 (dk_at dksX0_layProxy_1 21 rfl rfl)
theorem dX0_layProxy_46 : decode cX0_layProxy 46 = .ok (.if_icmp .ge 97, 3) := dk_162 0 97 (dk_at dksX0_layProxy_2 0 rfl rfl)
theorem dX0_layProxy_49 : decode cX0_layProxy 49 = .ok (.aload_n 0, 1) := dk_42 (dk_at dksX0_layProxy_2 3 rfl rfl)
theorem dX0_layProxy_50 : decode cX0_layProxy 50 = .ok (.iload_n 2, 1) := dk_28 (dk_at dksX0_layProxy_2 4 rfl rfl)
theorem dX0_layProxy_51 : decode cX0_layProxy 51 = .ok (.iconst 1, 1) := dk_4 (dk_at dksX0_layProxy_2 5 rfl rfl)
theorem dX0_layProxy_52 : decode cX0_layProxy 52 = .ok (.iadd, 1) := dk_96 (dk_at dksX0_layProxy_2 6 rfl rfl)
theorem dX0_layProxy_53 : decode cX0_layProxy 53 = .ok (.iload_n 3, 1) := dk_29 (dk_at dksX0_layProxy_2 7 rfl rfl)
theorem dX0_layProxy_54 : decode cX0_layProxy 54 = .ok (.invokevirtual 255, 3) := dk_182 0 255 (dk_at dksX0_layProxy_2 8 rfl rfl)
theorem dX0_layProxy_57 : decode cX0_layProxy 57 = .ok (.istore 4, 2) := dk_54 4 (dk_at dksX0_layProxy_2 11 rfl rfl)
theorem dX0_layProxy_59 : decode cX0_layProxy 59 = .ok (.iconst 0, 1) := dk_3 (dk_at dksX0_layProxy_2 13 rfl rfl)
theorem dX0_layProxy_60 : decode cX0_layProxy 60 = .ok (.istore 5, 2) := dk_54 5 (dk_at dksX0_layProxy_2 14 rfl rfl)
theorem dX0_layProxy_62 : decode cX0_layProxy 62 = .ok (.iload 5, 2) := dk_21 5 (dk_at dksX0_layProxy_2 16 rfl rfl)
theorem dX0_layProxy_64 : decode cX0_layProxy 64 = .ok (.iload_n 1, 1) := dk_27 (dk_at dksX0_layProxy_2 18 rfl rfl)
theorem dX0_layProxy_65 : decode cX0_layProxy 65 = .ok (.if_icmp .ge 59, 3) := dk_162 0 59 (dk_at dksX0_layProxy_2 19 rfl rfl)
theorem dX0_layProxy_68 : decode cX0_layProxy 68 = .ok (.iload_n 3, 1) := dk_29 (dk_at dksX0_layProxy_2 22 rfl rfl)
theorem dX0_layProxy_69 : decode cX0_layProxy 69 = .ok (.iload 5, 2) := dk_21 5 (dk_at dksX0_layProxy_3 0 rfl rfl)
theorem dX0_layProxy_71 : decode cX0_layProxy 71 = .ok (.invokestatic 258, 3) := dk_184 1 2 (dk_at dksX0_layProxy_3 2 rfl rfl)
theorem dX0_layProxy_74 : decode cX0_layProxy 74 = .ok (.ifCond .eq 7, 3) := dk_153 0 7 (dk_at dksX0_layProxy_3 5 rfl rfl)
theorem dX0_layProxy_77 : decode cX0_layProxy 77 = .ok (.iconst (-1), 1) := dk_2 (dk_at dksX0_layProxy_3 8 rfl rfl)
theorem dX0_layProxy_78 : decode cX0_layProxy 78 = .ok (.goto 10, 3) := dk_167 0 10 (dk_at dksX0_layProxy_3 9 rfl rfl)
theorem dX0_layProxy_81 : decode cX0_layProxy 81 = .ok (.aload_n 0, 1) := dk_42 (dk_at dksX0_layProxy_3 12 rfl rfl)
theorem dX0_layProxy_82 : decode cX0_layProxy 82 = .ok (.iload 5, 2) := dk_21 5 (dk_at dksX0_layProxy_3 13 rfl rfl)
theorem dX0_layProxy_84 : decode cX0_layProxy 84 = .ok (.iload_n 2, 1) := dk_28 (dk_at dksX0_layProxy_3 15 rfl rfl)
theorem dX0_layProxy_85 : decode cX0_layProxy 85 = .ok (.invokevirtual 268, 3) := dk_182 1 12 (dk_at dksX0_layProxy_3 16 rfl rfl)
theorem dX0_layProxy_88 : decode cX0_layProxy 88 = .ok (.istore 6, 2) := dk_54 6 (dk_at dksX0_layProxy_3 19 rfl rfl)
theorem dX0_layProxy_90 : decode cX0_layProxy 90 = .ok (.iload 6, 2) := dk_21 6 (dk_at dksX0_layProxy_3 21 rfl rfl)
theorem dX0_layProxy_92 : decode cX0_layProxy 92 = .ok (.ifCond .lt 26, 3) := dk_155 0 26 (dk_at dksX0_layProxy_4 0 rfl rfl)
theorem dX0_layProxy_95 : decode cX0_layProxy 95 = .ok (.iload 4, 2) := dk_21 4 (dk_at dksX0_layProxy_4 3 rfl rfl)
theorem dX0_layProxy_97 : decode cX0_layProxy 97 = .ok (.iload 6, 2) := dk_21 6 (dk_at dksX0_layProxy_4 5 rfl rfl)
theorem dX0_layProxy_99 : decode cX0_layProxy 99 = .ok (.aload_n 0, 1) := dk_42 (dk_at dksX0_layProxy_4 7 rfl rfl)
theorem dX0_layProxy_100 : decode cX0_layProxy 100 = .ok (.iload_n 2, 1) := dk_28 (dk_at dksX0_layProxy_4 8 rfl rfl)
theorem dX0_layProxy_101 : decode cX0_layProxy 101 = .ok (.iconst 1, 1) := dk_4 (dk_at dksX0_layProxy_4 9 rfl rfl)
theorem dX0_layProxy_102 : decode cX0_layProxy 102 = .ok (.iadd, 1) := dk_96 (dk_at dksX0_layProxy_4 10 rfl rfl)
theorem dX0_layProxy_103 : decode cX0_layProxy 103 = .ok (.iload_n 3, 1) := dk_29 (dk_at dksX0_layProxy_4 11 rfl rfl)
theorem dX0_layProxy_104 : decode cX0_layProxy 104 = .ok (.iconst 1, 1) := dk_4 (dk_at dksX0_layProxy_4 12 rfl rfl)
theorem dX0_layProxy_105 : decode cX0_layProxy 105 = .ok (.iload 5, 2) := dk_21 5 (dk_at dksX0_layProxy_4 13 rfl rfl)
theorem dX0_layProxy_107 : decode cX0_layProxy 107 = .ok (.ishl, 1) := dk_120 (dk_at dksX0_layProxy_4 15 rfl rfl)
theorem dX0_layProxy_108 : decode cX0_layProxy 108 = .ok (.ior, 1) := dk_128 (dk_at dksX0_layProxy_4 16 rfl rfl)
theorem dX0_layProxy_109 : decode cX0_layProxy 109 = .ok (.invokevirtual 255, 3) := dk_182 0 255 (dk_at dksX0_layProxy_4 17 rfl rfl)
theorem dX0_layProxy_112 : decode cX0_layProxy 112 = .ok (.iadd, 1) := dk_96 (dk_at dksX0_layProxy_4 20 rfl rfl)
theorem dX0_layProxy_113 : decode cX0_layProxy 113 = .ok (.invokestatic 7, 3) := dk_184 0 7 (dk_at dksX0_layProxy_4 21 rfl rfl)
theorem dX0_layProxy_116 : decode cX0_layProxy 116 = .ok (.istore 4, 2) := dk_54 4 (dk_at dksX0_layProxy_5 0 rfl rfl)
theorem dX0_layProxy_118 : decode cX0_layProxy 118 = .ok (.iinc 5 1, 3) := dk_132 5 1 (dk_at dksX0_layProxy_5 2 rfl rfl)
theorem dX0_layProxy_121 : decode cX0_layProxy 121 = .ok (.goto (-59), 3) := dk_167 255 197 (dk_at dksX0_layProxy_5 5 rfl rfl)
theorem dX0_layProxy_124 : decode cX0_layProxy 124 = .ok (.aload_n 0, 1) := dk_42 (dk_at dksX0_layProxy_5 8 rfl rfl)
theorem dX0_layProxy_125 : decode cX0_layProxy 125 = .ok (.getfield 67, 3) := dk_180 0 67 (dk_at dksX0_layProxy_5 9 rfl rfl)
theorem dX0_layProxy_128 : decode cX0_layProxy 128 = .ok (.iload_n 2, 1) := dk_28 (dk_at dksX0_layProxy_5 12 rfl rfl)
theorem dX0_layProxy_129 : decode cX0_layProxy 129 = .ok (.bipush 8, 2) := dk_16 8 (dk_at dksX0_layProxy_5 13 rfl rfl)
theorem dX0_layProxy_131 : decode cX0_layProxy 131 = .ok (.ishl, 1) := dk_120 (dk_at dksX0_layProxy_5 15 rfl rfl)
theorem dX0_layProxy_132 : decode cX0_layProxy 132 = .ok (.iload_n 3, 1) := dk_29 (dk_at dksX0_layProxy_5 16 rfl rfl)
theorem dX0_layProxy_133 : decode cX0_layProxy 133 = .ok (.ior, 1) := dk_128 (dk_at dksX0_layProxy_5 17 rfl rfl)
theorem dX0_layProxy_134 : decode cX0_layProxy 134 = .ok (.iload 4, 2) := dk_21 4 (dk_at dksX0_layProxy_5 18 rfl rfl)
theorem dX0_layProxy_136 : decode cX0_layProxy 136 = .ok (.iastore, 1) := dk_79 (dk_at dksX0_layProxy_5 20 rfl rfl)
theorem dX0_layProxy_137 : decode cX0_layProxy 137 = .ok (.iinc 3 1, 3) := dk_132 3 1 (dk_at dksX0_layProxy_5 21 rfl rfl)
theorem dX0_layProxy_140 : decode cX0_layProxy 140 = .ok (.goto (-98), 3) := dk_167 255 158 (dk_at dksX0_layProxy_6 0 rfl rfl)
theorem dX0_layProxy_143 : decode cX0_layProxy 143 = .ok (.iinc 2 (-1), 3) := dk_132 2 255 (dk_at dksX0_layProxy_6 3 rfl rfl)
theorem dX0_layProxy_146 : decode cX0_layProxy 146 = .ok (.goto (-110), 3) := dk_167 255 146 (dk_at dksX0_layProxy_6 6 rfl rfl)
theorem dX0_layProxy_149 : decode cX0_layProxy 149 = .ok (.aload_n 0, 1) := dk_42 (dk_at dksX0_layProxy_6 9 rfl rfl)
theorem dX0_layProxy_150 : decode cX0_layProxy 150 = .ok (.iconst 0, 1) := dk_3 (dk_at dksX0_layProxy_6 10 rfl rfl)
theorem dX0_layProxy_151 : decode cX0_layProxy 151 = .ok (.iconst 0, 1) := dk_3 (dk_at dksX0_layProxy_6 11 rfl rfl)
theorem dX0_layProxy_152 : decode cX0_layProxy 152 = .ok (.invokevirtual 255, 3) := dk_182 0 255 (dk_at dksX0_layProxy_6 12 rfl rfl)
theorem dX0_layProxy_155 : decode cX0_layProxy 155 = .ok (.ireturn, 1) := dk_172 (dk_at dksX0_layProxy_6 15 rfl rfl)
abbrev cX0_climbsFor : ByteArray := prog_1_method_34_code
def yX0_climbsFor : MethodName := ⟨RX0, "climbsFor", "(II)I"⟩
def dkwX0_climbsFor_2 : List UInt8 := [167, 0, 8, 17, 3, 232, 29, 100, 172]
abbrev dktX0_climbsFor_2 : List UInt8 := dkwX0_climbsFor_2 ++ []
def dkwX0_climbsFor_1 : List UInt8 := [182, 1, 9, 62, 29, 155, 0, 16, 29, 42, 180, 0, 28, 180, 0, 88, 27, 46, 164, 0, 7, 2]
abbrev dktX0_climbsFor_1 : List UInt8 := dkwX0_climbsFor_1 ++ dktX0_climbsFor_2
def dkwX0_climbsFor_0 : List UInt8 := [27, 28, 159, 0, 11, 42, 28, 182, 0, 204, 154, 0, 7, 2, 167, 0, 12, 42, 42, 28, 182, 0, 204]
abbrev dktX0_climbsFor_0 : List UInt8 := dkwX0_climbsFor_0 ++ dktX0_climbsFor_1
theorem dksX0_climbsFor_0 : cX0_climbsFor.data.toList.drop 0 = dktX0_climbsFor_0 := by decide +kernel
theorem dksX0_climbsFor_1 : cX0_climbsFor.data.toList.drop 23 = dktX0_climbsFor_1 := dk_seg dksX0_climbsFor_0 23 rfl rfl
theorem dksX0_climbsFor_2 : cX0_climbsFor.data.toList.drop 45 = dktX0_climbsFor_2 := dk_seg dksX0_climbsFor_1 22 rfl rfl
theorem dX0_climbsFor_0 : decode cX0_climbsFor 0 = .ok (.iload_n 1, 1) := dk_27 (dk_at dksX0_climbsFor_0 0 rfl rfl)
theorem dX0_climbsFor_1 : decode cX0_climbsFor 1 = .ok (.iload_n 2, 1) := dk_28 (dk_at dksX0_climbsFor_0 1 rfl rfl)
theorem dX0_climbsFor_2 : decode cX0_climbsFor 2 = .ok (.if_icmp .eq 11, 3) := dk_159 0 11 (dk_at dksX0_climbsFor_0 2 rfl rfl)
theorem dX0_climbsFor_5 : decode cX0_climbsFor 5 = .ok (.aload_n 0, 1) := dk_42 (dk_at dksX0_climbsFor_0 5 rfl rfl)
theorem dX0_climbsFor_6 : decode cX0_climbsFor 6 = .ok (.iload_n 2, 1) := dk_28 (dk_at dksX0_climbsFor_0 6 rfl rfl)
theorem dX0_climbsFor_7 : decode cX0_climbsFor 7 = .ok (.invokevirtual 204, 3) := dk_182 0 204 (dk_at dksX0_climbsFor_0 7 rfl rfl)
theorem dX0_climbsFor_10 : decode cX0_climbsFor 10 = .ok (.ifCond .ne 7, 3) := dk_154 0 7 (dk_at dksX0_climbsFor_0 10 rfl rfl)
theorem dX0_climbsFor_13 : decode cX0_climbsFor 13 = .ok (.iconst (-1), 1) := dk_2 (dk_at dksX0_climbsFor_0 13 rfl rfl)
theorem dX0_climbsFor_14 : decode cX0_climbsFor 14 = .ok (.goto 12, 3) := dk_167 0 12 (dk_at dksX0_climbsFor_0 14 rfl rfl)
theorem dX0_climbsFor_17 : decode cX0_climbsFor 17 = .ok (.aload_n 0, 1) := dk_42 (dk_at dksX0_climbsFor_0 17 rfl rfl)
theorem dX0_climbsFor_18 : decode cX0_climbsFor 18 = .ok (.aload_n 0, 1) := dk_42 (dk_at dksX0_climbsFor_0 18 rfl rfl)
theorem dX0_climbsFor_19 : decode cX0_climbsFor 19 = .ok (.iload_n 2, 1) := dk_28 (dk_at dksX0_climbsFor_0 19 rfl rfl)
theorem dX0_climbsFor_20 : decode cX0_climbsFor 20 = .ok (.invokevirtual 204, 3) := dk_182 0 204 (dk_at dksX0_climbsFor_0 20 rfl rfl)
theorem dX0_climbsFor_23 : decode cX0_climbsFor 23 = .ok (.invokevirtual 265, 3) := dk_182 1 9 (dk_at dksX0_climbsFor_1 0 rfl rfl)
theorem dX0_climbsFor_26 : decode cX0_climbsFor 26 = .ok (.istore_n 3, 1) := dk_62 (dk_at dksX0_climbsFor_1 3 rfl rfl)
theorem dX0_climbsFor_27 : decode cX0_climbsFor 27 = .ok (.iload_n 3, 1) := dk_29 (dk_at dksX0_climbsFor_1 4 rfl rfl)
theorem dX0_climbsFor_28 : decode cX0_climbsFor 28 = .ok (.ifCond .lt 16, 3) := dk_155 0 16 (dk_at dksX0_climbsFor_1 5 rfl rfl)
theorem dX0_climbsFor_31 : decode cX0_climbsFor 31 = .ok (.iload_n 3, 1) := dk_29 (dk_at dksX0_climbsFor_1 8 rfl rfl)
theorem dX0_climbsFor_32 : decode cX0_climbsFor 32 = .ok (.aload_n 0, 1) := dk_42 (dk_at dksX0_climbsFor_1 9 rfl rfl)
theorem dX0_climbsFor_33 : decode cX0_climbsFor 33 = .ok (.getfield 28, 3) := dk_180 0 28 (dk_at dksX0_climbsFor_1 10 rfl rfl)
theorem dX0_climbsFor_36 : decode cX0_climbsFor 36 = .ok (.getfield 88, 3) := dk_180 0 88 (dk_at dksX0_climbsFor_1 13 rfl rfl)
theorem dX0_climbsFor_39 : decode cX0_climbsFor 39 = .ok (.iload_n 1, 1) := dk_27 (dk_at dksX0_climbsFor_1 16 rfl rfl)
theorem dX0_climbsFor_40 : decode cX0_climbsFor 40 = .ok (.iaload, 1) := dk_46 (dk_at dksX0_climbsFor_1 17 rfl rfl)
theorem dX0_climbsFor_41 : decode cX0_climbsFor 41 = .ok (.if_icmp .le 7, 3) := dk_164 0 7 (dk_at dksX0_climbsFor_1 18 rfl rfl)
theorem dX0_climbsFor_44 : decode cX0_climbsFor 44 = .ok (.iconst (-1), 1) := dk_2 (dk_at dksX0_climbsFor_1 21 rfl rfl)
theorem dX0_climbsFor_45 : decode cX0_climbsFor 45 = .ok (.goto 8, 3) := dk_167 0 8 (dk_at dksX0_climbsFor_2 0 rfl rfl)
theorem dX0_climbsFor_48 : decode cX0_climbsFor 48 = .ok (.sipush 1000, 3) := dk_17 3 232 (dk_at dksX0_climbsFor_2 3 rfl rfl)
theorem dX0_climbsFor_51 : decode cX0_climbsFor 51 = .ok (.iload_n 3, 1) := dk_29 (dk_at dksX0_climbsFor_2 6 rfl rfl)
theorem dX0_climbsFor_52 : decode cX0_climbsFor 52 = .ok (.isub, 1) := dk_100 (dk_at dksX0_climbsFor_2 7 rfl rfl)
theorem dX0_climbsFor_53 : decode cX0_climbsFor 53 = .ok (.ireturn, 1) := dk_172 (dk_at dksX0_climbsFor_2 8 rfl rfl)
abbrev cX0_enough : ByteArray := prog_1_method_33_code
def yX0_enough : MethodName := ⟨RX0, "enough", "(I)I"⟩
def dkwX0_enough_2 : List UInt8 := [180, 0, 19, 180, 0, 208, 163, 0, 7, 28, 167, 0, 4, 2, 172]
abbrev dktX0_enough_2 : List UInt8 := dkwX0_enough_2 ++ []
def dkwX0_enough_1 : List UInt8 := [42, 180, 0, 28, 180, 0, 113, 182, 0, 220, 27, 162, 0, 9, 132, 2, 1, 167, 255, 217, 28, 42]
abbrev dktX0_enough_1 : List UInt8 := dkwX0_enough_1 ++ dktX0_enough_2
def dkwX0_enough_0 : List UInt8 := [4, 61, 28, 42, 180, 0, 19, 180, 0, 208, 163, 0, 34, 42, 180, 0, 19, 42, 180, 0, 28, 28, 3, 3]
abbrev dktX0_enough_0 : List UInt8 := dkwX0_enough_0 ++ dktX0_enough_1
theorem dksX0_enough_0 : cX0_enough.data.toList.drop 0 = dktX0_enough_0 := by decide +kernel
theorem dksX0_enough_1 : cX0_enough.data.toList.drop 24 = dktX0_enough_1 := dk_seg dksX0_enough_0 24 rfl rfl
theorem dksX0_enough_2 : cX0_enough.data.toList.drop 46 = dktX0_enough_2 := dk_seg dksX0_enough_1 22 rfl rfl
theorem dX0_enough_0 : decode cX0_enough 0 = .ok (.iconst 1, 1) := dk_4 (dk_at dksX0_enough_0 0 rfl rfl)
theorem dX0_enough_1 : decode cX0_enough 1 = .ok (.istore_n 2, 1) := dk_61 (dk_at dksX0_enough_0 1 rfl rfl)
theorem dX0_enough_2 : decode cX0_enough 2 = .ok (.iload_n 2, 1) := dk_28 (dk_at dksX0_enough_0 2 rfl rfl)
theorem dX0_enough_3 : decode cX0_enough 3 = .ok (.aload_n 0, 1) := dk_42 (dk_at dksX0_enough_0 3 rfl rfl)
theorem dX0_enough_4 : decode cX0_enough 4 = .ok (.getfield 19, 3) := dk_180 0 19 (dk_at dksX0_enough_0 4 rfl rfl)
theorem dX0_enough_7 : decode cX0_enough 7 = .ok (.getfield 208, 3) := dk_180 0 208 (dk_at dksX0_enough_0 7 rfl rfl)
theorem dX0_enough_10 : decode cX0_enough 10 = .ok (.if_icmp .gt 34, 3) := dk_163 0 34 (dk_at dksX0_enough_0 10 rfl rfl)
theorem dX0_enough_13 : decode cX0_enough 13 = .ok (.aload_n 0, 1) := dk_42 (dk_at dksX0_enough_0 13 rfl rfl)
theorem dX0_enough_14 : decode cX0_enough 14 = .ok (.getfield 19, 3) := dk_180 0 19 (dk_at dksX0_enough_0 14 rfl rfl)
theorem dX0_enough_17 : decode cX0_enough 17 = .ok (.aload_n 0, 1) := dk_42 (dk_at dksX0_enough_0 17 rfl rfl)
theorem dX0_enough_18 : decode cX0_enough 18 = .ok (.getfield 28, 3) := dk_180 0 28 (dk_at dksX0_enough_0 18 rfl rfl)
theorem dX0_enough_21 : decode cX0_enough 21 = .ok (.iload_n 2, 1) := dk_28 (dk_at dksX0_enough_0 21 rfl rfl)
theorem dX0_enough_22 : decode cX0_enough 22 = .ok (.iconst 0, 1) := dk_3 (dk_at dksX0_enough_0 22 rfl rfl)
theorem dX0_enough_23 : decode cX0_enough 23 = .ok (.iconst 0, 1) := dk_3 (dk_at dksX0_enough_0 23 rfl rfl)
theorem dX0_enough_24 : decode cX0_enough 24 = .ok (.aload_n 0, 1) := dk_42 (dk_at dksX0_enough_1 0 rfl rfl)
theorem dX0_enough_25 : decode cX0_enough 25 = .ok (.getfield 28, 3) := dk_180 0 28 (dk_at dksX0_enough_1 1 rfl rfl)
theorem dX0_enough_28 : decode cX0_enough 28 = .ok (.getfield 113, 3) := dk_180 0 113 (dk_at dksX0_enough_1 4 rfl rfl)
theorem dX0_enough_31 : decode cX0_enough 31 = .ok (.invokevirtual 220, 3) := dk_182 0 220 (dk_at dksX0_enough_1 7 rfl rfl)
theorem dX0_enough_34 : decode cX0_enough 34 = .ok (.iload_n 1, 1) := dk_27 (dk_at dksX0_enough_1 10 rfl rfl)
theorem dX0_enough_35 : decode cX0_enough 35 = .ok (.if_icmp .ge 9, 3) := dk_162 0 9 (dk_at dksX0_enough_1 11 rfl rfl)
theorem dX0_enough_38 : decode cX0_enough 38 = .ok (.iinc 2 1, 3) := dk_132 2 1 (dk_at dksX0_enough_1 14 rfl rfl)
theorem dX0_enough_41 : decode cX0_enough 41 = .ok (.goto (-39), 3) := dk_167 255 217 (dk_at dksX0_enough_1 17 rfl rfl)
theorem dX0_enough_44 : decode cX0_enough 44 = .ok (.iload_n 2, 1) := dk_28 (dk_at dksX0_enough_1 20 rfl rfl)
theorem dX0_enough_45 : decode cX0_enough 45 = .ok (.aload_n 0, 1) := dk_42 (dk_at dksX0_enough_1 21 rfl rfl)
theorem dX0_enough_46 : decode cX0_enough 46 = .ok (.getfield 19, 3) := dk_180 0 19 (dk_at dksX0_enough_2 0 rfl rfl)
theorem dX0_enough_49 : decode cX0_enough 49 = .ok (.getfield 208, 3) := dk_180 0 208 (dk_at dksX0_enough_2 3 rfl rfl)
theorem dX0_enough_52 : decode cX0_enough 52 = .ok (.if_icmp .gt 7, 3) := dk_163 0 7 (dk_at dksX0_enough_2 6 rfl rfl)
theorem dX0_enough_55 : decode cX0_enough 55 = .ok (.iload_n 2, 1) := dk_28 (dk_at dksX0_enough_2 9 rfl rfl)
theorem dX0_enough_56 : decode cX0_enough 56 = .ok (.goto 4, 3) := dk_167 0 4 (dk_at dksX0_enough_2 10 rfl rfl)
theorem dX0_enough_59 : decode cX0_enough 59 = .ok (.iconst (-1), 1) := dk_2 (dk_at dksX0_enough_2 13 rfl rfl)
theorem dX0_enough_60 : decode cX0_enough 60 = .ok (.ireturn, 1) := dk_172 (dk_at dksX0_enough_2 14 rfl rfl)
abbrev cX0_toil : ByteArray := prog_1_method_37_code
def yX0_toil : MethodName := ⟨RX0, "toil", "()I"⟩
def dkwX0_toil_0 : List UInt8 := [42, 182, 1, 15, 60, 27, 17, 3, 232, 96, 4, 100, 17, 3, 232, 108, 17, 3, 232, 104, 27, 100, 172]
abbrev dktX0_toil_0 : List UInt8 := dkwX0_toil_0 ++ []
theorem dksX0_toil_0 : cX0_toil.data.toList.drop 0 = dktX0_toil_0 := by decide +kernel
theorem dX0_toil_0 : decode cX0_toil 0 = .ok (.aload_n 0, 1) := dk_42 (dk_at dksX0_toil_0 0 rfl rfl)
theorem dX0_toil_1 : decode cX0_toil 1 = .ok (.invokevirtual 271, 3) := dk_182 1 15 (dk_at dksX0_toil_0 1 rfl rfl)
theorem dX0_toil_4 : decode cX0_toil 4 = .ok (.istore_n 1, 1) := dk_60 (dk_at dksX0_toil_0 4 rfl rfl)
theorem dX0_toil_5 : decode cX0_toil 5 = .ok (.iload_n 1, 1) := dk_27 (dk_at dksX0_toil_0 5 rfl rfl)
theorem dX0_toil_6 : decode cX0_toil 6 = .ok (.sipush 1000, 3) := dk_17 3 232 (dk_at dksX0_toil_0 6 rfl rfl)
theorem dX0_toil_9 : decode cX0_toil 9 = .ok (.iadd, 1) := dk_96 (dk_at dksX0_toil_0 9 rfl rfl)
theorem dX0_toil_10 : decode cX0_toil 10 = .ok (.iconst 1, 1) := dk_4 (dk_at dksX0_toil_0 10 rfl rfl)
theorem dX0_toil_11 : decode cX0_toil 11 = .ok (.isub, 1) := dk_100 (dk_at dksX0_toil_0 11 rfl rfl)
theorem dX0_toil_12 : decode cX0_toil 12 = .ok (.sipush 1000, 3) := dk_17 3 232 (dk_at dksX0_toil_0 12 rfl rfl)
theorem dX0_toil_15 : decode cX0_toil 15 = .ok (.idiv, 1) := dk_108 (dk_at dksX0_toil_0 15 rfl rfl)
theorem dX0_toil_16 : decode cX0_toil 16 = .ok (.sipush 1000, 3) := dk_17 3 232 (dk_at dksX0_toil_0 16 rfl rfl)
theorem dX0_toil_19 : decode cX0_toil 19 = .ok (.imul, 1) := dk_104 (dk_at dksX0_toil_0 19 rfl rfl)
theorem dX0_toil_20 : decode cX0_toil 20 = .ok (.iload_n 1, 1) := dk_27 (dk_at dksX0_toil_0 20 rfl rfl)
theorem dX0_toil_21 : decode cX0_toil 21 = .ok (.isub, 1) := dk_100 (dk_at dksX0_toil_0 21 rfl rfl)
theorem dX0_toil_22 : decode cX0_toil 22 = .ok (.ireturn, 1) := dk_172 (dk_at dksX0_toil_0 22 rfl rfl)
abbrev cX0_settle : ByteArray := prog_1_method_38_code
def yX0_settle : MethodName := ⟨RX0, "settle", "(II)I"⟩
def dkwX0_settle_7 : List UInt8 := [42, 180, 0, 32, 42, 180, 0, 19, 182, 0, 227, 132, 3, 1, 167, 255, 114, 2, 172]
abbrev dktX0_settle_7 : List UInt8 := dkwX0_settle_7 ++ []
def dkwX0_settle_6 : List UInt8 := [181, 0, 113, 167, 255, 155, 42, 180, 0, 32, 42, 180, 0, 19, 27, 3, 182, 0, 184, 154, 0, 5, 29, 172]
abbrev dktX0_settle_6 : List UInt8 := dkwX0_settle_6 ++ dktX0_settle_7
def dkwX0_settle_5 : List UInt8 := [79, 42, 180, 0, 32, 180, 0, 88, 27, 92, 46, 28, 100, 79, 42, 180, 0, 32, 89, 180, 0, 113, 28, 96]
abbrev dktX0_settle_5 : List UInt8 := dkwX0_settle_5 ++ dktX0_settle_6
def dkwX0_settle_4 : List UInt8 := [180, 0, 19, 42, 180, 0, 32, 28, 3, 3, 42, 180, 0, 32, 180, 0, 113, 182, 0, 220, 96, 184, 0, 1]
abbrev dktX0_settle_4 : List UInt8 := dkwX0_settle_4 ++ dktX0_settle_5
def dkwX0_settle_3 : List UInt8 := [161, 0, 78, 42, 180, 0, 32, 180, 0, 107, 27, 17, 39, 15, 42, 180, 0, 32, 180, 0, 107, 27, 46, 42]
abbrev dktX0_settle_3 : List UInt8 := dkwX0_settle_3 ++ dktX0_settle_4
def dkwX0_settle_2 : List UInt8 := [42, 180, 0, 19, 27, 3, 182, 0, 184, 158, 0, 91, 42, 180, 0, 32, 180, 0, 88, 27, 46, 28]
abbrev dktX0_settle_2 : List UInt8 := dkwX0_settle_2 ++ dktX0_settle_3
def dkwX0_settle_1 : List UInt8 := [172, 42, 180, 0, 32, 42, 180, 0, 28, 182, 0, 138, 3, 62, 29, 16, 60, 163, 0, 142, 42, 180, 0, 32]
abbrev dktX0_settle_1 : List UInt8 := dkwX0_settle_1 ++ dktX0_settle_2
def dkwX0_settle_0 : List UInt8 := [42, 27, 182, 0, 188, 153, 0, 18, 28, 4, 42, 180, 0, 19, 180, 0, 208, 184, 0, 155, 154, 0, 5, 2]
abbrev dktX0_settle_0 : List UInt8 := dkwX0_settle_0 ++ dktX0_settle_1
theorem dksX0_settle_0 : cX0_settle.data.toList.drop 0 = dktX0_settle_0 := by decide +kernel
theorem dksX0_settle_1 : cX0_settle.data.toList.drop 24 = dktX0_settle_1 := dk_seg dksX0_settle_0 24 rfl rfl
theorem dksX0_settle_2 : cX0_settle.data.toList.drop 48 = dktX0_settle_2 := dk_seg dksX0_settle_1 24 rfl rfl
theorem dksX0_settle_3 : cX0_settle.data.toList.drop 70 = dktX0_settle_3 := dk_seg dksX0_settle_2 22 rfl rfl
theorem dksX0_settle_4 : cX0_settle.data.toList.drop 94 = dktX0_settle_4 := dk_seg dksX0_settle_3 24 rfl rfl
theorem dksX0_settle_5 : cX0_settle.data.toList.drop 118 = dktX0_settle_5 := dk_seg dksX0_settle_4 24 rfl rfl
theorem dksX0_settle_6 : cX0_settle.data.toList.drop 142 = dktX0_settle_6 := dk_seg dksX0_settle_5 24 rfl rfl
theorem dksX0_settle_7 : cX0_settle.data.toList.drop 166 = dktX0_settle_7 := dk_seg dksX0_settle_6 24 rfl rfl
theorem dX0_settle_0 : decode cX0_settle 0 = .ok (.aload_n 0, 1) := dk_42 (dk_at dksX0_settle_0 0 rfl rfl)
theorem dX0_settle_1 : decode cX0_settle 1 = .ok (.iload_n 1, 1) := dk_27 (dk_at dksX0_settle_0 1 rfl rfl)
theorem dX0_settle_2 : decode cX0_settle 2 = .ok (.invokevirtual 188, 3) := dk_182 0 188 (dk_at dksX0_settle_0 2 rfl rfl)
theorem dX0_settle_5 : decode cX0_settle 5 = .ok (.ifCond .eq 18, 3) := dk_153 0 18 (dk_at dksX0_settle_0 5 rfl rfl)
theorem dX0_settle_8 : decode cX0_settle 8 = .ok (.iload_n 2, 1) := dk_28 (dk_at dksX0_settle_0 8 rfl rfl)
theorem dX0_settle_9 : decode cX0_settle 9 = .ok (.iconst 1, 1) := dk_4 (dk_at dksX0_settle_0 9 rfl rfl)
theorem dX0_settle_10 : decode cX0_settle 10 = .ok (.aload_n 0, 1) := dk_42 (dk_at dksX0_settle_0 10 rfl rfl)
theorem dX0_settle_11 : decode cX0_settle 11 = .ok (.getfield 19, 3) := dk_180 0 19 (dk_at dksX0_settle_0 11 rfl rfl)
theorem dX0_settle_14 : decode cX0_settle 14 = .ok (.getfield 208, 3) := dk_180 0 208 (dk_at dksX0_settle_0 14 rfl rfl)
theorem dX0_settle_17 : decode cX0_settle 17 = .ok (.invokestatic 155, 3) := dk_184 0 155 (dk_at dksX0_settle_0 17 rfl rfl)
theorem dX0_settle_20 : decode cX0_settle 20 = .ok (.ifCond .ne 5, 3) := dk_154 0 5 (dk_at dksX0_settle_0 20 rfl rfl)
theorem dX0_settle_23 : decode cX0_settle 23 = .ok (.iconst (-1), 1) := dk_2 (dk_at dksX0_settle_0 23 rfl rfl)
theorem dX0_settle_24 : decode cX0_settle 24 = .ok (.ireturn, 1) := dk_172 (dk_at dksX0_settle_1 0 rfl rfl)
theorem dX0_settle_25 : decode cX0_settle 25 = .ok (.aload_n 0, 1) := dk_42 (dk_at dksX0_settle_1 1 rfl rfl)
theorem dX0_settle_26 : decode cX0_settle 26 = .ok (.getfield 32, 3) := dk_180 0 32 (dk_at dksX0_settle_1 2 rfl rfl)
theorem dX0_settle_29 : decode cX0_settle 29 = .ok (.aload_n 0, 1) := dk_42 (dk_at dksX0_settle_1 5 rfl rfl)
theorem dX0_settle_30 : decode cX0_settle 30 = .ok (.getfield 28, 3) := dk_180 0 28 (dk_at dksX0_settle_1 6 rfl rfl)
theorem dX0_settle_33 : decode cX0_settle 33 = .ok (.invokevirtual 138, 3) := dk_182 0 138 (dk_at dksX0_settle_1 9 rfl rfl)
theorem dX0_settle_36 : decode cX0_settle 36 = .ok (.iconst 0, 1) := dk_3 (dk_at dksX0_settle_1 12 rfl rfl)
theorem dX0_settle_37 : decode cX0_settle 37 = .ok (.istore_n 3, 1) := dk_62 (dk_at dksX0_settle_1 13 rfl rfl)
theorem dX0_settle_38 : decode cX0_settle 38 = .ok (.iload_n 3, 1) := dk_29 (dk_at dksX0_settle_1 14 rfl rfl)
theorem dX0_settle_39 : decode cX0_settle 39 = .ok (.bipush 60, 2) := dk_16 60 (dk_at dksX0_settle_1 15 rfl rfl)
theorem dX0_settle_41 : decode cX0_settle 41 = .ok (.if_icmp .gt 142, 3) := dk_163 0 142 (dk_at dksX0_settle_1 17 rfl rfl)
theorem dX0_settle_44 : decode cX0_settle 44 = .ok (.aload_n 0, 1) := dk_42 (dk_at dksX0_settle_1 20 rfl rfl)
theorem dX0_settle_45 : decode cX0_settle 45 = .ok (.getfield 32, 3) := dk_180 0 32 (dk_at dksX0_settle_1 21 rfl rfl)
theorem dX0_settle_48 : decode cX0_settle 48 = .ok (.aload_n 0, 1) := dk_42 (dk_at dksX0_settle_2 0 rfl rfl)
theorem dX0_settle_49 : decode cX0_settle 49 = .ok (.getfield 19, 3) := dk_180 0 19 (dk_at dksX0_settle_2 1 rfl rfl)
theorem dX0_settle_52 : decode cX0_settle 52 = .ok (.iload_n 1, 1) := dk_27 (dk_at dksX0_settle_2 4 rfl rfl)
theorem dX0_settle_53 : decode cX0_settle 53 = .ok (.iconst 0, 1) := dk_3 (dk_at dksX0_settle_2 5 rfl rfl)
theorem dX0_settle_54 : decode cX0_settle 54 = .ok (.invokevirtual 184, 3) := dk_182 0 184 (dk_at dksX0_settle_2 6 rfl rfl)
theorem dX0_settle_57 : decode cX0_settle 57 = .ok (.ifCond .le 91, 3) := dk_158 0 91 (dk_at dksX0_settle_2 9 rfl rfl)
theorem dX0_settle_60 : decode cX0_settle 60 = .ok (.aload_n 0, 1) := dk_42 (dk_at dksX0_settle_2 12 rfl rfl)
theorem dX0_settle_61 : decode cX0_settle 61 = .ok (.getfield 32, 3) := dk_180 0 32 (dk_at dksX0_settle_2 13 rfl rfl)
theorem dX0_settle_64 : decode cX0_settle 64 = .ok (.getfield 88, 3) := dk_180 0 88 (dk_at dksX0_settle_2 16 rfl rfl)
theorem dX0_settle_67 : decode cX0_settle 67 = .ok (.iload_n 1, 1) := dk_27 (dk_at dksX0_settle_2 19 rfl rfl)
theorem dX0_settle_68 : decode cX0_settle 68 = .ok (.iaload, 1) := dk_46 (dk_at dksX0_settle_2 20 rfl rfl)
theorem dX0_settle_69 : decode cX0_settle 69 = .ok (.iload_n 2, 1) := dk_28 (dk_at dksX0_settle_2 21 rfl rfl)
theorem dX0_settle_70 : decode cX0_settle 70 = .ok (.if_icmp .lt 78, 3) := dk_161 0 78 (dk_at dksX0_settle_3 0 rfl rfl)
theorem dX0_settle_73 : decode cX0_settle 73 = .ok (.aload_n 0, 1) := dk_42 (dk_at dksX0_settle_3 3 rfl rfl)
theorem dX0_settle_74 : decode cX0_settle 74 = .ok (.getfield 32, 3) := dk_180 0 32 (dk_at dksX0_settle_3 4 rfl rfl)
theorem dX0_settle_77 : decode cX0_settle 77 = .ok (.getfield 107, 3) := dk_180 0 107 (dk_at dksX0_settle_3 7 rfl rfl)
theorem dX0_settle_80 : decode cX0_settle 80 = .ok (.iload_n 1, 1) := dk_27 (dk_at dksX0_settle_3 10 rfl rfl)
theorem dX0_settle_81 : decode cX0_settle 81 = .ok (.sipush 9999, 3) := dk_17 39 15 (dk_at dksX0_settle_3 11 rfl rfl)
theorem dX0_settle_84 : decode cX0_settle 84 = .ok (.aload_n 0, 1) := dk_42 (dk_at dksX0_settle_3 14 rfl rfl)
theorem dX0_settle_85 : decode cX0_settle 85 = .ok (.getfield 32, 3) := dk_180 0 32 (dk_at dksX0_settle_3 15 rfl rfl)
theorem dX0_settle_88 : decode cX0_settle 88 = .ok (.getfield 107, 3) := dk_180 0 107 (dk_at dksX0_settle_3 18 rfl rfl)
theorem dX0_settle_91 : decode cX0_settle 91 = .ok (.iload_n 1, 1) := dk_27 (dk_at dksX0_settle_3 21 rfl rfl)
theorem dX0_settle_92 : decode cX0_settle 92 = .ok (.iaload, 1) := dk_46 (dk_at dksX0_settle_3 22 rfl rfl)
theorem dX0_settle_93 : decode cX0_settle 93 = .ok (.aload_n 0, 1) := dk_42 (dk_at dksX0_settle_3 23 rfl rfl)
theorem dX0_settle_94 : decode cX0_settle 94 = .ok (.getfield 19, 3) := dk_180 0 19 (dk_at dksX0_settle_4 0 rfl rfl)
theorem dX0_settle_97 : decode cX0_settle 97 = .ok (.aload_n 0, 1) := dk_42 (dk_at dksX0_settle_4 3 rfl rfl)
theorem dX0_settle_98 : decode cX0_settle 98 = .ok (.getfield 32, 3) := dk_180 0 32 (dk_at dksX0_settle_4 4 rfl rfl)
theorem dX0_settle_101 : decode cX0_settle 101 = .ok (.iload_n 2, 1) := dk_28 (dk_at dksX0_settle_4 7 rfl rfl)
theorem dX0_settle_102 : decode cX0_settle 102 = .ok (.iconst 0, 1) := dk_3 (dk_at dksX0_settle_4 8 rfl rfl)
theorem dX0_settle_103 : decode cX0_settle 103 = .ok (.iconst 0, 1) := dk_3 (dk_at dksX0_settle_4 9 rfl rfl)
theorem dX0_settle_104 : decode cX0_settle 104 = .ok (.aload_n 0, 1) := dk_42 (dk_at dksX0_settle_4 10 rfl rfl)
theorem dX0_settle_105 : decode cX0_settle 105 = .ok (.getfield 32, 3) := dk_180 0 32 (dk_at dksX0_settle_4 11 rfl rfl)
theorem dX0_settle_108 : decode cX0_settle 108 = .ok (.getfield 113, 3) := dk_180 0 113 (dk_at dksX0_settle_4 14 rfl rfl)
theorem dX0_settle_111 : decode cX0_settle 111 = .ok (.invokevirtual 220, 3) := dk_182 0 220 (dk_at dksX0_settle_4 17 rfl rfl)
theorem dX0_settle_114 : decode cX0_settle 114 = .ok (.iadd, 1) := dk_96 (dk_at dksX0_settle_4 20 rfl rfl)
theorem dX0_settle_115 : decode cX0_settle 115 = .ok (.invokestatic 1, 3) := dk_184 0 1 (dk_at dksX0_settle_4 21 rfl rfl)
theorem dX0_settle_118 : decode cX0_settle 118 = .ok (.iastore, 1) := dk_79 (dk_at dksX0_settle_5 0 rfl rfl)
theorem dX0_settle_119 : decode cX0_settle 119 = .ok (.aload_n 0, 1) := dk_42 (dk_at dksX0_settle_5 1 rfl rfl)
theorem dX0_settle_120 : decode cX0_settle 120 = .ok (.getfield 32, 3) := dk_180 0 32 (dk_at dksX0_settle_5 2 rfl rfl)
theorem dX0_settle_123 : decode cX0_settle 123 = .ok (.getfield 88, 3) := dk_180 0 88 (dk_at dksX0_settle_5 5 rfl rfl)
theorem dX0_settle_126 : decode cX0_settle 126 = .ok (.iload_n 1, 1) := dk_27 (dk_at dksX0_settle_5 8 rfl rfl)
theorem dX0_settle_127 : decode cX0_settle 127 = .ok (.dup2, 1) := dk_92 (dk_at dksX0_settle_5 9 rfl rfl)
theorem dX0_settle_128 : decode cX0_settle 128 = .ok (.iaload, 1) := dk_46 (dk_at dksX0_settle_5 10 rfl rfl)
theorem dX0_settle_129 : decode cX0_settle 129 = .ok (.iload_n 2, 1) := dk_28 (dk_at dksX0_settle_5 11 rfl rfl)
theorem dX0_settle_130 : decode cX0_settle 130 = .ok (.isub, 1) := dk_100 (dk_at dksX0_settle_5 12 rfl rfl)
theorem dX0_settle_131 : decode cX0_settle 131 = .ok (.iastore, 1) := dk_79 (dk_at dksX0_settle_5 13 rfl rfl)
theorem dX0_settle_132 : decode cX0_settle 132 = .ok (.aload_n 0, 1) := dk_42 (dk_at dksX0_settle_5 14 rfl rfl)
theorem dX0_settle_133 : decode cX0_settle 133 = .ok (.getfield 32, 3) := dk_180 0 32 (dk_at dksX0_settle_5 15 rfl rfl)
theorem dX0_settle_136 : decode cX0_settle 136 = .ok (.dup, 1) := dk_89 (dk_at dksX0_settle_5 18 rfl rfl)
theorem dX0_settle_137 : decode cX0_settle 137 = .ok (.getfield 113, 3) := dk_180 0 113 (dk_at dksX0_settle_5 19 rfl rfl)
theorem dX0_settle_140 : decode cX0_settle 140 = .ok (.iload_n 2, 1) := dk_28 (dk_at dksX0_settle_5 22 rfl rfl)
theorem dX0_settle_141 : decode cX0_settle 141 = .ok (.iadd, 1) := dk_96 (dk_at dksX0_settle_5 23 rfl rfl)
theorem dX0_settle_142 : decode cX0_settle 142 = .ok (.putfield 113, 3) := dk_181 0 113 (dk_at dksX0_settle_6 0 rfl rfl)
theorem dX0_settle_145 : decode cX0_settle 145 = .ok (.goto (-101), 3) := dk_167 255 155 (dk_at dksX0_settle_6 3 rfl rfl)
theorem dX0_settle_148 : decode cX0_settle 148 = .ok (.aload_n 0, 1) := dk_42 (dk_at dksX0_settle_6 6 rfl rfl)
theorem dX0_settle_149 : decode cX0_settle 149 = .ok (.getfield 32, 3) := dk_180 0 32 (dk_at dksX0_settle_6 7 rfl rfl)
theorem dX0_settle_152 : decode cX0_settle 152 = .ok (.aload_n 0, 1) := dk_42 (dk_at dksX0_settle_6 10 rfl rfl)
theorem dX0_settle_153 : decode cX0_settle 153 = .ok (.getfield 19, 3) := dk_180 0 19 (dk_at dksX0_settle_6 11 rfl rfl)
theorem dX0_settle_156 : decode cX0_settle 156 = .ok (.iload_n 1, 1) := dk_27 (dk_at dksX0_settle_6 14 rfl rfl)
theorem dX0_settle_157 : decode cX0_settle 157 = .ok (.iconst 0, 1) := dk_3 (dk_at dksX0_settle_6 15 rfl rfl)
theorem dX0_settle_158 : decode cX0_settle 158 = .ok (.invokevirtual 184, 3) := dk_182 0 184 (dk_at dksX0_settle_6 16 rfl rfl)
theorem dX0_settle_161 : decode cX0_settle 161 = .ok (.ifCond .ne 5, 3) := dk_154 0 5 (dk_at dksX0_settle_6 19 rfl rfl)
theorem dX0_settle_164 : decode cX0_settle 164 = .ok (.iload_n 3, 1) := dk_29 (dk_at dksX0_settle_6 22 rfl rfl)
theorem dX0_settle_165 : decode cX0_settle 165 = .ok (.ireturn, 1) := dk_172 (dk_at dksX0_settle_6 23 rfl rfl)
theorem dX0_settle_166 : decode cX0_settle 166 = .ok (.aload_n 0, 1) := dk_42 (dk_at dksX0_settle_7 0 rfl rfl)
theorem dX0_settle_167 : decode cX0_settle 167 = .ok (.getfield 32, 3) := dk_180 0 32 (dk_at dksX0_settle_7 1 rfl rfl)
theorem dX0_settle_170 : decode cX0_settle 170 = .ok (.aload_n 0, 1) := dk_42 (dk_at dksX0_settle_7 4 rfl rfl)
theorem dX0_settle_171 : decode cX0_settle 171 = .ok (.getfield 19, 3) := dk_180 0 19 (dk_at dksX0_settle_7 5 rfl rfl)
theorem dX0_settle_174 : decode cX0_settle 174 = .ok (.invokevirtual 227, 3) := dk_182 0 227 (dk_at dksX0_settle_7 8 rfl rfl)
theorem dX0_settle_177 : decode cX0_settle 177 = .ok (.iinc 3 1, 3) := dk_132 3 1 (dk_at dksX0_settle_7 11 rfl rfl)
theorem dX0_settle_180 : decode cX0_settle 180 = .ok (.goto (-142), 3) := dk_167 255 114 (dk_at dksX0_settle_7 14 rfl rfl)
theorem dX0_settle_183 : decode cX0_settle 183 = .ok (.iconst (-1), 1) := dk_2 (dk_at dksX0_settle_7 17 rfl rfl)
theorem dX0_settle_184 : decode cX0_settle 184 = .ok (.ireturn, 1) := dk_172 (dk_at dksX0_settle_7 18 rfl rfl)
abbrev cX0_hover : ByteArray := prog_1_method_39_code
def yX0_hover : MethodName := ⟨RX0, "hover", "(I)I"⟩
def dkwX0_hover_2 : List UInt8 := [182, 0, 227, 132, 2, 1, 167, 255, 228, 42, 180, 0, 32, 180, 0, 119, 172]
abbrev dktX0_hover_2 : List UInt8 := dkwX0_hover_2 ++ []
def dkwX0_hover_1 : List UInt8 := [3, 61, 28, 16, 60, 162, 0, 28, 42, 180, 0, 32, 27, 181, 0, 113, 42, 180, 0, 32, 42, 180, 0, 19]
abbrev dktX0_hover_1 : List UInt8 := dkwX0_hover_1 ++ dktX0_hover_2
def dkwX0_hover_0 : List UInt8 := [27, 3, 17, 3, 231, 184, 0, 155, 154, 0, 5, 2, 172, 42, 180, 0, 32, 42, 180, 0, 28, 182, 0, 138]
abbrev dktX0_hover_0 : List UInt8 := dkwX0_hover_0 ++ dktX0_hover_1
theorem dksX0_hover_0 : cX0_hover.data.toList.drop 0 = dktX0_hover_0 := by decide +kernel
theorem dksX0_hover_1 : cX0_hover.data.toList.drop 24 = dktX0_hover_1 := dk_seg dksX0_hover_0 24 rfl rfl
theorem dksX0_hover_2 : cX0_hover.data.toList.drop 48 = dktX0_hover_2 := dk_seg dksX0_hover_1 24 rfl rfl
theorem dX0_hover_0 : decode cX0_hover 0 = .ok (.iload_n 1, 1) := dk_27 (dk_at dksX0_hover_0 0 rfl rfl)
theorem dX0_hover_1 : decode cX0_hover 1 = .ok (.iconst 0, 1) := dk_3 (dk_at dksX0_hover_0 1 rfl rfl)
theorem dX0_hover_2 : decode cX0_hover 2 = .ok (.sipush 999, 3) := dk_17 3 231 (dk_at dksX0_hover_0 2 rfl rfl)
theorem dX0_hover_5 : decode cX0_hover 5 = .ok (.invokestatic 155, 3) := dk_184 0 155 (dk_at dksX0_hover_0 5 rfl rfl)
theorem dX0_hover_8 : decode cX0_hover 8 = .ok (.ifCond .ne 5, 3) := dk_154 0 5 (dk_at dksX0_hover_0 8 rfl rfl)
theorem dX0_hover_11 : decode cX0_hover 11 = .ok (.iconst (-1), 1) := dk_2 (dk_at dksX0_hover_0 11 rfl rfl)
theorem dX0_hover_12 : decode cX0_hover 12 = .ok (.ireturn, 1) := dk_172 (dk_at dksX0_hover_0 12 rfl rfl)
theorem dX0_hover_13 : decode cX0_hover 13 = .ok (.aload_n 0, 1) := dk_42 (dk_at dksX0_hover_0 13 rfl rfl)
theorem dX0_hover_14 : decode cX0_hover 14 = .ok (.getfield 32, 3) := dk_180 0 32 (dk_at dksX0_hover_0 14 rfl rfl)
theorem dX0_hover_17 : decode cX0_hover 17 = .ok (.aload_n 0, 1) := dk_42 (dk_at dksX0_hover_0 17 rfl rfl)
theorem dX0_hover_18 : decode cX0_hover 18 = .ok (.getfield 28, 3) := dk_180 0 28 (dk_at dksX0_hover_0 18 rfl rfl)
theorem dX0_hover_21 : decode cX0_hover 21 = .ok (.invokevirtual 138, 3) := dk_182 0 138 (dk_at dksX0_hover_0 21 rfl rfl)
theorem dX0_hover_24 : decode cX0_hover 24 = .ok (.iconst 0, 1) := dk_3 (dk_at dksX0_hover_1 0 rfl rfl)
theorem dX0_hover_25 : decode cX0_hover 25 = .ok (.istore_n 2, 1) := dk_61 (dk_at dksX0_hover_1 1 rfl rfl)
theorem dX0_hover_26 : decode cX0_hover 26 = .ok (.iload_n 2, 1) := dk_28 (dk_at dksX0_hover_1 2 rfl rfl)
theorem dX0_hover_27 : decode cX0_hover 27 = .ok (.bipush 60, 2) := dk_16 60 (dk_at dksX0_hover_1 3 rfl rfl)
theorem dX0_hover_29 : decode cX0_hover 29 = .ok (.if_icmp .ge 28, 3) := dk_162 0 28 (dk_at dksX0_hover_1 5 rfl rfl)
theorem dX0_hover_32 : decode cX0_hover 32 = .ok (.aload_n 0, 1) := dk_42 (dk_at dksX0_hover_1 8 rfl rfl)
theorem dX0_hover_33 : decode cX0_hover 33 = .ok (.getfield 32, 3) := dk_180 0 32 (dk_at dksX0_hover_1 9 rfl rfl)
theorem dX0_hover_36 : decode cX0_hover 36 = .ok (.iload_n 1, 1) := dk_27 (dk_at dksX0_hover_1 12 rfl rfl)
theorem dX0_hover_37 : decode cX0_hover 37 = .ok (.putfield 113, 3) := dk_181 0 113 (dk_at dksX0_hover_1 13 rfl rfl)
theorem dX0_hover_40 : decode cX0_hover 40 = .ok (.aload_n 0, 1) := dk_42 (dk_at dksX0_hover_1 16 rfl rfl)
theorem dX0_hover_41 : decode cX0_hover 41 = .ok (.getfield 32, 3) := dk_180 0 32 (dk_at dksX0_hover_1 17 rfl rfl)
theorem dX0_hover_44 : decode cX0_hover 44 = .ok (.aload_n 0, 1) := dk_42 (dk_at dksX0_hover_1 20 rfl rfl)
theorem dX0_hover_45 : decode cX0_hover 45 = .ok (.getfield 19, 3) := dk_180 0 19 (dk_at dksX0_hover_1 21 rfl rfl)
theorem dX0_hover_48 : decode cX0_hover 48 = .ok (.invokevirtual 227, 3) := dk_182 0 227 (dk_at dksX0_hover_2 0 rfl rfl)
theorem dX0_hover_51 : decode cX0_hover 51 = .ok (.iinc 2 1, 3) := dk_132 2 1 (dk_at dksX0_hover_2 3 rfl rfl)
theorem dX0_hover_54 : decode cX0_hover 54 = .ok (.goto (-28), 3) := dk_167 255 228 (dk_at dksX0_hover_2 6 rfl rfl)
theorem dX0_hover_57 : decode cX0_hover 57 = .ok (.aload_n 0, 1) := dk_42 (dk_at dksX0_hover_2 9 rfl rfl)
theorem dX0_hover_58 : decode cX0_hover 58 = .ok (.getfield 32, 3) := dk_180 0 32 (dk_at dksX0_hover_2 10 rfl rfl)
theorem dX0_hover_61 : decode cX0_hover 61 = .ok (.getfield 119, 3) := dk_180 0 119 (dk_at dksX0_hover_2 13 rfl rfl)
theorem dX0_hover_64 : decode cX0_hover 64 = .ok (.ireturn, 1) := dk_172 (dk_at dksX0_hover_2 16 rfl rfl)
abbrev cX0_ruin : ByteArray := prog_1_method_40_code
def yX0_ruin : MethodName := ⟨RX0, "ruin", "(I)I"⟩
def dkwX0_ruin_3 : List UInt8 := [132, 3, 1, 167, 255, 233, 28, 172]
abbrev dktX0_ruin_3 : List UInt8 := dkwX0_ruin_3 ++ []
def dkwX0_ruin_2 : List UInt8 := [61, 3, 62, 29, 42, 182, 0, 91, 162, 0, 21, 28, 42, 180, 0, 32, 180, 0, 110, 29, 46, 96, 61]
abbrev dktX0_ruin_2 : List UInt8 := dkwX0_ruin_2 ++ dktX0_ruin_3
def dkwX0_ruin_1 : List UInt8 := [61, 28, 27, 162, 0, 20, 42, 180, 0, 32, 42, 180, 0, 19, 182, 0, 227, 132, 2, 1, 167, 255, 237, 3]
abbrev dktX0_ruin_1 : List UInt8 := dkwX0_ruin_1 ++ dktX0_ruin_2
def dkwX0_ruin_0 : List UInt8 := [27, 3, 16, 60, 184, 0, 155, 154, 0, 5, 2, 172, 42, 180, 0, 32, 42, 180, 0, 28, 182, 0, 138, 3]
abbrev dktX0_ruin_0 : List UInt8 := dkwX0_ruin_0 ++ dktX0_ruin_1
theorem dksX0_ruin_0 : cX0_ruin.data.toList.drop 0 = dktX0_ruin_0 := by decide +kernel
theorem dksX0_ruin_1 : cX0_ruin.data.toList.drop 24 = dktX0_ruin_1 := dk_seg dksX0_ruin_0 24 rfl rfl
theorem dksX0_ruin_2 : cX0_ruin.data.toList.drop 48 = dktX0_ruin_2 := dk_seg dksX0_ruin_1 24 rfl rfl
theorem dksX0_ruin_3 : cX0_ruin.data.toList.drop 71 = dktX0_ruin_3 := dk_seg dksX0_ruin_2 23 rfl rfl
theorem dX0_ruin_0 : decode cX0_ruin 0 = .ok (.iload_n 1, 1) := dk_27 (dk_at dksX0_ruin_0 0 rfl rfl)
theorem dX0_ruin_1 : decode cX0_ruin 1 = .ok (.iconst 0, 1) := dk_3 (dk_at dksX0_ruin_0 1 rfl rfl)
theorem dX0_ruin_2 : decode cX0_ruin 2 = .ok (.bipush 60, 2) := dk_16 60 (dk_at dksX0_ruin_0 2 rfl rfl)
theorem dX0_ruin_4 : decode cX0_ruin 4 = .ok (.invokestatic 155, 3) := dk_184 0 155 (dk_at dksX0_ruin_0 4 rfl rfl)
theorem dX0_ruin_7 : decode cX0_ruin 7 = .ok (.ifCond .ne 5, 3) := dk_154 0 5 (dk_at dksX0_ruin_0 7 rfl rfl)
theorem dX0_ruin_10 : decode cX0_ruin 10 = .ok (.iconst (-1), 1) := dk_2 (dk_at dksX0_ruin_0 10 rfl rfl)
theorem dX0_ruin_11 : decode cX0_ruin 11 = .ok (.ireturn, 1) := dk_172 (dk_at dksX0_ruin_0 11 rfl rfl)
theorem dX0_ruin_12 : decode cX0_ruin 12 = .ok (.aload_n 0, 1) := dk_42 (dk_at dksX0_ruin_0 12 rfl rfl)
theorem dX0_ruin_13 : decode cX0_ruin 13 = .ok (.getfield 32, 3) := dk_180 0 32 (dk_at dksX0_ruin_0 13 rfl rfl)
theorem dX0_ruin_16 : decode cX0_ruin 16 = .ok (.aload_n 0, 1) := dk_42 (dk_at dksX0_ruin_0 16 rfl rfl)
theorem dX0_ruin_17 : decode cX0_ruin 17 = .ok (.getfield 28, 3) := dk_180 0 28 (dk_at dksX0_ruin_0 17 rfl rfl)
theorem dX0_ruin_20 : decode cX0_ruin 20 = .ok (.invokevirtual 138, 3) := dk_182 0 138 (dk_at dksX0_ruin_0 20 rfl rfl)
theorem dX0_ruin_23 : decode cX0_ruin 23 = .ok (.iconst 0, 1) := dk_3 (dk_at dksX0_ruin_0 23 rfl rfl)
theorem dX0_ruin_24 : decode cX0_ruin 24 = .ok (.istore_n 2, 1) := dk_61 (dk_at dksX0_ruin_1 0 rfl rfl)
theorem dX0_ruin_25 : decode cX0_ruin 25 = .ok (.iload_n 2, 1) := dk_28 (dk_at dksX0_ruin_1 1 rfl rfl)
theorem dX0_ruin_26 : decode cX0_ruin 26 = .ok (.iload_n 1, 1) := dk_27 (dk_at dksX0_ruin_1 2 rfl rfl)
theorem dX0_ruin_27 : decode cX0_ruin 27 = .ok (.if_icmp .ge 20, 3) := dk_162 0 20 (dk_at dksX0_ruin_1 3 rfl rfl)
theorem dX0_ruin_30 : decode cX0_ruin 30 = .ok (.aload_n 0, 1) := dk_42 (dk_at dksX0_ruin_1 6 rfl rfl)
theorem dX0_ruin_31 : decode cX0_ruin 31 = .ok (.getfield 32, 3) := dk_180 0 32 (dk_at dksX0_ruin_1 7 rfl rfl)
theorem dX0_ruin_34 : decode cX0_ruin 34 = .ok (.aload_n 0, 1) := dk_42 (dk_at dksX0_ruin_1 10 rfl rfl)
theorem dX0_ruin_35 : decode cX0_ruin 35 = .ok (.getfield 19, 3) := dk_180 0 19 (dk_at dksX0_ruin_1 11 rfl rfl)
theorem dX0_ruin_38 : decode cX0_ruin 38 = .ok (.invokevirtual 227, 3) := dk_182 0 227 (dk_at dksX0_ruin_1 14 rfl rfl)
theorem dX0_ruin_41 : decode cX0_ruin 41 = .ok (.iinc 2 1, 3) := dk_132 2 1 (dk_at dksX0_ruin_1 17 rfl rfl)
theorem dX0_ruin_44 : decode cX0_ruin 44 = .ok (.goto (-19), 3) := dk_167 255 237 (dk_at dksX0_ruin_1 20 rfl rfl)
theorem dX0_ruin_47 : decode cX0_ruin 47 = .ok (.iconst 0, 1) := dk_3 (dk_at dksX0_ruin_1 23 rfl rfl)
theorem dX0_ruin_48 : decode cX0_ruin 48 = .ok (.istore_n 2, 1) := dk_61 (dk_at dksX0_ruin_2 0 rfl rfl)
theorem dX0_ruin_49 : decode cX0_ruin 49 = .ok (.iconst 0, 1) := dk_3 (dk_at dksX0_ruin_2 1 rfl rfl)
theorem dX0_ruin_50 : decode cX0_ruin 50 = .ok (.istore_n 3, 1) := dk_62 (dk_at dksX0_ruin_2 2 rfl rfl)
theorem dX0_ruin_51 : decode cX0_ruin 51 = .ok (.iload_n 3, 1) := dk_29 (dk_at dksX0_ruin_2 3 rfl rfl)
theorem dX0_ruin_52 : decode cX0_ruin 52 = .ok (.aload_n 0, 1) := dk_42 (dk_at dksX0_ruin_2 4 rfl rfl)
theorem dX0_ruin_53 : decode cX0_ruin 53 = .ok (.invokevirtual 91, 3) := dk_182 0 91 (dk_at dksX0_ruin_2 5 rfl rfl)
theorem dX0_ruin_56 : decode cX0_ruin 56 = .ok (.if_icmp .ge 21, 3) := dk_162 0 21 (dk_at dksX0_ruin_2 8 rfl rfl)
theorem dX0_ruin_59 : decode cX0_ruin 59 = .ok (.iload_n 2, 1) := dk_28 (dk_at dksX0_ruin_2 11 rfl rfl)
theorem dX0_ruin_60 : decode cX0_ruin 60 = .ok (.aload_n 0, 1) := dk_42 (dk_at dksX0_ruin_2 12 rfl rfl)
theorem dX0_ruin_61 : decode cX0_ruin 61 = .ok (.getfield 32, 3) := dk_180 0 32 (dk_at dksX0_ruin_2 13 rfl rfl)
theorem dX0_ruin_64 : decode cX0_ruin 64 = .ok (.getfield 110, 3) := dk_180 0 110 (dk_at dksX0_ruin_2 16 rfl rfl)
theorem dX0_ruin_67 : decode cX0_ruin 67 = .ok (.iload_n 3, 1) := dk_29 (dk_at dksX0_ruin_2 19 rfl rfl)
theorem dX0_ruin_68 : decode cX0_ruin 68 = .ok (.iaload, 1) := dk_46 (dk_at dksX0_ruin_2 20 rfl rfl)
theorem dX0_ruin_69 : decode cX0_ruin 69 = .ok (.iadd, 1) := dk_96 (dk_at dksX0_ruin_2 21 rfl rfl)
theorem dX0_ruin_70 : decode cX0_ruin 70 = .ok (.istore_n 2, 1) := dk_61 (dk_at dksX0_ruin_2 22 rfl rfl)
theorem dX0_ruin_71 : decode cX0_ruin 71 = .ok (.iinc 3 1, 3) := dk_132 3 1 (dk_at dksX0_ruin_3 0 rfl rfl)
theorem dX0_ruin_74 : decode cX0_ruin 74 = .ok (.goto (-23), 3) := dk_167 255 233 (dk_at dksX0_ruin_3 3 rfl rfl)
theorem dX0_ruin_77 : decode cX0_ruin 77 = .ok (.iload_n 2, 1) := dk_28 (dk_at dksX0_ruin_3 6 rfl rfl)
theorem dX0_ruin_78 : decode cX0_ruin 78 = .ok (.ireturn, 1) := dk_172 (dk_at dksX0_ruin_3 7 rfl rfl)
abbrev cX0_team : ByteArray := prog_1_method_41_code
def yX0_team : MethodName := ⟨RX0, "team", "(II)I"⟩
def dkwX0_team_6 : List UInt8 := [167, 0, 4, 29, 172]
abbrev dktX0_team_6 : List UInt8 := dkwX0_team_6 ++ []
def dkwX0_team_5 : List UInt8 := [132, 4, 1, 167, 255, 167, 29, 156, 0, 7, 2, 167, 0, 15, 28, 154, 0, 10, 29, 184, 1, 18]
abbrev dktX0_team_5 : List UInt8 := dkwX0_team_5 ++ dktX0_team_6
def dkwX0_team_4 : List UInt8 := [161, 0, 22, 29, 155, 0, 15, 21, 4, 184, 1, 18, 29, 184, 1, 18, 162, 0, 6, 21, 4, 62]
abbrev dktX0_team_4 : List UInt8 := dkwX0_team_4 ++ dktX0_team_5
def dkwX0_team_3 : List UInt8 := [180, 0, 88, 21, 6, 46, 167, 0, 4, 3, 96, 54, 5, 132, 6, 1, 167, 255, 215, 21, 5, 27]
abbrev dktX0_team_3 : List UInt8 := dkwX0_team_3 ++ dktX0_team_4
def dkwX0_team_2 : List UInt8 := [182, 0, 91, 162, 0, 38, 21, 5, 21, 4, 21, 6, 184, 1, 2, 153, 0, 16, 42, 180, 0, 28]
abbrev dktX0_team_2 : List UInt8 := dkwX0_team_2 ++ dktX0_team_3
def dkwX0_team_1 : List UInt8 := [3, 54, 4, 21, 4, 4, 42, 182, 0, 91, 120, 162, 0, 84, 3, 54, 5, 3, 54, 6, 21, 6, 42]
abbrev dktX0_team_1 : List UInt8 := dkwX0_team_1 ++ dktX0_team_2
def dkwX0_team_0 : List UInt8 := [27, 3, 17, 1, 144, 184, 0, 155, 153, 0, 12, 28, 3, 4, 184, 0, 155, 154, 0, 5, 2, 172, 2, 62]
abbrev dktX0_team_0 : List UInt8 := dkwX0_team_0 ++ dktX0_team_1
theorem dksX0_team_0 : cX0_team.data.toList.drop 0 = dktX0_team_0 := by decide +kernel
theorem dksX0_team_1 : cX0_team.data.toList.drop 24 = dktX0_team_1 := dk_seg dksX0_team_0 24 rfl rfl
theorem dksX0_team_2 : cX0_team.data.toList.drop 47 = dktX0_team_2 := dk_seg dksX0_team_1 23 rfl rfl
theorem dksX0_team_3 : cX0_team.data.toList.drop 69 = dktX0_team_3 := dk_seg dksX0_team_2 22 rfl rfl
theorem dksX0_team_4 : cX0_team.data.toList.drop 91 = dktX0_team_4 := dk_seg dksX0_team_3 22 rfl rfl
theorem dksX0_team_5 : cX0_team.data.toList.drop 113 = dktX0_team_5 := dk_seg dksX0_team_4 22 rfl rfl
theorem dksX0_team_6 : cX0_team.data.toList.drop 135 = dktX0_team_6 := dk_seg dksX0_team_5 22 rfl rfl
theorem dX0_team_0 : decode cX0_team 0 = .ok (.iload_n 1, 1) := dk_27 (dk_at dksX0_team_0 0 rfl rfl)
theorem dX0_team_1 : decode cX0_team 1 = .ok (.iconst 0, 1) := dk_3 (dk_at dksX0_team_0 1 rfl rfl)
theorem dX0_team_2 : decode cX0_team 2 = .ok (.sipush 400, 3) := dk_17 1 144 (dk_at dksX0_team_0 2 rfl rfl)
theorem dX0_team_5 : decode cX0_team 5 = .ok (.invokestatic 155, 3) := dk_184 0 155 (dk_at dksX0_team_0 5 rfl rfl)
theorem dX0_team_8 : decode cX0_team 8 = .ok (.ifCond .eq 12, 3) := dk_153 0 12 (dk_at dksX0_team_0 8 rfl rfl)
theorem dX0_team_11 : decode cX0_team 11 = .ok (.iload_n 2, 1) := dk_28 (dk_at dksX0_team_0 11 rfl rfl)
theorem dX0_team_12 : decode cX0_team 12 = .ok (.iconst 0, 1) := dk_3 (dk_at dksX0_team_0 12 rfl rfl)
theorem dX0_team_13 : decode cX0_team 13 = .ok (.iconst 1, 1) := dk_4 (dk_at dksX0_team_0 13 rfl rfl)
theorem dX0_team_14 : decode cX0_team 14 = .ok (.invokestatic 155, 3) := dk_184 0 155 (dk_at dksX0_team_0 14 rfl rfl)
theorem dX0_team_17 : decode cX0_team 17 = .ok (.ifCond .ne 5, 3) := dk_154 0 5 (dk_at dksX0_team_0 17 rfl rfl)
theorem dX0_team_20 : decode cX0_team 20 = .ok (.iconst (-1), 1) := dk_2 (dk_at dksX0_team_0 20 rfl rfl)
theorem dX0_team_21 : decode cX0_team 21 = .ok (.ireturn, 1) := dk_172 (dk_at dksX0_team_0 21 rfl rfl)
theorem dX0_team_22 : decode cX0_team 22 = .ok (.iconst (-1), 1) := dk_2 (dk_at dksX0_team_0 22 rfl rfl)
theorem dX0_team_23 : decode cX0_team 23 = .ok (.istore_n 3, 1) := dk_62 (dk_at dksX0_team_0 23 rfl rfl)
theorem dX0_team_24 : decode cX0_team 24 = .ok (.iconst 0, 1) := dk_3 (dk_at dksX0_team_1 0 rfl rfl)
theorem dX0_team_25 : decode cX0_team 25 = .ok (.istore 4, 2) := dk_54 4 (dk_at dksX0_team_1 1 rfl rfl)
theorem dX0_team_27 : decode cX0_team 27 = .ok (.iload 4, 2) := dk_21 4 (dk_at dksX0_team_1 3 rfl rfl)
theorem dX0_team_29 : decode cX0_team 29 = .ok (.iconst 1, 1) := dk_4 (dk_at dksX0_team_1 5 rfl rfl)
theorem dX0_team_30 : decode cX0_team 30 = .ok (.aload_n 0, 1) := dk_42 (dk_at dksX0_team_1 6 rfl rfl)
theorem dX0_team_31 : decode cX0_team 31 = .ok (.invokevirtual 91, 3) := dk_182 0 91 (dk_at dksX0_team_1 7 rfl rfl)
theorem dX0_team_34 : decode cX0_team 34 = .ok (.ishl, 1) := dk_120 (dk_at dksX0_team_1 10 rfl rfl)
theorem dX0_team_35 : decode cX0_team 35 = .ok (.if_icmp .ge 84, 3) := dk_162 0 84 (dk_at dksX0_team_1 11 rfl rfl)
theorem dX0_team_38 : decode cX0_team 38 = .ok (.iconst 0, 1) := dk_3 (dk_at dksX0_team_1 14 rfl rfl)
theorem dX0_team_39 : decode cX0_team 39 = .ok (.istore 5, 2) := dk_54 5 (dk_at dksX0_team_1 15 rfl rfl)
theorem dX0_team_41 : decode cX0_team 41 = .ok (.iconst 0, 1) := dk_3 (dk_at dksX0_team_1 17 rfl rfl)
theorem dX0_team_42 : decode cX0_team 42 = .ok (.istore 6, 2) := dk_54 6 (dk_at dksX0_team_1 18 rfl rfl)
theorem dX0_team_44 : decode cX0_team 44 = .ok (.iload 6, 2) := dk_21 6 (dk_at dksX0_team_1 20 rfl rfl)
theorem dX0_team_46 : decode cX0_team 46 = .ok (.aload_n 0, 1) := dk_42 (dk_at dksX0_team_1 22 rfl rfl)
theorem dX0_team_47 : decode cX0_team 47 = .ok (.invokevirtual 91, 3) := dk_182 0 91 (dk_at dksX0_team_2 0 rfl rfl)
theorem dX0_team_50 : decode cX0_team 50 = .ok (.if_icmp .ge 38, 3) := dk_162 0 38 (dk_at dksX0_team_2 3 rfl rfl)
theorem dX0_team_53 : decode cX0_team 53 = .ok (.iload 5, 2) := dk_21 5 (dk_at dksX0_team_2 6 rfl rfl)
theorem dX0_team_55 : decode cX0_team 55 = .ok (.iload 4, 2) := dk_21 4 (dk_at dksX0_team_2 8 rfl rfl)
theorem dX0_team_57 : decode cX0_team 57 = .ok (.iload 6, 2) := dk_21 6 (dk_at dksX0_team_2 10 rfl rfl)
theorem dX0_team_59 : decode cX0_team 59 = .ok (.invokestatic 258, 3) := dk_184 1 2 (dk_at dksX0_team_2 12 rfl rfl)
theorem dX0_team_62 : decode cX0_team 62 = .ok (.ifCond .eq 16, 3) := dk_153 0 16 (dk_at dksX0_team_2 15 rfl rfl)
theorem dX0_team_65 : decode cX0_team 65 = .ok (.aload_n 0, 1) := dk_42 (dk_at dksX0_team_2 18 rfl rfl)
theorem dX0_team_66 : decode cX0_team 66 = .ok (.getfield 28, 3) := dk_180 0 28 (dk_at dksX0_team_2 19 rfl rfl)
theorem dX0_team_69 : decode cX0_team 69 = .ok (.getfield 88, 3) := dk_180 0 88 (dk_at dksX0_team_3 0 rfl rfl)
theorem dX0_team_72 : decode cX0_team 72 = .ok (.iload 6, 2) := dk_21 6 (dk_at dksX0_team_3 3 rfl rfl)
theorem dX0_team_74 : decode cX0_team 74 = .ok (.iaload, 1) := dk_46 (dk_at dksX0_team_3 5 rfl rfl)
theorem dX0_team_75 : decode cX0_team 75 = .ok (.goto 4, 3) := dk_167 0 4 (dk_at dksX0_team_3 6 rfl rfl)
theorem dX0_team_78 : decode cX0_team 78 = .ok (.iconst 0, 1) := dk_3 (dk_at dksX0_team_3 9 rfl rfl)
theorem dX0_team_79 : decode cX0_team 79 = .ok (.iadd, 1) := dk_96 (dk_at dksX0_team_3 10 rfl rfl)
theorem dX0_team_80 : decode cX0_team 80 = .ok (.istore 5, 2) := dk_54 5 (dk_at dksX0_team_3 11 rfl rfl)
theorem dX0_team_82 : decode cX0_team 82 = .ok (.iinc 6 1, 3) := dk_132 6 1 (dk_at dksX0_team_3 13 rfl rfl)
theorem dX0_team_85 : decode cX0_team 85 = .ok (.goto (-41), 3) := dk_167 255 215 (dk_at dksX0_team_3 16 rfl rfl)
theorem dX0_team_88 : decode cX0_team 88 = .ok (.iload 5, 2) := dk_21 5 (dk_at dksX0_team_3 19 rfl rfl)
theorem dX0_team_90 : decode cX0_team 90 = .ok (.iload_n 1, 1) := dk_27 (dk_at dksX0_team_3 21 rfl rfl)
theorem dX0_team_91 : decode cX0_team 91 = .ok (.if_icmp .lt 22, 3) := dk_161 0 22 (dk_at dksX0_team_4 0 rfl rfl)
theorem dX0_team_94 : decode cX0_team 94 = .ok (.iload_n 3, 1) := dk_29 (dk_at dksX0_team_4 3 rfl rfl)
theorem dX0_team_95 : decode cX0_team 95 = .ok (.ifCond .lt 15, 3) := dk_155 0 15 (dk_at dksX0_team_4 4 rfl rfl)
theorem dX0_team_98 : decode cX0_team 98 = .ok (.iload 4, 2) := dk_21 4 (dk_at dksX0_team_4 7 rfl rfl)
theorem dX0_team_100 : decode cX0_team 100 = .ok (.invokestatic 274, 3) := dk_184 1 18 (dk_at dksX0_team_4 9 rfl rfl)
theorem dX0_team_103 : decode cX0_team 103 = .ok (.iload_n 3, 1) := dk_29 (dk_at dksX0_team_4 12 rfl rfl)
theorem dX0_team_104 : decode cX0_team 104 = .ok (.invokestatic 274, 3) := dk_184 1 18 (dk_at dksX0_team_4 13 rfl rfl)
theorem dX0_team_107 : decode cX0_team 107 = .ok (.if_icmp .ge 6, 3) := dk_162 0 6 (dk_at dksX0_team_4 16 rfl rfl)
theorem dX0_team_110 : decode cX0_team 110 = .ok (.iload 4, 2) := dk_21 4 (dk_at dksX0_team_4 19 rfl rfl)
theorem dX0_team_112 : decode cX0_team 112 = .ok (.istore_n 3, 1) := dk_62 (dk_at dksX0_team_4 21 rfl rfl)
theorem dX0_team_113 : decode cX0_team 113 = .ok (.iinc 4 1, 3) := dk_132 4 1 (dk_at dksX0_team_5 0 rfl rfl)
theorem dX0_team_116 : decode cX0_team 116 = .ok (.goto (-89), 3) := dk_167 255 167 (dk_at dksX0_team_5 3 rfl rfl)
theorem dX0_team_119 : decode cX0_team 119 = .ok (.iload_n 3, 1) := dk_29 (dk_at dksX0_team_5 6 rfl rfl)
theorem dX0_team_120 : decode cX0_team 120 = .ok (.ifCond .ge 7, 3) := dk_156 0 7 (dk_at dksX0_team_5 7 rfl rfl)
theorem dX0_team_123 : decode cX0_team 123 = .ok (.iconst (-1), 1) := dk_2 (dk_at dksX0_team_5 10 rfl rfl)
theorem dX0_team_124 : decode cX0_team 124 = .ok (.goto 15, 3) := dk_167 0 15 (dk_at dksX0_team_5 11 rfl rfl)
theorem dX0_team_127 : decode cX0_team 127 = .ok (.iload_n 2, 1) := dk_28 (dk_at dksX0_team_5 14 rfl rfl)
theorem dX0_team_128 : decode cX0_team 128 = .ok (.ifCond .ne 10, 3) := dk_154 0 10 (dk_at dksX0_team_5 15 rfl rfl)
theorem dX0_team_131 : decode cX0_team 131 = .ok (.iload_n 3, 1) := dk_29 (dk_at dksX0_team_5 18 rfl rfl)
theorem dX0_team_132 : decode cX0_team 132 = .ok (.invokestatic 274, 3) := dk_184 1 18 (dk_at dksX0_team_5 19 rfl rfl)
theorem dX0_team_135 : decode cX0_team 135 = .ok (.goto 4, 3) := dk_167 0 4 (dk_at dksX0_team_6 0 rfl rfl)
theorem dX0_team_138 : decode cX0_team 138 = .ok (.iload_n 3, 1) := dk_29 (dk_at dksX0_team_6 3 rfl rfl)
theorem dX0_team_139 : decode cX0_team 139 = .ok (.ireturn, 1) := dk_172 (dk_at dksX0_team_6 4 rfl rfl)
abbrev cX0_ladder : ByteArray := prog_1_method_42_code
def yX0_ladder : MethodName := ⟨RX0, "ladder", "(I)I"⟩
def dkwX0_ladder_5 : List UInt8 := [180, 0, 70, 3, 46, 172]
abbrev dktX0_ladder_5 : List UInt8 := dkwX0_ladder_5 ++ []
def dkwX0_ladder_4 : List UInt8 := [21, 4, 96, 46, 96, 184, 0, 7, 79, 132, 4, 1, 167, 255, 186, 132, 3, 255, 167, 255, 166, 42]
abbrev dktX0_ladder_4 : List UInt8 := dkwX0_ladder_4 ++ dktX0_ladder_5
def dkwX0_ladder_3 : List UInt8 := [180, 0, 28, 21, 4, 3, 3, 42, 180, 0, 28, 180, 0, 113, 29, 96, 182, 0, 220, 42, 180, 0, 70, 29]
abbrev dktX0_ladder_3 : List UInt8 := dkwX0_ladder_3 ++ dktX0_ladder_4
def dkwX0_ladder_2 : List UInt8 := [100, 184, 0, 1, 163, 0, 58, 42, 180, 0, 70, 29, 42, 180, 0, 70, 29, 46, 42, 180, 0, 19, 42]
abbrev dktX0_ladder_2 : List UInt8 := dkwX0_ladder_2 ++ dktX0_ladder_3
def dkwX0_ladder_1 : List UInt8 := [155, 0, 92, 42, 180, 0, 70, 29, 3, 79, 4, 54, 4, 21, 4, 42, 180, 0, 19, 180, 0, 208, 28, 29]
abbrev dktX0_ladder_1 : List UInt8 := dkwX0_ladder_1 ++ dktX0_ladder_2
def dkwX0_ladder_0 : List UInt8 := [42, 27, 182, 0, 188, 154, 0, 5, 2, 172, 42, 180, 0, 28, 180, 0, 88, 27, 46, 61, 28, 62, 29]
abbrev dktX0_ladder_0 : List UInt8 := dkwX0_ladder_0 ++ dktX0_ladder_1
theorem dksX0_ladder_0 : cX0_ladder.data.toList.drop 0 = dktX0_ladder_0 := by decide +kernel
theorem dksX0_ladder_1 : cX0_ladder.data.toList.drop 23 = dktX0_ladder_1 := dk_seg dksX0_ladder_0 23 rfl rfl
theorem dksX0_ladder_2 : cX0_ladder.data.toList.drop 47 = dktX0_ladder_2 := dk_seg dksX0_ladder_1 24 rfl rfl
theorem dksX0_ladder_3 : cX0_ladder.data.toList.drop 70 = dktX0_ladder_3 := dk_seg dksX0_ladder_2 23 rfl rfl
theorem dksX0_ladder_4 : cX0_ladder.data.toList.drop 94 = dktX0_ladder_4 := dk_seg dksX0_ladder_3 24 rfl rfl
theorem dksX0_ladder_5 : cX0_ladder.data.toList.drop 116 = dktX0_ladder_5 := dk_seg dksX0_ladder_4 22 rfl rfl
theorem dX0_ladder_0 : decode cX0_ladder 0 = .ok (.aload_n 0, 1) := dk_42 (dk_at dksX0_ladder_0 0 rfl rfl)
theorem dX0_ladder_1 : decode cX0_ladder 1 = .ok (.iload_n 1, 1) := dk_27 (dk_at dksX0_ladder_0 1 rfl rfl)
theorem dX0_ladder_2 : decode cX0_ladder 2 = .ok (.invokevirtual 188, 3) := dk_182 0 188 (dk_at dksX0_ladder_0 2 rfl rfl)
theorem dX0_ladder_5 : decode cX0_ladder 5 = .ok (.ifCond .ne 5, 3) := dk_154 0 5 (dk_at dksX0_ladder_0 5 rfl rfl)
theorem dX0_ladder_8 : decode cX0_ladder 8 = .ok (.iconst (-1), 1) := dk_2 (dk_at dksX0_ladder_0 8 rfl rfl)
theorem dX0_ladder_9 : decode cX0_ladder 9 = .ok (.ireturn, 1) := dk_172 (dk_at dksX0_ladder_0 9 rfl rfl)
theorem dX0_ladder_10 : decode cX0_ladder 10 = .ok (.aload_n 0, 1) := dk_42 (dk_at dksX0_ladder_0 10 rfl rfl)
theorem dX0_ladder_11 : decode cX0_ladder 11 = .ok (.getfield 28, 3) := dk_180 0 28 (dk_at dksX0_ladder_0 11 rfl rfl)
theorem dX0_ladder_14 : decode cX0_ladder 14 = .ok (.getfield 88, 3) := dk_180 0 88 (dk_at dksX0_ladder_0 14 rfl rfl)
theorem dX0_ladder_17 : decode cX0_ladder 17 = .ok (.iload_n 1, 1) := dk_27 (dk_at dksX0_ladder_0 17 rfl rfl)
theorem dX0_ladder_18 : decode cX0_ladder 18 = .ok (.iaload, 1) := dk_46 (dk_at dksX0_ladder_0 18 rfl rfl)
theorem dX0_ladder_19 : decode cX0_ladder 19 = .ok (.istore_n 2, 1) := dk_61 (dk_at dksX0_ladder_0 19 rfl rfl)
theorem dX0_ladder_20 : decode cX0_ladder 20 = .ok (.iload_n 2, 1) := dk_28 (dk_at dksX0_ladder_0 20 rfl rfl)
theorem dX0_ladder_21 : decode cX0_ladder 21 = .ok (.istore_n 3, 1) := dk_62 (dk_at dksX0_ladder_0 21 rfl rfl)
theorem dX0_ladder_22 : decode cX0_ladder 22 = .ok (.iload_n 3, 1) := dk_29 (dk_at dksX0_ladder_0 22 rfl rfl)
theorem dX0_ladder_23 : decode cX0_ladder 23 = .ok (.ifCond .lt 92, 3) := dk_155 0 92 (dk_at dksX0_ladder_1 0 rfl rfl)
theorem dX0_ladder_26 : decode cX0_ladder 26 = .ok (.aload_n 0, 1) := dk_42 (dk_at dksX0_ladder_1 3 rfl rfl)
theorem dX0_ladder_27 : decode cX0_ladder 27 = .ok (.getfield 70, 3) := dk_180 0 70 (dk_at dksX0_ladder_1 4 rfl rfl)
theorem dX0_ladder_30 : decode cX0_ladder 30 = .ok (.iload_n 3, 1) := dk_29 (dk_at dksX0_ladder_1 7 rfl rfl)
theorem dX0_ladder_31 : decode cX0_ladder 31 = .ok (.iconst 0, 1) := dk_3 (dk_at dksX0_ladder_1 8 rfl rfl)
theorem dX0_ladder_32 : decode cX0_ladder 32 = .ok (.iastore, 1) := dk_79 (dk_at dksX0_ladder_1 9 rfl rfl)
theorem dX0_ladder_33 : decode cX0_ladder 33 = .ok (.iconst 1, 1) := dk_4 (dk_at dksX0_ladder_1 10 rfl rfl)
theorem dX0_ladder_34 : decode cX0_ladder 34 = .ok (.istore 4, 2) := dk_54 4 (dk_at dksX0_ladder_1 11 rfl rfl)
theorem dX0_ladder_36 : decode cX0_ladder 36 = .ok (.iload 4, 2) := dk_21 4 (dk_at dksX0_ladder_1 13 rfl rfl)
theorem dX0_ladder_38 : decode cX0_ladder 38 = .ok (.aload_n 0, 1) := dk_42 (dk_at dksX0_ladder_1 15 rfl rfl)
theorem dX0_ladder_39 : decode cX0_ladder 39 = .ok (.getfield 19, 3) := dk_180 0 19 (dk_at dksX0_ladder_1 16 rfl rfl)
theorem dX0_ladder_42 : decode cX0_ladder 42 = .ok (.getfield 208, 3) := dk_180 0 208 (dk_at dksX0_ladder_1 19 rfl rfl)
theorem dX0_ladder_45 : decode cX0_ladder 45 = .ok (.iload_n 2, 1) := dk_28 (dk_at dksX0_ladder_1 22 rfl rfl)
theorem dX0_ladder_46 : decode cX0_ladder 46 = .ok (.iload_n 3, 1) := dk_29 (dk_at dksX0_ladder_1 23 rfl rfl)
theorem dX0_ladder_47 : decode cX0_ladder 47 = .ok (.isub, 1) := dk_100 (dk_at dksX0_ladder_2 0 rfl rfl)
theorem dX0_ladder_48 : decode cX0_ladder 48 = .ok (.invokestatic 1, 3) := dk_184 0 1 (dk_at dksX0_ladder_2 1 rfl rfl)
theorem dX0_ladder_51 : decode cX0_ladder 51 = .ok (.if_icmp .gt 58, 3) := dk_163 0 58 (dk_at dksX0_ladder_2 4 rfl rfl)
theorem dX0_ladder_54 : decode cX0_ladder 54 = .ok (.aload_n 0, 1) := dk_42 (dk_at dksX0_ladder_2 7 rfl rfl)
theorem dX0_ladder_55 : decode cX0_ladder 55 = .ok (.getfield 70, 3) := dk_180 0 70 (dk_at dksX0_ladder_2 8 rfl rfl)
theorem dX0_ladder_58 : decode cX0_ladder 58 = .ok (.iload_n 3, 1) := dk_29 (dk_at dksX0_ladder_2 11 rfl rfl)
theorem dX0_ladder_59 : decode cX0_ladder 59 = .ok (.aload_n 0, 1) := dk_42 (dk_at dksX0_ladder_2 12 rfl rfl)
theorem dX0_ladder_60 : decode cX0_ladder 60 = .ok (.getfield 70, 3) := dk_180 0 70 (dk_at dksX0_ladder_2 13 rfl rfl)
theorem dX0_ladder_63 : decode cX0_ladder 63 = .ok (.iload_n 3, 1) := dk_29 (dk_at dksX0_ladder_2 16 rfl rfl)
theorem dX0_ladder_64 : decode cX0_ladder 64 = .ok (.iaload, 1) := dk_46 (dk_at dksX0_ladder_2 17 rfl rfl)
theorem dX0_ladder_65 : decode cX0_ladder 65 = .ok (.aload_n 0, 1) := dk_42 (dk_at dksX0_ladder_2 18 rfl rfl)
theorem dX0_ladder_66 : decode cX0_ladder 66 = .ok (.getfield 19, 3) := dk_180 0 19 (dk_at dksX0_ladder_2 19 rfl rfl)
theorem dX0_ladder_69 : decode cX0_ladder 69 = .ok (.aload_n 0, 1) := dk_42 (dk_at dksX0_ladder_2 22 rfl rfl)
theorem dX0_ladder_70 : decode cX0_ladder 70 = .ok (.getfield 28, 3) := dk_180 0 28 (dk_at dksX0_ladder_3 0 rfl rfl)
theorem dX0_ladder_73 : decode cX0_ladder 73 = .ok (.iload 4, 2) := dk_21 4 (dk_at dksX0_ladder_3 3 rfl rfl)
theorem dX0_ladder_75 : decode cX0_ladder 75 = .ok (.iconst 0, 1) := dk_3 (dk_at dksX0_ladder_3 5 rfl rfl)
theorem dX0_ladder_76 : decode cX0_ladder 76 = .ok (.iconst 0, 1) := dk_3 (dk_at dksX0_ladder_3 6 rfl rfl)
theorem dX0_ladder_77 : decode cX0_ladder 77 = .ok (.aload_n 0, 1) := dk_42 (dk_at dksX0_ladder_3 7 rfl rfl)
theorem dX0_ladder_78 : decode cX0_ladder 78 = .ok (.getfield 28, 3) := dk_180 0 28 (dk_at dksX0_ladder_3 8 rfl rfl)
theorem dX0_ladder_81 : decode cX0_ladder 81 = .ok (.getfield 113, 3) := dk_180 0 113 (dk_at dksX0_ladder_3 11 rfl rfl)
theorem dX0_ladder_84 : decode cX0_ladder 84 = .ok (.iload_n 3, 1) := dk_29 (dk_at dksX0_ladder_3 14 rfl rfl)
theorem dX0_ladder_85 : decode cX0_ladder 85 = .ok (.iadd, 1) := dk_96 (dk_at dksX0_ladder_3 15 rfl rfl)
theorem dX0_ladder_86 : decode cX0_ladder 86 = .ok (.invokevirtual 220, 3) := dk_182 0 220 (dk_at dksX0_ladder_3 16 rfl rfl)
theorem dX0_ladder_89 : decode cX0_ladder 89 = .ok (.aload_n 0, 1) := dk_42 (dk_at dksX0_ladder_3 19 rfl rfl)
theorem dX0_ladder_90 : decode cX0_ladder 90 = .ok (.getfield 70, 3) := dk_180 0 70 (dk_at dksX0_ladder_3 20 rfl rfl)
theorem dX0_ladder_93 : decode cX0_ladder 93 = .ok (.iload_n 3, 1) := dk_29 (dk_at dksX0_ladder_3 23 rfl rfl)
theorem dX0_ladder_94 : decode cX0_ladder 94 = .ok (.iload 4, 2) := dk_21 4 (dk_at dksX0_ladder_4 0 rfl rfl)
theorem dX0_ladder_96 : decode cX0_ladder 96 = .ok (.iadd, 1) := dk_96 (dk_at dksX0_ladder_4 2 rfl rfl)
theorem dX0_ladder_97 : decode cX0_ladder 97 = .ok (.iaload, 1) := dk_46 (dk_at dksX0_ladder_4 3 rfl rfl)
theorem dX0_ladder_98 : decode cX0_ladder 98 = .ok (.iadd, 1) := dk_96 (dk_at dksX0_ladder_4 4 rfl rfl)
theorem dX0_ladder_99 : decode cX0_ladder 99 = .ok (.invokestatic 7, 3) := dk_184 0 7 (dk_at dksX0_ladder_4 5 rfl rfl)
theorem dX0_ladder_102 : decode cX0_ladder 102 = .ok (.iastore, 1) := dk_79 (dk_at dksX0_ladder_4 8 rfl rfl)
theorem dX0_ladder_103 : decode cX0_ladder 103 = .ok (.iinc 4 1, 3) := dk_132 4 1 (dk_at dksX0_ladder_4 9 rfl rfl)
theorem dX0_ladder_106 : decode cX0_ladder 106 = .ok (.goto (-70), 3) := dk_167 255 186 (dk_at dksX0_ladder_4 12 rfl rfl)
theorem dX0_ladder_109 : decode cX0_ladder 109 = .ok (.iinc 3 (-1), 3) := dk_132 3 255 (dk_at dksX0_ladder_4 15 rfl rfl)
theorem dX0_ladder_112 : decode cX0_ladder 112 = .ok (.goto (-90), 3) := dk_167 255 166 (dk_at dksX0_ladder_4 18 rfl rfl)
theorem dX0_ladder_115 : decode cX0_ladder 115 = .ok (.aload_n 0, 1) := dk_42 (dk_at dksX0_ladder_4 21 rfl rfl)
theorem dX0_ladder_116 : decode cX0_ladder 116 = .ok (.getfield 70, 3) := dk_180 0 70 (dk_at dksX0_ladder_5 0 rfl rfl)
theorem dX0_ladder_119 : decode cX0_ladder 119 = .ok (.iconst 0, 1) := dk_3 (dk_at dksX0_ladder_5 3 rfl rfl)
theorem dX0_ladder_120 : decode cX0_ladder 120 = .ok (.iaload, 1) := dk_46 (dk_at dksX0_ladder_5 4 rfl rfl)
theorem dX0_ladder_121 : decode cX0_ladder 121 = .ok (.ireturn, 1) := dk_172 (dk_at dksX0_ladder_5 5 rfl rfl)
abbrev cX0_gifts : ByteArray := prog_1_method_45_code
def yX0_gifts : MethodName := ⟨RX0, "gifts", "(I)I"⟩
def dkwX0_gifts_8 : List UInt8 := [167, 0, 14, 27, 4, 160, 0, 7, 29, 167, 0, 5, 21, 4, 172]
abbrev dktX0_gifts_8 : List UInt8 := dkwX0_gifts_8 ++ []
def dkwX0_gifts_7 : List UInt8 := [42, 180, 0, 19, 21, 5, 3, 182, 0, 184, 96, 54, 4, 132, 5, 1, 167, 255, 225, 27, 154, 0, 7, 28]
abbrev dktX0_gifts_7 : List UInt8 := dkwX0_gifts_7 ++ dktX0_gifts_8
def dkwX0_gifts_6 : List UInt8 := [167, 255, 143, 3, 54, 4, 3, 54, 5, 21, 5, 42, 182, 0, 91, 162, 0, 28, 21, 4, 42, 180, 0, 32]
abbrev dktX0_gifts_6 : List UInt8 := dkwX0_gifts_6 ++ dktX0_gifts_7
def dkwX0_gifts_5 : List UInt8 := [180, 0, 32, 180, 0, 107, 21, 5, 92, 46, 21, 6, 96, 79, 29, 21, 6, 96, 62, 132, 2, 1]
abbrev dktX0_gifts_5 : List UInt8 := dkwX0_gifts_5 ++ dktX0_gifts_6
def dkwX0_gifts_4 : List UInt8 := [184, 0, 1, 184, 0, 1, 54, 6, 42, 180, 0, 32, 180, 0, 107, 21, 4, 92, 46, 21, 6, 100, 79, 42]
abbrev dktX0_gifts_4 : List UInt8 := dkwX0_gifts_4 ++ dktX0_gifts_5
def dkwX0_gifts_3 : List UInt8 := [180, 0, 19, 21, 5, 3, 182, 0, 184, 17, 39, 15, 42, 180, 0, 32, 180, 0, 107, 21, 5, 46, 100]
abbrev dktX0_gifts_3 : List UInt8 := dkwX0_gifts_3 ++ dktX0_gifts_4
def dkwX0_gifts_2 : List UInt8 := [182, 1, 30, 54, 5, 42, 180, 0, 32, 42, 180, 0, 19, 21, 4, 182, 1, 23, 42, 180, 0, 32, 42]
abbrev dktX0_gifts_2 : List UInt8 := dkwX0_gifts_2 ++ dktX0_gifts_3
def dkwX0_gifts_1 : List UInt8 := [3, 62, 42, 182, 1, 27, 155, 0, 112, 42, 182, 1, 30, 155, 0, 105, 42, 182, 1, 27, 54, 4, 42]
abbrev dktX0_gifts_1 : List UInt8 := dkwX0_gifts_1 ++ dktX0_gifts_2
def dkwX0_gifts_0 : List UInt8 := [27, 3, 5, 184, 0, 155, 154, 0, 5, 2, 172, 42, 180, 0, 32, 42, 180, 0, 28, 182, 0, 138, 3, 61]
abbrev dktX0_gifts_0 : List UInt8 := dkwX0_gifts_0 ++ dktX0_gifts_1
theorem dksX0_gifts_0 : cX0_gifts.data.toList.drop 0 = dktX0_gifts_0 := by decide +kernel
theorem dksX0_gifts_1 : cX0_gifts.data.toList.drop 24 = dktX0_gifts_1 := dk_seg dksX0_gifts_0 24 rfl rfl
theorem dksX0_gifts_2 : cX0_gifts.data.toList.drop 47 = dktX0_gifts_2 := dk_seg dksX0_gifts_1 23 rfl rfl
theorem dksX0_gifts_3 : cX0_gifts.data.toList.drop 70 = dktX0_gifts_3 := dk_seg dksX0_gifts_2 23 rfl rfl
theorem dksX0_gifts_4 : cX0_gifts.data.toList.drop 93 = dktX0_gifts_4 := dk_seg dksX0_gifts_3 23 rfl rfl
theorem dksX0_gifts_5 : cX0_gifts.data.toList.drop 117 = dktX0_gifts_5 := dk_seg dksX0_gifts_4 24 rfl rfl
theorem dksX0_gifts_6 : cX0_gifts.data.toList.drop 139 = dktX0_gifts_6 := dk_seg dksX0_gifts_5 22 rfl rfl
theorem dksX0_gifts_7 : cX0_gifts.data.toList.drop 163 = dktX0_gifts_7 := dk_seg dksX0_gifts_6 24 rfl rfl
theorem dksX0_gifts_8 : cX0_gifts.data.toList.drop 187 = dktX0_gifts_8 := dk_seg dksX0_gifts_7 24 rfl rfl
theorem dX0_gifts_0 : decode cX0_gifts 0 = .ok (.iload_n 1, 1) := dk_27 (dk_at dksX0_gifts_0 0 rfl rfl)
theorem dX0_gifts_1 : decode cX0_gifts 1 = .ok (.iconst 0, 1) := dk_3 (dk_at dksX0_gifts_0 1 rfl rfl)
theorem dX0_gifts_2 : decode cX0_gifts 2 = .ok (.iconst 2, 1) := dk_5 (dk_at dksX0_gifts_0 2 rfl rfl)
theorem dX0_gifts_3 : decode cX0_gifts 3 = .ok (.invokestatic 155, 3) := dk_184 0 155 (dk_at dksX0_gifts_0 3 rfl rfl)
theorem dX0_gifts_6 : decode cX0_gifts 6 = .ok (.ifCond .ne 5, 3) := dk_154 0 5 (dk_at dksX0_gifts_0 6 rfl rfl)
theorem dX0_gifts_9 : decode cX0_gifts 9 = .ok (.iconst (-1), 1) := dk_2 (dk_at dksX0_gifts_0 9 rfl rfl)
theorem dX0_gifts_10 : decode cX0_gifts 10 = .ok (.ireturn, 1) := dk_172 (dk_at dksX0_gifts_0 10 rfl rfl)
theorem dX0_gifts_11 : decode cX0_gifts 11 = .ok (.aload_n 0, 1) := dk_42 (dk_at dksX0_gifts_0 11 rfl rfl)
theorem dX0_gifts_12 : decode cX0_gifts 12 = .ok (.getfield 32, 3) := dk_180 0 32 (dk_at dksX0_gifts_0 12 rfl rfl)
theorem dX0_gifts_15 : decode cX0_gifts 15 = .ok (.aload_n 0, 1) := dk_42 (dk_at dksX0_gifts_0 15 rfl rfl)
theorem dX0_gifts_16 : decode cX0_gifts 16 = .ok (.getfield 28, 3) := dk_180 0 28 (dk_at dksX0_gifts_0 16 rfl rfl)
theorem dX0_gifts_19 : decode cX0_gifts 19 = .ok (.invokevirtual 138, 3) := dk_182 0 138 (dk_at dksX0_gifts_0 19 rfl rfl)
theorem dX0_gifts_22 : decode cX0_gifts 22 = .ok (.iconst 0, 1) := dk_3 (dk_at dksX0_gifts_0 22 rfl rfl)
theorem dX0_gifts_23 : decode cX0_gifts 23 = .ok (.istore_n 2, 1) := dk_61 (dk_at dksX0_gifts_0 23 rfl rfl)
theorem dX0_gifts_24 : decode cX0_gifts 24 = .ok (.iconst 0, 1) := dk_3 (dk_at dksX0_gifts_1 0 rfl rfl)
theorem dX0_gifts_25 : decode cX0_gifts 25 = .ok (.istore_n 3, 1) := dk_62 (dk_at dksX0_gifts_1 1 rfl rfl)
theorem dX0_gifts_26 : decode cX0_gifts 26 = .ok (.aload_n 0, 1) := dk_42 (dk_at dksX0_gifts_1 2 rfl rfl)
theorem dX0_gifts_27 : decode cX0_gifts 27 = .ok (.invokevirtual 283, 3) := dk_182 1 27 (dk_at dksX0_gifts_1 3 rfl rfl)
theorem dX0_gifts_30 : decode cX0_gifts 30 = .ok (.ifCond .lt 112, 3) := dk_155 0 112 (dk_at dksX0_gifts_1 6 rfl rfl)
theorem dX0_gifts_33 : decode cX0_gifts 33 = .ok (.aload_n 0, 1) := dk_42 (dk_at dksX0_gifts_1 9 rfl rfl)
theorem dX0_gifts_34 : decode cX0_gifts 34 = .ok (.invokevirtual 286, 3) := dk_182 1 30 (dk_at dksX0_gifts_1 10 rfl rfl)
theorem dX0_gifts_37 : decode cX0_gifts 37 = .ok (.ifCond .lt 105, 3) := dk_155 0 105 (dk_at dksX0_gifts_1 13 rfl rfl)
theorem dX0_gifts_40 : decode cX0_gifts 40 = .ok (.aload_n 0, 1) := dk_42 (dk_at dksX0_gifts_1 16 rfl rfl)
theorem dX0_gifts_41 : decode cX0_gifts 41 = .ok (.invokevirtual 283, 3) := dk_182 1 27 (dk_at dksX0_gifts_1 17 rfl rfl)
theorem dX0_gifts_44 : decode cX0_gifts 44 = .ok (.istore 4, 2) := dk_54 4 (dk_at dksX0_gifts_1 20 rfl rfl)
theorem dX0_gifts_46 : decode cX0_gifts 46 = .ok (.aload_n 0, 1) := dk_42 (dk_at dksX0_gifts_1 22 rfl rfl)
theorem dX0_gifts_47 : decode cX0_gifts 47 = .ok (.invokevirtual 286, 3) := dk_182 1 30 (dk_at dksX0_gifts_2 0 rfl rfl)
theorem dX0_gifts_50 : decode cX0_gifts 50 = .ok (.istore 5, 2) := dk_54 5 (dk_at dksX0_gifts_2 3 rfl rfl)
theorem dX0_gifts_52 : decode cX0_gifts 52 = .ok (.aload_n 0, 1) := dk_42 (dk_at dksX0_gifts_2 5 rfl rfl)
theorem dX0_gifts_53 : decode cX0_gifts 53 = .ok (.getfield 32, 3) := dk_180 0 32 (dk_at dksX0_gifts_2 6 rfl rfl)
theorem dX0_gifts_56 : decode cX0_gifts 56 = .ok (.aload_n 0, 1) := dk_42 (dk_at dksX0_gifts_2 9 rfl rfl)
theorem dX0_gifts_57 : decode cX0_gifts 57 = .ok (.getfield 19, 3) := dk_180 0 19 (dk_at dksX0_gifts_2 10 rfl rfl)
theorem dX0_gifts_60 : decode cX0_gifts 60 = .ok (.iload 4, 2) := dk_21 4 (dk_at dksX0_gifts_2 13 rfl rfl)
theorem dX0_gifts_62 : decode cX0_gifts 62 = .ok (.invokevirtual 279, 3) := dk_182 1 23 (dk_at dksX0_gifts_2 15 rfl rfl)
theorem dX0_gifts_65 : decode cX0_gifts 65 = .ok (.aload_n 0, 1) := dk_42 (dk_at dksX0_gifts_2 18 rfl rfl)
theorem dX0_gifts_66 : decode cX0_gifts 66 = .ok (.getfield 32, 3) := dk_180 0 32 (dk_at dksX0_gifts_2 19 rfl rfl)
theorem dX0_gifts_69 : decode cX0_gifts 69 = .ok (.aload_n 0, 1) := dk_42 (dk_at dksX0_gifts_2 22 rfl rfl)
theorem dX0_gifts_70 : decode cX0_gifts 70 = .ok (.getfield 19, 3) := dk_180 0 19 (dk_at dksX0_gifts_3 0 rfl rfl)
theorem dX0_gifts_73 : decode cX0_gifts 73 = .ok (.iload 5, 2) := dk_21 5 (dk_at dksX0_gifts_3 3 rfl rfl)
theorem dX0_gifts_75 : decode cX0_gifts 75 = .ok (.iconst 0, 1) := dk_3 (dk_at dksX0_gifts_3 5 rfl rfl)
theorem dX0_gifts_76 : decode cX0_gifts 76 = .ok (.invokevirtual 184, 3) := dk_182 0 184 (dk_at dksX0_gifts_3 6 rfl rfl)
theorem dX0_gifts_79 : decode cX0_gifts 79 = .ok (.sipush 9999, 3) := dk_17 39 15 (dk_at dksX0_gifts_3 9 rfl rfl)
theorem dX0_gifts_82 : decode cX0_gifts 82 = .ok (.aload_n 0, 1) := dk_42 (dk_at dksX0_gifts_3 12 rfl rfl)
theorem dX0_gifts_83 : decode cX0_gifts 83 = .ok (.getfield 32, 3) := dk_180 0 32 (dk_at dksX0_gifts_3 13 rfl rfl)
theorem dX0_gifts_86 : decode cX0_gifts 86 = .ok (.getfield 107, 3) := dk_180 0 107 (dk_at dksX0_gifts_3 16 rfl rfl)
theorem dX0_gifts_89 : decode cX0_gifts 89 = .ok (.iload 5, 2) := dk_21 5 (dk_at dksX0_gifts_3 19 rfl rfl)
theorem dX0_gifts_91 : decode cX0_gifts 91 = .ok (.iaload, 1) := dk_46 (dk_at dksX0_gifts_3 21 rfl rfl)
theorem dX0_gifts_92 : decode cX0_gifts 92 = .ok (.isub, 1) := dk_100 (dk_at dksX0_gifts_3 22 rfl rfl)
theorem dX0_gifts_93 : decode cX0_gifts 93 = .ok (.invokestatic 1, 3) := dk_184 0 1 (dk_at dksX0_gifts_4 0 rfl rfl)
theorem dX0_gifts_96 : decode cX0_gifts 96 = .ok (.invokestatic 1, 3) := dk_184 0 1 (dk_at dksX0_gifts_4 3 rfl rfl)
theorem dX0_gifts_99 : decode cX0_gifts 99 = .ok (.istore 6, 2) := dk_54 6 (dk_at dksX0_gifts_4 6 rfl rfl)
theorem dX0_gifts_101 : decode cX0_gifts 101 = .ok (.aload_n 0, 1) := dk_42 (dk_at dksX0_gifts_4 8 rfl rfl)
theorem dX0_gifts_102 : decode cX0_gifts 102 = .ok (.getfield 32, 3) := dk_180 0 32 (dk_at dksX0_gifts_4 9 rfl rfl)
theorem dX0_gifts_105 : decode cX0_gifts 105 = .ok (.getfield 107, 3) := dk_180 0 107 (dk_at dksX0_gifts_4 12 rfl rfl)
theorem dX0_gifts_108 : decode cX0_gifts 108 = .ok (.iload 4, 2) := dk_21 4 (dk_at dksX0_gifts_4 15 rfl rfl)
theorem dX0_gifts_110 : decode cX0_gifts 110 = .ok (.dup2, 1) := dk_92 (dk_at dksX0_gifts_4 17 rfl rfl)
theorem dX0_gifts_111 : decode cX0_gifts 111 = .ok (.iaload, 1) := dk_46 (dk_at dksX0_gifts_4 18 rfl rfl)
theorem dX0_gifts_112 : decode cX0_gifts 112 = .ok (.iload 6, 2) := dk_21 6 (dk_at dksX0_gifts_4 19 rfl rfl)
theorem dX0_gifts_114 : decode cX0_gifts 114 = .ok (.isub, 1) := dk_100 (dk_at dksX0_gifts_4 21 rfl rfl)
theorem dX0_gifts_115 : decode cX0_gifts 115 = .ok (.iastore, 1) := dk_79 (dk_at dksX0_gifts_4 22 rfl rfl)
theorem dX0_gifts_116 : decode cX0_gifts 116 = .ok (.aload_n 0, 1) := dk_42 (dk_at dksX0_gifts_4 23 rfl rfl)
theorem dX0_gifts_117 : decode cX0_gifts 117 = .ok (.getfield 32, 3) := dk_180 0 32 (dk_at dksX0_gifts_5 0 rfl rfl)
theorem dX0_gifts_120 : decode cX0_gifts 120 = .ok (.getfield 107, 3) := dk_180 0 107 (dk_at dksX0_gifts_5 3 rfl rfl)
theorem dX0_gifts_123 : decode cX0_gifts 123 = .ok (.iload 5, 2) := dk_21 5 (dk_at dksX0_gifts_5 6 rfl rfl)
theorem dX0_gifts_125 : decode cX0_gifts 125 = .ok (.dup2, 1) := dk_92 (dk_at dksX0_gifts_5 8 rfl rfl)
theorem dX0_gifts_126 : decode cX0_gifts 126 = .ok (.iaload, 1) := dk_46 (dk_at dksX0_gifts_5 9 rfl rfl)
theorem dX0_gifts_127 : decode cX0_gifts 127 = .ok (.iload 6, 2) := dk_21 6 (dk_at dksX0_gifts_5 10 rfl rfl)
theorem dX0_gifts_129 : decode cX0_gifts 129 = .ok (.iadd, 1) := dk_96 (dk_at dksX0_gifts_5 12 rfl rfl)
theorem dX0_gifts_130 : decode cX0_gifts 130 = .ok (.iastore, 1) := dk_79 (dk_at dksX0_gifts_5 13 rfl rfl)
theorem dX0_gifts_131 : decode cX0_gifts 131 = .ok (.iload_n 3, 1) := dk_29 (dk_at dksX0_gifts_5 14 rfl rfl)
theorem dX0_gifts_132 : decode cX0_gifts 132 = .ok (.iload 6, 2) := dk_21 6 (dk_at dksX0_gifts_5 15 rfl rfl)
theorem dX0_gifts_134 : decode cX0_gifts 134 = .ok (.iadd, 1) := dk_96 (dk_at dksX0_gifts_5 17 rfl rfl)
theorem dX0_gifts_135 : decode cX0_gifts 135 = .ok (.istore_n 3, 1) := dk_62 (dk_at dksX0_gifts_5 18 rfl rfl)
theorem dX0_gifts_136 : decode cX0_gifts 136 = .ok (.iinc 2 1, 3) := dk_132 2 1 (dk_at dksX0_gifts_5 19 rfl rfl)
theorem dX0_gifts_139 : decode cX0_gifts 139 = .ok (.goto (-113), 3) := dk_167 255 143 (dk_at dksX0_gifts_6 0 rfl rfl)
theorem dX0_gifts_142 : decode cX0_gifts 142 = .ok (.iconst 0, 1) := dk_3 (dk_at dksX0_gifts_6 3 rfl rfl)
theorem dX0_gifts_143 : decode cX0_gifts 143 = .ok (.istore 4, 2) := dk_54 4 (dk_at dksX0_gifts_6 4 rfl rfl)
theorem dX0_gifts_145 : decode cX0_gifts 145 = .ok (.iconst 0, 1) := dk_3 (dk_at dksX0_gifts_6 6 rfl rfl)
theorem dX0_gifts_146 : decode cX0_gifts 146 = .ok (.istore 5, 2) := dk_54 5 (dk_at dksX0_gifts_6 7 rfl rfl)
theorem dX0_gifts_148 : decode cX0_gifts 148 = .ok (.iload 5, 2) := dk_21 5 (dk_at dksX0_gifts_6 9 rfl rfl)
theorem dX0_gifts_150 : decode cX0_gifts 150 = .ok (.aload_n 0, 1) := dk_42 (dk_at dksX0_gifts_6 11 rfl rfl)
theorem dX0_gifts_151 : decode cX0_gifts 151 = .ok (.invokevirtual 91, 3) := dk_182 0 91 (dk_at dksX0_gifts_6 12 rfl rfl)
theorem dX0_gifts_154 : decode cX0_gifts 154 = .ok (.if_icmp .ge 28, 3) := dk_162 0 28 (dk_at dksX0_gifts_6 15 rfl rfl)
theorem dX0_gifts_157 : decode cX0_gifts 157 = .ok (.iload 4, 2) := dk_21 4 (dk_at dksX0_gifts_6 18 rfl rfl)
theorem dX0_gifts_159 : decode cX0_gifts 159 = .ok (.aload_n 0, 1) := dk_42 (dk_at dksX0_gifts_6 20 rfl rfl)
theorem dX0_gifts_160 : decode cX0_gifts 160 = .ok (.getfield 32, 3) := dk_180 0 32 (dk_at dksX0_gifts_6 21 rfl rfl)
theorem dX0_gifts_163 : decode cX0_gifts 163 = .ok (.aload_n 0, 1) := dk_42 (dk_at dksX0_gifts_7 0 rfl rfl)
theorem dX0_gifts_164 : decode cX0_gifts 164 = .ok (.getfield 19, 3) := dk_180 0 19 (dk_at dksX0_gifts_7 1 rfl rfl)
theorem dX0_gifts_167 : decode cX0_gifts 167 = .ok (.iload 5, 2) := dk_21 5 (dk_at dksX0_gifts_7 4 rfl rfl)
theorem dX0_gifts_169 : decode cX0_gifts 169 = .ok (.iconst 0, 1) := dk_3 (dk_at dksX0_gifts_7 6 rfl rfl)
theorem dX0_gifts_170 : decode cX0_gifts 170 = .ok (.invokevirtual 184, 3) := dk_182 0 184 (dk_at dksX0_gifts_7 7 rfl rfl)
theorem dX0_gifts_173 : decode cX0_gifts 173 = .ok (.iadd, 1) := dk_96 (dk_at dksX0_gifts_7 10 rfl rfl)
theorem dX0_gifts_174 : decode cX0_gifts 174 = .ok (.istore 4, 2) := dk_54 4 (dk_at dksX0_gifts_7 11 rfl rfl)
theorem dX0_gifts_176 : decode cX0_gifts 176 = .ok (.iinc 5 1, 3) := dk_132 5 1 (dk_at dksX0_gifts_7 13 rfl rfl)
theorem dX0_gifts_179 : decode cX0_gifts 179 = .ok (.goto (-31), 3) := dk_167 255 225 (dk_at dksX0_gifts_7 16 rfl rfl)
theorem dX0_gifts_182 : decode cX0_gifts 182 = .ok (.iload_n 1, 1) := dk_27 (dk_at dksX0_gifts_7 19 rfl rfl)
theorem dX0_gifts_183 : decode cX0_gifts 183 = .ok (.ifCond .ne 7, 3) := dk_154 0 7 (dk_at dksX0_gifts_7 20 rfl rfl)
theorem dX0_gifts_186 : decode cX0_gifts 186 = .ok (.iload_n 2, 1) := dk_28 (dk_at dksX0_gifts_7 23 rfl rfl)
theorem dX0_gifts_187 : decode cX0_gifts 187 = .ok (.goto 14, 3) := dk_167 0 14 (dk_at dksX0_gifts_8 0 rfl rfl)
theorem dX0_gifts_190 : decode cX0_gifts 190 = .ok (.iload_n 1, 1) := dk_27 (dk_at dksX0_gifts_8 3 rfl rfl)
theorem dX0_gifts_191 : decode cX0_gifts 191 = .ok (.iconst 1, 1) := dk_4 (dk_at dksX0_gifts_8 4 rfl rfl)
theorem dX0_gifts_192 : decode cX0_gifts 192 = .ok (.if_icmp .ne 7, 3) := dk_160 0 7 (dk_at dksX0_gifts_8 5 rfl rfl)
theorem dX0_gifts_195 : decode cX0_gifts 195 = .ok (.iload_n 3, 1) := dk_29 (dk_at dksX0_gifts_8 8 rfl rfl)
theorem dX0_gifts_196 : decode cX0_gifts 196 = .ok (.goto 5, 3) := dk_167 0 5 (dk_at dksX0_gifts_8 9 rfl rfl)
theorem dX0_gifts_199 : decode cX0_gifts 199 = .ok (.iload 4, 2) := dk_21 4 (dk_at dksX0_gifts_8 12 rfl rfl)
theorem dX0_gifts_201 : decode cX0_gifts 201 = .ok (.ireturn, 1) := dk_172 (dk_at dksX0_gifts_8 14 rfl rfl)
abbrev cX0_firstOver : ByteArray := prog_1_method_43_code
def yX0_firstOver : MethodName := ⟨RX0, "firstOver", "()I"⟩
def dkwX0_firstOver_1 : List UInt8 := [154, 0, 9, 132, 1, 1, 167, 255, 230, 27, 42, 182, 0, 91, 162, 0, 7, 27, 167, 0, 4, 2, 172]
abbrev dktX0_firstOver_1 : List UInt8 := dkwX0_firstOver_1 ++ []
def dkwX0_firstOver_0 : List UInt8 := [3, 60, 27, 42, 182, 0, 91, 162, 0, 24, 42, 180, 0, 32, 42, 180, 0, 19, 27, 182, 1, 23]
abbrev dktX0_firstOver_0 : List UInt8 := dkwX0_firstOver_0 ++ dktX0_firstOver_1
theorem dksX0_firstOver_0 : cX0_firstOver.data.toList.drop 0 = dktX0_firstOver_0 := by decide +kernel
theorem dksX0_firstOver_1 : cX0_firstOver.data.toList.drop 22 = dktX0_firstOver_1 := dk_seg dksX0_firstOver_0 22 rfl rfl
theorem dX0_firstOver_0 : decode cX0_firstOver 0 = .ok (.iconst 0, 1) := dk_3 (dk_at dksX0_firstOver_0 0 rfl rfl)
theorem dX0_firstOver_1 : decode cX0_firstOver 1 = .ok (.istore_n 1, 1) := dk_60 (dk_at dksX0_firstOver_0 1 rfl rfl)
theorem dX0_firstOver_2 : decode cX0_firstOver 2 = .ok (.iload_n 1, 1) := dk_27 (dk_at dksX0_firstOver_0 2 rfl rfl)
theorem dX0_firstOver_3 : decode cX0_firstOver 3 = .ok (.aload_n 0, 1) := dk_42 (dk_at dksX0_firstOver_0 3 rfl rfl)
theorem dX0_firstOver_4 : decode cX0_firstOver 4 = .ok (.invokevirtual 91, 3) := dk_182 0 91 (dk_at dksX0_firstOver_0 4 rfl rfl)
theorem dX0_firstOver_7 : decode cX0_firstOver 7 = .ok (.if_icmp .ge 24, 3) := dk_162 0 24 (dk_at dksX0_firstOver_0 7 rfl rfl)
theorem dX0_firstOver_10 : decode cX0_firstOver 10 = .ok (.aload_n 0, 1) := dk_42 (dk_at dksX0_firstOver_0 10 rfl rfl)
theorem dX0_firstOver_11 : decode cX0_firstOver 11 = .ok (.getfield 32, 3) := dk_180 0 32 (dk_at dksX0_firstOver_0 11 rfl rfl)
theorem dX0_firstOver_14 : decode cX0_firstOver 14 = .ok (.aload_n 0, 1) := dk_42 (dk_at dksX0_firstOver_0 14 rfl rfl)
theorem dX0_firstOver_15 : decode cX0_firstOver 15 = .ok (.getfield 19, 3) := dk_180 0 19 (dk_at dksX0_firstOver_0 15 rfl rfl)
theorem dX0_firstOver_18 : decode cX0_firstOver 18 = .ok (.iload_n 1, 1) := dk_27 (dk_at dksX0_firstOver_0 18 rfl rfl)
theorem dX0_firstOver_19 : decode cX0_firstOver 19 = .ok (.invokevirtual 279, 3) := dk_182 1 23 (dk_at dksX0_firstOver_0 19 rfl rfl)
theorem dX0_firstOver_22 : decode cX0_firstOver 22 = .ok (.ifCond .ne 9, 3) := dk_154 0 9 (dk_at dksX0_firstOver_1 0 rfl rfl)
theorem dX0_firstOver_25 : decode cX0_firstOver 25 = .ok (.iinc 1 1, 3) := dk_132 1 1 (dk_at dksX0_firstOver_1 3 rfl rfl)
theorem dX0_firstOver_28 : decode cX0_firstOver 28 = .ok (.goto (-26), 3) := dk_167 255 230 (dk_at dksX0_firstOver_1 6 rfl rfl)
theorem dX0_firstOver_31 : decode cX0_firstOver 31 = .ok (.iload_n 1, 1) := dk_27 (dk_at dksX0_firstOver_1 9 rfl rfl)
theorem dX0_firstOver_32 : decode cX0_firstOver 32 = .ok (.aload_n 0, 1) := dk_42 (dk_at dksX0_firstOver_1 10 rfl rfl)
theorem dX0_firstOver_33 : decode cX0_firstOver 33 = .ok (.invokevirtual 91, 3) := dk_182 0 91 (dk_at dksX0_firstOver_1 11 rfl rfl)
theorem dX0_firstOver_36 : decode cX0_firstOver 36 = .ok (.if_icmp .ge 7, 3) := dk_162 0 7 (dk_at dksX0_firstOver_1 14 rfl rfl)
theorem dX0_firstOver_39 : decode cX0_firstOver 39 = .ok (.iload_n 1, 1) := dk_27 (dk_at dksX0_firstOver_1 17 rfl rfl)
theorem dX0_firstOver_40 : decode cX0_firstOver 40 = .ok (.goto 4, 3) := dk_167 0 4 (dk_at dksX0_firstOver_1 18 rfl rfl)
theorem dX0_firstOver_43 : decode cX0_firstOver 43 = .ok (.iconst (-1), 1) := dk_2 (dk_at dksX0_firstOver_1 21 rfl rfl)
theorem dX0_firstOver_44 : decode cX0_firstOver 44 = .ok (.ireturn, 1) := dk_172 (dk_at dksX0_firstOver_1 22 rfl rfl)
abbrev cX0_firstLack : ByteArray := prog_1_method_44_code
def yX0_firstLack : MethodName := ⟨RX0, "firstLack", "()I"⟩
def dkwX0_firstLack_2 : List UInt8 := [27, 42, 182, 0, 91, 162, 0, 7, 27, 167, 0, 4, 2, 172]
abbrev dktX0_firstLack_2 : List UInt8 := dkwX0_firstLack_2 ++ []
def dkwX0_firstLack_1 : List UInt8 := [153, 0, 18, 42, 180, 0, 32, 180, 0, 107, 27, 46, 17, 39, 15, 160, 0, 9, 132, 1, 1, 167, 255, 214]
abbrev dktX0_firstLack_1 : List UInt8 := dkwX0_firstLack_1 ++ dktX0_firstLack_2
def dkwX0_firstLack_0 : List UInt8 := [3, 60, 27, 42, 182, 0, 91, 162, 0, 40, 42, 180, 0, 32, 42, 180, 0, 19, 27, 3, 182, 0, 184]
abbrev dktX0_firstLack_0 : List UInt8 := dkwX0_firstLack_0 ++ dktX0_firstLack_1
theorem dksX0_firstLack_0 : cX0_firstLack.data.toList.drop 0 = dktX0_firstLack_0 := by decide +kernel
theorem dksX0_firstLack_1 : cX0_firstLack.data.toList.drop 23 = dktX0_firstLack_1 := dk_seg dksX0_firstLack_0 23 rfl rfl
theorem dksX0_firstLack_2 : cX0_firstLack.data.toList.drop 47 = dktX0_firstLack_2 := dk_seg dksX0_firstLack_1 24 rfl rfl
theorem dX0_firstLack_0 : decode cX0_firstLack 0 = .ok (.iconst 0, 1) := dk_3 (dk_at dksX0_firstLack_0 0 rfl rfl)
theorem dX0_firstLack_1 : decode cX0_firstLack 1 = .ok (.istore_n 1, 1) := dk_60 (dk_at dksX0_firstLack_0 1 rfl rfl)
theorem dX0_firstLack_2 : decode cX0_firstLack 2 = .ok (.iload_n 1, 1) := dk_27 (dk_at dksX0_firstLack_0 2 rfl rfl)
theorem dX0_firstLack_3 : decode cX0_firstLack 3 = .ok (.aload_n 0, 1) := dk_42 (dk_at dksX0_firstLack_0 3 rfl rfl)
theorem dX0_firstLack_4 : decode cX0_firstLack 4 = .ok (.invokevirtual 91, 3) := dk_182 0 91 (dk_at dksX0_firstLack_0 4 rfl rfl)
theorem dX0_firstLack_7 : decode cX0_firstLack 7 = .ok (.if_icmp .ge 40, 3) := dk_162 0 40 (dk_at dksX0_firstLack_0 7 rfl rfl)
theorem dX0_firstLack_10 : decode cX0_firstLack 10 = .ok (.aload_n 0, 1) := dk_42 (dk_at dksX0_firstLack_0 10 rfl rfl)
theorem dX0_firstLack_11 : decode cX0_firstLack 11 = .ok (.getfield 32, 3) := dk_180 0 32 (dk_at dksX0_firstLack_0 11 rfl rfl)
theorem dX0_firstLack_14 : decode cX0_firstLack 14 = .ok (.aload_n 0, 1) := dk_42 (dk_at dksX0_firstLack_0 14 rfl rfl)
theorem dX0_firstLack_15 : decode cX0_firstLack 15 = .ok (.getfield 19, 3) := dk_180 0 19 (dk_at dksX0_firstLack_0 15 rfl rfl)
theorem dX0_firstLack_18 : decode cX0_firstLack 18 = .ok (.iload_n 1, 1) := dk_27 (dk_at dksX0_firstLack_0 18 rfl rfl)
theorem dX0_firstLack_19 : decode cX0_firstLack 19 = .ok (.iconst 0, 1) := dk_3 (dk_at dksX0_firstLack_0 19 rfl rfl)
theorem dX0_firstLack_20 : decode cX0_firstLack 20 = .ok (.invokevirtual 184, 3) := dk_182 0 184 (dk_at dksX0_firstLack_0 20 rfl rfl)
theorem dX0_firstLack_23 : decode cX0_firstLack 23 = .ok (.ifCond .eq 18, 3) := dk_153 0 18 (dk_at dksX0_firstLack_1 0 rfl rfl)
theorem dX0_firstLack_26 : decode cX0_firstLack 26 = .ok (.aload_n 0, 1) := dk_42 (dk_at dksX0_firstLack_1 3 rfl rfl)
theorem dX0_firstLack_27 : decode cX0_firstLack 27 = .ok (.getfield 32, 3) := dk_180 0 32 (dk_at dksX0_firstLack_1 4 rfl rfl)
theorem dX0_firstLack_30 : decode cX0_firstLack 30 = .ok (.getfield 107, 3) := dk_180 0 107 (dk_at dksX0_firstLack_1 7 rfl rfl)
theorem dX0_firstLack_33 : decode cX0_firstLack 33 = .ok (.iload_n 1, 1) := dk_27 (dk_at dksX0_firstLack_1 10 rfl rfl)
theorem dX0_firstLack_34 : decode cX0_firstLack 34 = .ok (.iaload, 1) := dk_46 (dk_at dksX0_firstLack_1 11 rfl rfl)
theorem dX0_firstLack_35 : decode cX0_firstLack 35 = .ok (.sipush 9999, 3) := dk_17 39 15 (dk_at dksX0_firstLack_1 12 rfl rfl)
theorem dX0_firstLack_38 : decode cX0_firstLack 38 = .ok (.if_icmp .ne 9, 3) := dk_160 0 9 (dk_at dksX0_firstLack_1 15 rfl rfl)
theorem dX0_firstLack_41 : decode cX0_firstLack 41 = .ok (.iinc 1 1, 3) := dk_132 1 1 (dk_at dksX0_firstLack_1 18 rfl rfl)
theorem dX0_firstLack_44 : decode cX0_firstLack 44 = .ok (.goto (-42), 3) := dk_167 255 214 (dk_at dksX0_firstLack_1 21 rfl rfl)
theorem dX0_firstLack_47 : decode cX0_firstLack 47 = .ok (.iload_n 1, 1) := dk_27 (dk_at dksX0_firstLack_2 0 rfl rfl)
theorem dX0_firstLack_48 : decode cX0_firstLack 48 = .ok (.aload_n 0, 1) := dk_42 (dk_at dksX0_firstLack_2 1 rfl rfl)
theorem dX0_firstLack_49 : decode cX0_firstLack 49 = .ok (.invokevirtual 91, 3) := dk_182 0 91 (dk_at dksX0_firstLack_2 2 rfl rfl)
theorem dX0_firstLack_52 : decode cX0_firstLack 52 = .ok (.if_icmp .ge 7, 3) := dk_162 0 7 (dk_at dksX0_firstLack_2 5 rfl rfl)
theorem dX0_firstLack_55 : decode cX0_firstLack 55 = .ok (.iload_n 1, 1) := dk_27 (dk_at dksX0_firstLack_2 8 rfl rfl)
theorem dX0_firstLack_56 : decode cX0_firstLack 56 = .ok (.goto 4, 3) := dk_167 0 4 (dk_at dksX0_firstLack_2 9 rfl rfl)
theorem dX0_firstLack_59 : decode cX0_firstLack 59 = .ok (.iconst (-1), 1) := dk_2 (dk_at dksX0_firstLack_2 12 rfl rfl)
theorem dX0_firstLack_60 : decode cX0_firstLack 60 = .ok (.ireturn, 1) := dk_172 (dk_at dksX0_firstLack_2 13 rfl rfl)
abbrev cX0_envies : ByteArray := prog_1_method_46_code
def yX0_envies : MethodName := ⟨RX0, "envies", "(I)I"⟩
def dkwX0_envies_4 : List UInt8 := [62, 132, 4, 1, 167, 255, 187, 29, 172]
abbrev dktX0_envies_4 : List UInt8 := dkwX0_envies_4 ++ []
def dkwX0_envies_3 : List UInt8 := [21, 4, 182, 0, 98, 192, 0, 102, 180, 0, 198, 44, 180, 0, 198, 162, 0, 10, 29, 4, 21, 4, 120, 128]
abbrev dktX0_envies_3 : List UInt8 := dkwX0_envies_3 ++ dktX0_envies_4
def dkwX0_envies_2 : List UInt8 := [182, 0, 98, 192, 0, 102, 180, 0, 192, 44, 180, 0, 192, 163, 0, 35, 42, 180, 0, 19, 180, 0, 95]
abbrev dktX0_envies_2 : List UInt8 := dkwX0_envies_2 ++ dktX0_envies_3
def dkwX0_envies_1 : List UInt8 := [77, 3, 62, 3, 54, 4, 21, 4, 42, 182, 0, 91, 162, 0, 66, 42, 180, 0, 19, 180, 0, 95, 21, 4]
abbrev dktX0_envies_1 : List UInt8 := dkwX0_envies_1 ++ dktX0_envies_2
def dkwX0_envies_0 : List UInt8 := [42, 27, 182, 0, 188, 154, 0, 5, 2, 172, 42, 180, 0, 19, 180, 0, 95, 27, 182, 0, 98, 192, 0, 102]
abbrev dktX0_envies_0 : List UInt8 := dkwX0_envies_0 ++ dktX0_envies_1
theorem dksX0_envies_0 : cX0_envies.data.toList.drop 0 = dktX0_envies_0 := by decide +kernel
theorem dksX0_envies_1 : cX0_envies.data.toList.drop 24 = dktX0_envies_1 := dk_seg dksX0_envies_0 24 rfl rfl
theorem dksX0_envies_2 : cX0_envies.data.toList.drop 48 = dktX0_envies_2 := dk_seg dksX0_envies_1 24 rfl rfl
theorem dksX0_envies_3 : cX0_envies.data.toList.drop 71 = dktX0_envies_3 := dk_seg dksX0_envies_2 23 rfl rfl
theorem dksX0_envies_4 : cX0_envies.data.toList.drop 95 = dktX0_envies_4 := dk_seg dksX0_envies_3 24 rfl rfl
theorem dX0_envies_0 : decode cX0_envies 0 = .ok (.aload_n 0, 1) := dk_42 (dk_at dksX0_envies_0 0 rfl rfl)
theorem dX0_envies_1 : decode cX0_envies 1 = .ok (.iload_n 1, 1) := dk_27 (dk_at dksX0_envies_0 1 rfl rfl)
theorem dX0_envies_2 : decode cX0_envies 2 = .ok (.invokevirtual 188, 3) := dk_182 0 188 (dk_at dksX0_envies_0 2 rfl rfl)
theorem dX0_envies_5 : decode cX0_envies 5 = .ok (.ifCond .ne 5, 3) := dk_154 0 5 (dk_at dksX0_envies_0 5 rfl rfl)
theorem dX0_envies_8 : decode cX0_envies 8 = .ok (.iconst (-1), 1) := dk_2 (dk_at dksX0_envies_0 8 rfl rfl)
theorem dX0_envies_9 : decode cX0_envies 9 = .ok (.ireturn, 1) := dk_172 (dk_at dksX0_envies_0 9 rfl rfl)
theorem dX0_envies_10 : decode cX0_envies 10 = .ok (.aload_n 0, 1) := dk_42 (dk_at dksX0_envies_0 10 rfl rfl)
theorem dX0_envies_11 : decode cX0_envies 11 = .ok (.getfield 19, 3) := dk_180 0 19 (dk_at dksX0_envies_0 11 rfl rfl)
theorem dX0_envies_14 : decode cX0_envies 14 = .ok (.getfield 95, 3) := dk_180 0 95 (dk_at dksX0_envies_0 14 rfl rfl)
theorem dX0_envies_17 : decode cX0_envies 17 = .ok (.iload_n 1, 1) := dk_27 (dk_at dksX0_envies_0 17 rfl rfl)
theorem dX0_envies_18 : decode cX0_envies 18 = .ok (.invokevirtual 98, 3) := dk_182 0 98 (dk_at dksX0_envies_0 18 rfl rfl)
theorem dX0_envies_21 : decode cX0_envies 21 = .ok (.checkcast 102, 3) := dk_192 0 102 (dk_at dksX0_envies_0 21 rfl rfl)
theorem dX0_envies_24 : decode cX0_envies 24 = .ok (.astore_n 2, 1) := dk_77 (dk_at dksX0_envies_1 0 rfl rfl)
theorem dX0_envies_25 : decode cX0_envies 25 = .ok (.iconst 0, 1) := dk_3 (dk_at dksX0_envies_1 1 rfl rfl)
theorem dX0_envies_26 : decode cX0_envies 26 = .ok (.istore_n 3, 1) := dk_62 (dk_at dksX0_envies_1 2 rfl rfl)
theorem dX0_envies_27 : decode cX0_envies 27 = .ok (.iconst 0, 1) := dk_3 (dk_at dksX0_envies_1 3 rfl rfl)
theorem dX0_envies_28 : decode cX0_envies 28 = .ok (.istore 4, 2) := dk_54 4 (dk_at dksX0_envies_1 4 rfl rfl)
theorem dX0_envies_30 : decode cX0_envies 30 = .ok (.iload 4, 2) := dk_21 4 (dk_at dksX0_envies_1 6 rfl rfl)
theorem dX0_envies_32 : decode cX0_envies 32 = .ok (.aload_n 0, 1) := dk_42 (dk_at dksX0_envies_1 8 rfl rfl)
theorem dX0_envies_33 : decode cX0_envies 33 = .ok (.invokevirtual 91, 3) := dk_182 0 91 (dk_at dksX0_envies_1 9 rfl rfl)
theorem dX0_envies_36 : decode cX0_envies 36 = .ok (.if_icmp .ge 66, 3) := dk_162 0 66 (dk_at dksX0_envies_1 12 rfl rfl)
theorem dX0_envies_39 : decode cX0_envies 39 = .ok (.aload_n 0, 1) := dk_42 (dk_at dksX0_envies_1 15 rfl rfl)
theorem dX0_envies_40 : decode cX0_envies 40 = .ok (.getfield 19, 3) := dk_180 0 19 (dk_at dksX0_envies_1 16 rfl rfl)
theorem dX0_envies_43 : decode cX0_envies 43 = .ok (.getfield 95, 3) := dk_180 0 95 (dk_at dksX0_envies_1 19 rfl rfl)
theorem dX0_envies_46 : decode cX0_envies 46 = .ok (.iload 4, 2) := dk_21 4 (dk_at dksX0_envies_1 22 rfl rfl)
theorem dX0_envies_48 : decode cX0_envies 48 = .ok (.invokevirtual 98, 3) := dk_182 0 98 (dk_at dksX0_envies_2 0 rfl rfl)
theorem dX0_envies_51 : decode cX0_envies 51 = .ok (.checkcast 102, 3) := dk_192 0 102 (dk_at dksX0_envies_2 3 rfl rfl)
theorem dX0_envies_54 : decode cX0_envies 54 = .ok (.getfield 192, 3) := dk_180 0 192 (dk_at dksX0_envies_2 6 rfl rfl)
theorem dX0_envies_57 : decode cX0_envies 57 = .ok (.aload_n 2, 1) := dk_44 (dk_at dksX0_envies_2 9 rfl rfl)
theorem dX0_envies_58 : decode cX0_envies 58 = .ok (.getfield 192, 3) := dk_180 0 192 (dk_at dksX0_envies_2 10 rfl rfl)
theorem dX0_envies_61 : decode cX0_envies 61 = .ok (.if_icmp .gt 35, 3) := dk_163 0 35 (dk_at dksX0_envies_2 13 rfl rfl)
theorem dX0_envies_64 : decode cX0_envies 64 = .ok (.aload_n 0, 1) := dk_42 (dk_at dksX0_envies_2 16 rfl rfl)
theorem dX0_envies_65 : decode cX0_envies 65 = .ok (.getfield 19, 3) := dk_180 0 19 (dk_at dksX0_envies_2 17 rfl rfl)
theorem dX0_envies_68 : decode cX0_envies 68 = .ok (.getfield 95, 3) := dk_180 0 95 (dk_at dksX0_envies_2 20 rfl rfl)
theorem dX0_envies_71 : decode cX0_envies 71 = .ok (.iload 4, 2) := dk_21 4 (dk_at dksX0_envies_3 0 rfl rfl)
theorem dX0_envies_73 : decode cX0_envies 73 = .ok (.invokevirtual 98, 3) := dk_182 0 98 (dk_at dksX0_envies_3 2 rfl rfl)
theorem dX0_envies_76 : decode cX0_envies 76 = .ok (.checkcast 102, 3) := dk_192 0 102 (dk_at dksX0_envies_3 5 rfl rfl)
theorem dX0_envies_79 : decode cX0_envies 79 = .ok (.getfield 198, 3) := dk_180 0 198 (dk_at dksX0_envies_3 8 rfl rfl)
theorem dX0_envies_82 : decode cX0_envies 82 = .ok (.aload_n 2, 1) := dk_44 (dk_at dksX0_envies_3 11 rfl rfl)
theorem dX0_envies_83 : decode cX0_envies 83 = .ok (.getfield 198, 3) := dk_180 0 198 (dk_at dksX0_envies_3 12 rfl rfl)
theorem dX0_envies_86 : decode cX0_envies 86 = .ok (.if_icmp .ge 10, 3) := dk_162 0 10 (dk_at dksX0_envies_3 15 rfl rfl)
theorem dX0_envies_89 : decode cX0_envies 89 = .ok (.iload_n 3, 1) := dk_29 (dk_at dksX0_envies_3 18 rfl rfl)
theorem dX0_envies_90 : decode cX0_envies 90 = .ok (.iconst 1, 1) := dk_4 (dk_at dksX0_envies_3 19 rfl rfl)
theorem dX0_envies_91 : decode cX0_envies 91 = .ok (.iload 4, 2) := dk_21 4 (dk_at dksX0_envies_3 20 rfl rfl)
theorem dX0_envies_93 : decode cX0_envies 93 = .ok (.ishl, 1) := dk_120 (dk_at dksX0_envies_3 22 rfl rfl)
theorem dX0_envies_94 : decode cX0_envies 94 = .ok (.ior, 1) := dk_128 (dk_at dksX0_envies_3 23 rfl rfl)
theorem dX0_envies_95 : decode cX0_envies 95 = .ok (.istore_n 3, 1) := dk_62 (dk_at dksX0_envies_4 0 rfl rfl)
theorem dX0_envies_96 : decode cX0_envies 96 = .ok (.iinc 4 1, 3) := dk_132 4 1 (dk_at dksX0_envies_4 1 rfl rfl)
theorem dX0_envies_99 : decode cX0_envies 99 = .ok (.goto (-69), 3) := dk_167 255 187 (dk_at dksX0_envies_4 4 rfl rfl)
theorem dX0_envies_102 : decode cX0_envies 102 = .ok (.iload_n 3, 1) := dk_29 (dk_at dksX0_envies_4 7 rfl rfl)
theorem dX0_envies_103 : decode cX0_envies 103 = .ok (.ireturn, 1) := dk_172 (dk_at dksX0_envies_4 8 rfl rfl)
abbrev cX0_quarrel : ByteArray := prog_1_method_49_code
def yX0_quarrel : MethodName := ⟨RX0, "quarrel", "()I"⟩
def dkwX0_quarrel_0 : List UInt8 := [42, 182, 1, 33, 42, 42, 180, 0, 64, 182, 1, 36, 172]
abbrev dktX0_quarrel_0 : List UInt8 := dkwX0_quarrel_0 ++ []
theorem dksX0_quarrel_0 : cX0_quarrel.data.toList.drop 0 = dktX0_quarrel_0 := by decide +kernel
theorem dX0_quarrel_0 : decode cX0_quarrel 0 = .ok (.aload_n 0, 1) := dk_42 (dk_at dksX0_quarrel_0 0 rfl rfl)
theorem dX0_quarrel_1 : decode cX0_quarrel 1 = .ok (.invokevirtual 289, 3) := dk_182 1 33 (dk_at dksX0_quarrel_0 1 rfl rfl)
theorem dX0_quarrel_4 : decode cX0_quarrel 4 = .ok (.aload_n 0, 1) := dk_42 (dk_at dksX0_quarrel_0 4 rfl rfl)
theorem dX0_quarrel_5 : decode cX0_quarrel 5 = .ok (.aload_n 0, 1) := dk_42 (dk_at dksX0_quarrel_0 5 rfl rfl)
theorem dX0_quarrel_6 : decode cX0_quarrel 6 = .ok (.getfield 64, 3) := dk_180 0 64 (dk_at dksX0_quarrel_0 6 rfl rfl)
theorem dX0_quarrel_9 : decode cX0_quarrel 9 = .ok (.invokevirtual 292, 3) := dk_182 1 36 (dk_at dksX0_quarrel_0 9 rfl rfl)
theorem dX0_quarrel_12 : decode cX0_quarrel 12 = .ok (.ireturn, 1) := dk_172 (dk_at dksX0_quarrel_0 12 rfl rfl)
abbrev cX0_layLives : ByteArray := prog_1_method_48_code
def yX0_layLives : MethodName := ⟨RX0, "layLives", "()V"⟩
def dkwX0_layLives_1 : List UInt8 := [182, 0, 98, 192, 0, 102, 180, 0, 192, 79, 132, 1, 1, 167, 255, 222, 177]
abbrev dktX0_layLives_1 : List UInt8 := dkwX0_layLives_1 ++ []
def dkwX0_layLives_0 : List UInt8 := [3, 60, 27, 42, 182, 0, 91, 162, 0, 32, 42, 180, 0, 64, 27, 42, 180, 0, 19, 180, 0, 95, 27]
abbrev dktX0_layLives_0 : List UInt8 := dkwX0_layLives_0 ++ dktX0_layLives_1
theorem dksX0_layLives_0 : cX0_layLives.data.toList.drop 0 = dktX0_layLives_0 := by decide +kernel
theorem dksX0_layLives_1 : cX0_layLives.data.toList.drop 23 = dktX0_layLives_1 := dk_seg dksX0_layLives_0 23 rfl rfl
theorem dX0_layLives_0 : decode cX0_layLives 0 = .ok (.iconst 0, 1) := dk_3 (dk_at dksX0_layLives_0 0 rfl rfl)
theorem dX0_layLives_1 : decode cX0_layLives 1 = .ok (.istore_n 1, 1) := dk_60 (dk_at dksX0_layLives_0 1 rfl rfl)
theorem dX0_layLives_2 : decode cX0_layLives 2 = .ok (.iload_n 1, 1) := dk_27 (dk_at dksX0_layLives_0 2 rfl rfl)
theorem dX0_layLives_3 : decode cX0_layLives 3 = .ok (.aload_n 0, 1) := dk_42 (dk_at dksX0_layLives_0 3 rfl rfl)
theorem dX0_layLives_4 : decode cX0_layLives 4 = .ok (.invokevirtual 91, 3) := dk_182 0 91 (dk_at dksX0_layLives_0 4 rfl rfl)
theorem dX0_layLives_7 : decode cX0_layLives 7 = .ok (.if_icmp .ge 32, 3) := dk_162 0 32 (dk_at dksX0_layLives_0 7 rfl rfl)
theorem dX0_layLives_10 : decode cX0_layLives 10 = .ok (.aload_n 0, 1) := dk_42 (dk_at dksX0_layLives_0 10 rfl rfl)
theorem dX0_layLives_11 : decode cX0_layLives 11 = .ok (.getfield 64, 3) := dk_180 0 64 (dk_at dksX0_layLives_0 11 rfl rfl)
theorem dX0_layLives_14 : decode cX0_layLives 14 = .ok (.iload_n 1, 1) := dk_27 (dk_at dksX0_layLives_0 14 rfl rfl)
theorem dX0_layLives_15 : decode cX0_layLives 15 = .ok (.aload_n 0, 1) := dk_42 (dk_at dksX0_layLives_0 15 rfl rfl)
theorem dX0_layLives_16 : decode cX0_layLives 16 = .ok (.getfield 19, 3) := dk_180 0 19 (dk_at dksX0_layLives_0 16 rfl rfl)
theorem dX0_layLives_19 : decode cX0_layLives 19 = .ok (.getfield 95, 3) := dk_180 0 95 (dk_at dksX0_layLives_0 19 rfl rfl)
theorem dX0_layLives_22 : decode cX0_layLives 22 = .ok (.iload_n 1, 1) := dk_27 (dk_at dksX0_layLives_0 22 rfl rfl)
theorem dX0_layLives_23 : decode cX0_layLives 23 = .ok (.invokevirtual 98, 3) := dk_182 0 98 (dk_at dksX0_layLives_1 0 rfl rfl)
theorem dX0_layLives_26 : decode cX0_layLives 26 = .ok (.checkcast 102, 3) := dk_192 0 102 (dk_at dksX0_layLives_1 3 rfl rfl)
theorem dX0_layLives_29 : decode cX0_layLives 29 = .ok (.getfield 192, 3) := dk_180 0 192 (dk_at dksX0_layLives_1 6 rfl rfl)
theorem dX0_layLives_32 : decode cX0_layLives 32 = .ok (.iastore, 1) := dk_79 (dk_at dksX0_layLives_1 9 rfl rfl)
theorem dX0_layLives_33 : decode cX0_layLives 33 = .ok (.iinc 1 1, 3) := dk_132 1 1 (dk_at dksX0_layLives_1 10 rfl rfl)
theorem dX0_layLives_36 : decode cX0_layLives 36 = .ok (.goto (-34), 3) := dk_167 255 222 (dk_at dksX0_layLives_1 13 rfl rfl)
theorem dX0_layLives_39 : decode cX0_layLives 39 = .ok (.return_, 1) := dk_177 (dk_at dksX0_layLives_1 16 rfl rfl)
abbrev cX0_enviesBy : ByteArray := prog_1_method_47_code
def yX0_enviesBy : MethodName := ⟨RX0, "enviesBy", "([I)I"⟩
def dkwX0_enviesBy_3 : List UInt8 := [162, 0, 6, 132, 2, 1, 132, 4, 1, 167, 255, 193, 132, 3, 1, 167, 255, 176, 28, 172]
abbrev dktX0_enviesBy_3 : List UInt8 := dkwX0_enviesBy_3 ++ []
def dkwX0_enviesBy_2 : List UInt8 := [192, 0, 102, 180, 0, 198, 42, 180, 0, 19, 180, 0, 95, 29, 182, 0, 98, 192, 0, 102, 180, 0, 198]
abbrev dktX0_enviesBy_2 : List UInt8 := dkwX0_enviesBy_2 ++ dktX0_enviesBy_3
def dkwX0_enviesBy_1 : List UInt8 := [43, 21, 4, 46, 43, 29, 46, 163, 0, 44, 42, 180, 0, 19, 180, 0, 95, 21, 4, 182, 0, 98]
abbrev dktX0_enviesBy_1 : List UInt8 := dkwX0_enviesBy_1 ++ dktX0_enviesBy_2
def dkwX0_enviesBy_0 : List UInt8 := [3, 61, 3, 62, 29, 42, 182, 0, 91, 162, 0, 78, 3, 54, 4, 21, 4, 42, 182, 0, 91, 162, 0, 60]
abbrev dktX0_enviesBy_0 : List UInt8 := dkwX0_enviesBy_0 ++ dktX0_enviesBy_1
theorem dksX0_enviesBy_0 : cX0_enviesBy.data.toList.drop 0 = dktX0_enviesBy_0 := by decide +kernel
theorem dksX0_enviesBy_1 : cX0_enviesBy.data.toList.drop 24 = dktX0_enviesBy_1 := dk_seg dksX0_enviesBy_0 24 rfl rfl
theorem dksX0_enviesBy_2 : cX0_enviesBy.data.toList.drop 46 = dktX0_enviesBy_2 := dk_seg dksX0_enviesBy_1 22 rfl rfl
theorem dksX0_enviesBy_3 : cX0_enviesBy.data.toList.drop 69 = dktX0_enviesBy_3 := dk_seg dksX0_enviesBy_2 23 rfl rfl
theorem dX0_enviesBy_0 : decode cX0_enviesBy 0 = .ok (.iconst 0, 1) := dk_3 (dk_at dksX0_enviesBy_0 0 rfl rfl)
theorem dX0_enviesBy_1 : decode cX0_enviesBy 1 = .ok (.istore_n 2, 1) := dk_61 (dk_at dksX0_enviesBy_0 1 rfl rfl)
theorem dX0_enviesBy_2 : decode cX0_enviesBy 2 = .ok (.iconst 0, 1) := dk_3 (dk_at dksX0_enviesBy_0 2 rfl rfl)
theorem dX0_enviesBy_3 : decode cX0_enviesBy 3 = .ok (.istore_n 3, 1) := dk_62 (dk_at dksX0_enviesBy_0 3 rfl rfl)
theorem dX0_enviesBy_4 : decode cX0_enviesBy 4 = .ok (.iload_n 3, 1) := dk_29 (dk_at dksX0_enviesBy_0 4 rfl rfl)
theorem dX0_enviesBy_5 : decode cX0_enviesBy 5 = .ok (.aload_n 0, 1) := dk_42 (dk_at dksX0_enviesBy_0 5 rfl rfl)
theorem dX0_enviesBy_6 : decode cX0_enviesBy 6 = .ok (.invokevirtual 91, 3) := dk_182 0 91 (dk_at dksX0_enviesBy_0 6 rfl rfl)
theorem dX0_enviesBy_9 : decode cX0_enviesBy 9 = .ok (.if_icmp .ge 78, 3) := dk_162 0 78 (dk_at dksX0_enviesBy_0 9 rfl rfl)
theorem dX0_enviesBy_12 : decode cX0_enviesBy 12 = .ok (.iconst 0, 1) := dk_3 (dk_at dksX0_enviesBy_0 12 rfl rfl)
theorem dX0_enviesBy_13 : decode cX0_enviesBy 13 = .ok (.istore 4, 2) := dk_54 4 (dk_at dksX0_enviesBy_0 13 rfl rfl)
theorem dX0_enviesBy_15 : decode cX0_enviesBy 15 = .ok (.iload 4, 2) := dk_21 4 (dk_at dksX0_enviesBy_0 15 rfl rfl)
theorem dX0_enviesBy_17 : decode cX0_enviesBy 17 = .ok (.aload_n 0, 1) := dk_42 (dk_at dksX0_enviesBy_0 17 rfl rfl)
theorem dX0_enviesBy_18 : decode cX0_enviesBy 18 = .ok (.invokevirtual 91, 3) := dk_182 0 91 (dk_at dksX0_enviesBy_0 18 rfl rfl)
theorem dX0_enviesBy_21 : decode cX0_enviesBy 21 = .ok (.if_icmp .ge 60, 3) := dk_162 0 60 (dk_at dksX0_enviesBy_0 21 rfl rfl)
theorem dX0_enviesBy_24 : decode cX0_enviesBy 24 = .ok (.aload_n 1, 1) := dk_43 (dk_at dksX0_enviesBy_1 0 rfl rfl)
theorem dX0_enviesBy_25 : decode cX0_enviesBy 25 = .ok (.iload 4, 2) := dk_21 4 (dk_at dksX0_enviesBy_1 1 rfl rfl)
theorem dX0_enviesBy_27 : decode cX0_enviesBy 27 = .ok (.iaload, 1) := dk_46 (dk_at dksX0_enviesBy_1 3 rfl rfl)
theorem dX0_enviesBy_28 : decode cX0_enviesBy 28 = .ok (.aload_n 1, 1) := dk_43 (dk_at dksX0_enviesBy_1 4 rfl rfl)
theorem dX0_enviesBy_29 : decode cX0_enviesBy 29 = .ok (.iload_n 3, 1) := dk_29 (dk_at dksX0_enviesBy_1 5 rfl rfl)
theorem dX0_enviesBy_30 : decode cX0_enviesBy 30 = .ok (.iaload, 1) := dk_46 (dk_at dksX0_enviesBy_1 6 rfl rfl)
theorem dX0_enviesBy_31 : decode cX0_enviesBy 31 = .ok (.if_icmp .gt 44, 3) := dk_163 0 44 (dk_at dksX0_enviesBy_1 7 rfl rfl)
theorem dX0_enviesBy_34 : decode cX0_enviesBy 34 = .ok (.aload_n 0, 1) := dk_42 (dk_at dksX0_enviesBy_1 10 rfl rfl)
theorem dX0_enviesBy_35 : decode cX0_enviesBy 35 = .ok (.getfield 19, 3) := dk_180 0 19 (dk_at dksX0_enviesBy_1 11 rfl rfl)
theorem dX0_enviesBy_38 : decode cX0_enviesBy 38 = .ok (.getfield 95, 3) := dk_180 0 95 (dk_at dksX0_enviesBy_1 14 rfl rfl)
theorem dX0_enviesBy_41 : decode cX0_enviesBy 41 = .ok (.iload 4, 2) := dk_21 4 (dk_at dksX0_enviesBy_1 17 rfl rfl)
theorem dX0_enviesBy_43 : decode cX0_enviesBy 43 = .ok (.invokevirtual 98, 3) := dk_182 0 98 (dk_at dksX0_enviesBy_1 19 rfl rfl)
theorem dX0_enviesBy_46 : decode cX0_enviesBy 46 = .ok (.checkcast 102, 3) := dk_192 0 102 (dk_at dksX0_enviesBy_2 0 rfl rfl)
theorem dX0_enviesBy_49 : decode cX0_enviesBy 49 = .ok (.getfield 198, 3) := dk_180 0 198 (dk_at dksX0_enviesBy_2 3 rfl rfl)
theorem dX0_enviesBy_52 : decode cX0_enviesBy 52 = .ok (.aload_n 0, 1) := dk_42 (dk_at dksX0_enviesBy_2 6 rfl rfl)
theorem dX0_enviesBy_53 : decode cX0_enviesBy 53 = .ok (.getfield 19, 3) := dk_180 0 19 (dk_at dksX0_enviesBy_2 7 rfl rfl)
theorem dX0_enviesBy_56 : decode cX0_enviesBy 56 = .ok (.getfield 95, 3) := dk_180 0 95 (dk_at dksX0_enviesBy_2 10 rfl rfl)
theorem dX0_enviesBy_59 : decode cX0_enviesBy 59 = .ok (.iload_n 3, 1) := dk_29 (dk_at dksX0_enviesBy_2 13 rfl rfl)
theorem dX0_enviesBy_60 : decode cX0_enviesBy 60 = .ok (.invokevirtual 98, 3) := dk_182 0 98 (dk_at dksX0_enviesBy_2 14 rfl rfl)
theorem dX0_enviesBy_63 : decode cX0_enviesBy 63 = .ok (.checkcast 102, 3) := dk_192 0 102 (dk_at dksX0_enviesBy_2 17 rfl rfl)
theorem dX0_enviesBy_66 : decode cX0_enviesBy 66 = .ok (.getfield 198, 3) := dk_180 0 198 (dk_at dksX0_enviesBy_2 20 rfl rfl)
theorem dX0_enviesBy_69 : decode cX0_enviesBy 69 = .ok (.if_icmp .ge 6, 3) := dk_162 0 6 (dk_at dksX0_enviesBy_3 0 rfl rfl)
theorem dX0_enviesBy_72 : decode cX0_enviesBy 72 = .ok (.iinc 2 1, 3) := dk_132 2 1 (dk_at dksX0_enviesBy_3 3 rfl rfl)
theorem dX0_enviesBy_75 : decode cX0_enviesBy 75 = .ok (.iinc 4 1, 3) := dk_132 4 1 (dk_at dksX0_enviesBy_3 6 rfl rfl)
theorem dX0_enviesBy_78 : decode cX0_enviesBy 78 = .ok (.goto (-63), 3) := dk_167 255 193 (dk_at dksX0_enviesBy_3 9 rfl rfl)
theorem dX0_enviesBy_81 : decode cX0_enviesBy 81 = .ok (.iinc 3 1, 3) := dk_132 3 1 (dk_at dksX0_enviesBy_3 12 rfl rfl)
theorem dX0_enviesBy_84 : decode cX0_enviesBy 84 = .ok (.goto (-80), 3) := dk_167 255 176 (dk_at dksX0_enviesBy_3 15 rfl rfl)
theorem dX0_enviesBy_87 : decode cX0_enviesBy 87 = .ok (.iload_n 2, 1) := dk_28 (dk_at dksX0_enviesBy_3 18 rfl rfl)
theorem dX0_enviesBy_88 : decode cX0_enviesBy 88 = .ok (.ireturn, 1) := dk_172 (dk_at dksX0_enviesBy_3 19 rfl rfl)
abbrev cX0_calm : ByteArray := prog_1_method_50_code
def yX0_calm : MethodName := ⟨RX0, "calm", "(I)I"⟩
def dkwX0_calm_7 : List UInt8 := [160, 0, 7, 28, 167, 0, 4, 2, 172]
abbrev dktX0_calm_7 : List UInt8 := dkwX0_calm_7 ++ []
def dkwX0_calm_6 : List UInt8 := [154, 0, 10, 29, 16, 8, 108, 167, 0, 25, 27, 4, 160, 0, 10, 29, 16, 8, 112, 167, 0, 13, 27, 5]
abbrev dktX0_calm_6 : List UInt8 := dkwX0_calm_6 ++ dktX0_calm_7
def dkwX0_calm_5 : List UInt8 := [21, 6, 61, 132, 5, 1, 167, 255, 159, 132, 4, 1, 167, 255, 138, 29, 156, 0, 7, 2, 167, 0, 36, 27]
abbrev dktX0_calm_5 : List UInt8 := dkwX0_calm_5 ++ dktX0_calm_6
def dkwX0_calm_4 : List UInt8 := [182, 1, 36, 54, 6, 21, 6, 28, 161, 0, 6, 167, 0, 15, 16, 8, 21, 4, 104, 21, 5, 96, 62]
abbrev dktX0_calm_4 : List UInt8 := dkwX0_calm_4 ++ dktX0_calm_5
def dkwX0_calm_3 : List UInt8 := [42, 180, 0, 19, 180, 0, 95, 21, 4, 182, 0, 98, 192, 0, 102, 180, 0, 192, 79, 42, 42, 180, 0, 64]
abbrev dktX0_calm_3 : List UInt8 := dkwX0_calm_3 ++ dktX0_calm_4
def dkwX0_calm_2 : List UInt8 := [180, 0, 19, 180, 0, 95, 21, 5, 182, 0, 98, 192, 0, 102, 180, 0, 192, 79, 42, 180, 0, 64, 21, 5]
abbrev dktX0_calm_2 : List UInt8 := dkwX0_calm_2 ++ dktX0_calm_3
def dkwX0_calm_1 : List UInt8 := [54, 5, 21, 5, 42, 182, 0, 91, 162, 0, 94, 42, 182, 1, 33, 42, 180, 0, 64, 21, 4, 42]
abbrev dktX0_calm_1 : List UInt8 := dkwX0_calm_1 ++ dktX0_calm_2
def dkwX0_calm_0 : List UInt8 := [42, 182, 1, 40, 61, 2, 62, 3, 54, 4, 21, 4, 42, 182, 0, 91, 162, 0, 115, 21, 4, 4, 96]
abbrev dktX0_calm_0 : List UInt8 := dkwX0_calm_0 ++ dktX0_calm_1
theorem dksX0_calm_0 : cX0_calm.data.toList.drop 0 = dktX0_calm_0 := by decide +kernel
theorem dksX0_calm_1 : cX0_calm.data.toList.drop 23 = dktX0_calm_1 := dk_seg dksX0_calm_0 23 rfl rfl
theorem dksX0_calm_2 : cX0_calm.data.toList.drop 45 = dktX0_calm_2 := dk_seg dksX0_calm_1 22 rfl rfl
theorem dksX0_calm_3 : cX0_calm.data.toList.drop 69 = dktX0_calm_3 := dk_seg dksX0_calm_2 24 rfl rfl
theorem dksX0_calm_4 : cX0_calm.data.toList.drop 93 = dktX0_calm_4 := dk_seg dksX0_calm_3 24 rfl rfl
theorem dksX0_calm_5 : cX0_calm.data.toList.drop 116 = dktX0_calm_5 := dk_seg dksX0_calm_4 23 rfl rfl
theorem dksX0_calm_6 : cX0_calm.data.toList.drop 140 = dktX0_calm_6 := dk_seg dksX0_calm_5 24 rfl rfl
theorem dksX0_calm_7 : cX0_calm.data.toList.drop 164 = dktX0_calm_7 := dk_seg dksX0_calm_6 24 rfl rfl
theorem dX0_calm_0 : decode cX0_calm 0 = .ok (.aload_n 0, 1) := dk_42 (dk_at dksX0_calm_0 0 rfl rfl)
theorem dX0_calm_1 : decode cX0_calm 1 = .ok (.invokevirtual 296, 3) := dk_182 1 40 (dk_at dksX0_calm_0 1 rfl rfl)
theorem dX0_calm_4 : decode cX0_calm 4 = .ok (.istore_n 2, 1) := dk_61 (dk_at dksX0_calm_0 4 rfl rfl)
theorem dX0_calm_5 : decode cX0_calm 5 = .ok (.iconst (-1), 1) := dk_2 (dk_at dksX0_calm_0 5 rfl rfl)
theorem dX0_calm_6 : decode cX0_calm 6 = .ok (.istore_n 3, 1) := dk_62 (dk_at dksX0_calm_0 6 rfl rfl)
theorem dX0_calm_7 : decode cX0_calm 7 = .ok (.iconst 0, 1) := dk_3 (dk_at dksX0_calm_0 7 rfl rfl)
theorem dX0_calm_8 : decode cX0_calm 8 = .ok (.istore 4, 2) := dk_54 4 (dk_at dksX0_calm_0 8 rfl rfl)
theorem dX0_calm_10 : decode cX0_calm 10 = .ok (.iload 4, 2) := dk_21 4 (dk_at dksX0_calm_0 10 rfl rfl)
theorem dX0_calm_12 : decode cX0_calm 12 = .ok (.aload_n 0, 1) := dk_42 (dk_at dksX0_calm_0 12 rfl rfl)
theorem dX0_calm_13 : decode cX0_calm 13 = .ok (.invokevirtual 91, 3) := dk_182 0 91 (dk_at dksX0_calm_0 13 rfl rfl)
theorem dX0_calm_16 : decode cX0_calm 16 = .ok (.if_icmp .ge 115, 3) := dk_162 0 115 (dk_at dksX0_calm_0 16 rfl rfl)
theorem dX0_calm_19 : decode cX0_calm 19 = .ok (.iload 4, 2) := dk_21 4 (dk_at dksX0_calm_0 19 rfl rfl)
theorem dX0_calm_21 : decode cX0_calm 21 = .ok (.iconst 1, 1) := dk_4 (dk_at dksX0_calm_0 21 rfl rfl)
theorem dX0_calm_22 : decode cX0_calm 22 = .ok (.iadd, 1) := dk_96 (dk_at dksX0_calm_0 22 rfl rfl)
theorem dX0_calm_23 : decode cX0_calm 23 = .ok (.istore 5, 2) := dk_54 5 (dk_at dksX0_calm_1 0 rfl rfl)
theorem dX0_calm_25 : decode cX0_calm 25 = .ok (.iload 5, 2) := dk_21 5 (dk_at dksX0_calm_1 2 rfl rfl)
theorem dX0_calm_27 : decode cX0_calm 27 = .ok (.aload_n 0, 1) := dk_42 (dk_at dksX0_calm_1 4 rfl rfl)
theorem dX0_calm_28 : decode cX0_calm 28 = .ok (.invokevirtual 91, 3) := dk_182 0 91 (dk_at dksX0_calm_1 5 rfl rfl)
theorem dX0_calm_31 : decode cX0_calm 31 = .ok (.if_icmp .ge 94, 3) := dk_162 0 94 (dk_at dksX0_calm_1 8 rfl rfl)
theorem dX0_calm_34 : decode cX0_calm 34 = .ok (.aload_n 0, 1) := dk_42 (dk_at dksX0_calm_1 11 rfl rfl)
theorem dX0_calm_35 : decode cX0_calm 35 = .ok (.invokevirtual 289, 3) := dk_182 1 33 (dk_at dksX0_calm_1 12 rfl rfl)
theorem dX0_calm_38 : decode cX0_calm 38 = .ok (.aload_n 0, 1) := dk_42 (dk_at dksX0_calm_1 15 rfl rfl)
theorem dX0_calm_39 : decode cX0_calm 39 = .ok (.getfield 64, 3) := dk_180 0 64 (dk_at dksX0_calm_1 16 rfl rfl)
theorem dX0_calm_42 : decode cX0_calm 42 = .ok (.iload 4, 2) := dk_21 4 (dk_at dksX0_calm_1 19 rfl rfl)
theorem dX0_calm_44 : decode cX0_calm 44 = .ok (.aload_n 0, 1) := dk_42 (dk_at dksX0_calm_1 21 rfl rfl)
theorem dX0_calm_45 : decode cX0_calm 45 = .ok (.getfield 19, 3) := dk_180 0 19 (dk_at dksX0_calm_2 0 rfl rfl)
theorem dX0_calm_48 : decode cX0_calm 48 = .ok (.getfield 95, 3) := dk_180 0 95 (dk_at dksX0_calm_2 3 rfl rfl)
theorem dX0_calm_51 : decode cX0_calm 51 = .ok (.iload 5, 2) := dk_21 5 (dk_at dksX0_calm_2 6 rfl rfl)
theorem dX0_calm_53 : decode cX0_calm 53 = .ok (.invokevirtual 98, 3) := dk_182 0 98 (dk_at dksX0_calm_2 8 rfl rfl)
theorem dX0_calm_56 : decode cX0_calm 56 = .ok (.checkcast 102, 3) := dk_192 0 102 (dk_at dksX0_calm_2 11 rfl rfl)
theorem dX0_calm_59 : decode cX0_calm 59 = .ok (.getfield 192, 3) := dk_180 0 192 (dk_at dksX0_calm_2 14 rfl rfl)
theorem dX0_calm_62 : decode cX0_calm 62 = .ok (.iastore, 1) := dk_79 (dk_at dksX0_calm_2 17 rfl rfl)
theorem dX0_calm_63 : decode cX0_calm 63 = .ok (.aload_n 0, 1) := dk_42 (dk_at dksX0_calm_2 18 rfl rfl)
theorem dX0_calm_64 : decode cX0_calm 64 = .ok (.getfield 64, 3) := dk_180 0 64 (dk_at dksX0_calm_2 19 rfl rfl)
theorem dX0_calm_67 : decode cX0_calm 67 = .ok (.iload 5, 2) := dk_21 5 (dk_at dksX0_calm_2 22 rfl rfl)
theorem dX0_calm_69 : decode cX0_calm 69 = .ok (.aload_n 0, 1) := dk_42 (dk_at dksX0_calm_3 0 rfl rfl)
theorem dX0_calm_70 : decode cX0_calm 70 = .ok (.getfield 19, 3) := dk_180 0 19 (dk_at dksX0_calm_3 1 rfl rfl)
theorem dX0_calm_73 : decode cX0_calm 73 = .ok (.getfield 95, 3) := dk_180 0 95 (dk_at dksX0_calm_3 4 rfl rfl)
theorem dX0_calm_76 : decode cX0_calm 76 = .ok (.iload 4, 2) := dk_21 4 (dk_at dksX0_calm_3 7 rfl rfl)
theorem dX0_calm_78 : decode cX0_calm 78 = .ok (.invokevirtual 98, 3) := dk_182 0 98 (dk_at dksX0_calm_3 9 rfl rfl)
theorem dX0_calm_81 : decode cX0_calm 81 = .ok (.checkcast 102, 3) := dk_192 0 102 (dk_at dksX0_calm_3 12 rfl rfl)
theorem dX0_calm_84 : decode cX0_calm 84 = .ok (.getfield 192, 3) := dk_180 0 192 (dk_at dksX0_calm_3 15 rfl rfl)
theorem dX0_calm_87 : decode cX0_calm 87 = .ok (.iastore, 1) := dk_79 (dk_at dksX0_calm_3 18 rfl rfl)
theorem dX0_calm_88 : decode cX0_calm 88 = .ok (.aload_n 0, 1) := dk_42 (dk_at dksX0_calm_3 19 rfl rfl)
theorem dX0_calm_89 : decode cX0_calm 89 = .ok (.aload_n 0, 1) := dk_42 (dk_at dksX0_calm_3 20 rfl rfl)
theorem dX0_calm_90 : decode cX0_calm 90 = .ok (.getfield 64, 3) := dk_180 0 64 (dk_at dksX0_calm_3 21 rfl rfl)
theorem dX0_calm_93 : decode cX0_calm 93 = .ok (.invokevirtual 292, 3) := dk_182 1 36 (dk_at dksX0_calm_4 0 rfl rfl)
theorem dX0_calm_96 : decode cX0_calm 96 = .ok (.istore 6, 2) := dk_54 6 (dk_at dksX0_calm_4 3 rfl rfl)
theorem dX0_calm_98 : decode cX0_calm 98 = .ok (.iload 6, 2) := dk_21 6 (dk_at dksX0_calm_4 5 rfl rfl)
theorem dX0_calm_100 : decode cX0_calm 100 = .ok (.iload_n 2, 1) := dk_28 (dk_at dksX0_calm_4 7 rfl rfl)
theorem dX0_calm_101 : decode cX0_calm 101 = .ok (.if_icmp .lt 6, 3) := dk_161 0 6 (dk_at dksX0_calm_4 8 rfl rfl)
theorem dX0_calm_104 : decode cX0_calm 104 = .ok (.goto 15, 3) := dk_167 0 15 (dk_at dksX0_calm_4 11 rfl rfl)
theorem dX0_calm_107 : decode cX0_calm 107 = .ok (.bipush 8, 2) := dk_16 8 (dk_at dksX0_calm_4 14 rfl rfl)
theorem dX0_calm_109 : decode cX0_calm 109 = .ok (.iload 4, 2) := dk_21 4 (dk_at dksX0_calm_4 16 rfl rfl)
theorem dX0_calm_111 : decode cX0_calm 111 = .ok (.imul, 1) := dk_104 (dk_at dksX0_calm_4 18 rfl rfl)
theorem dX0_calm_112 : decode cX0_calm 112 = .ok (.iload 5, 2) := dk_21 5 (dk_at dksX0_calm_4 19 rfl rfl)
theorem dX0_calm_114 : decode cX0_calm 114 = .ok (.iadd, 1) := dk_96 (dk_at dksX0_calm_4 21 rfl rfl)
theorem dX0_calm_115 : decode cX0_calm 115 = .ok (.istore_n 3, 1) := dk_62 (dk_at dksX0_calm_4 22 rfl rfl)
theorem dX0_calm_116 : decode cX0_calm 116 = .ok (.iload 6, 2) := dk_21 6 (dk_at dksX0_calm_5 0 rfl rfl)
theorem dX0_calm_118 : decode cX0_calm 118 = .ok (.istore_n 2, 1) := dk_61 (dk_at dksX0_calm_5 2 rfl rfl)
theorem dX0_calm_119 : decode cX0_calm 119 = .ok (.iinc 5 1, 3) := dk_132 5 1 (dk_at dksX0_calm_5 3 rfl rfl)
theorem dX0_calm_122 : decode cX0_calm 122 = .ok (.goto (-97), 3) := dk_167 255 159 (dk_at dksX0_calm_5 6 rfl rfl)
theorem dX0_calm_125 : decode cX0_calm 125 = .ok (.iinc 4 1, 3) := dk_132 4 1 (dk_at dksX0_calm_5 9 rfl rfl)
theorem dX0_calm_128 : decode cX0_calm 128 = .ok (.goto (-118), 3) := dk_167 255 138 (dk_at dksX0_calm_5 12 rfl rfl)
theorem dX0_calm_131 : decode cX0_calm 131 = .ok (.iload_n 3, 1) := dk_29 (dk_at dksX0_calm_5 15 rfl rfl)
theorem dX0_calm_132 : decode cX0_calm 132 = .ok (.ifCond .ge 7, 3) := dk_156 0 7 (dk_at dksX0_calm_5 16 rfl rfl)
theorem dX0_calm_135 : decode cX0_calm 135 = .ok (.iconst (-1), 1) := dk_2 (dk_at dksX0_calm_5 19 rfl rfl)
theorem dX0_calm_136 : decode cX0_calm 136 = .ok (.goto 36, 3) := dk_167 0 36 (dk_at dksX0_calm_5 20 rfl rfl)
theorem dX0_calm_139 : decode cX0_calm 139 = .ok (.iload_n 1, 1) := dk_27 (dk_at dksX0_calm_5 23 rfl rfl)
theorem dX0_calm_140 : decode cX0_calm 140 = .ok (.ifCond .ne 10, 3) := dk_154 0 10 (dk_at dksX0_calm_6 0 rfl rfl)
theorem dX0_calm_143 : decode cX0_calm 143 = .ok (.iload_n 3, 1) := dk_29 (dk_at dksX0_calm_6 3 rfl rfl)
theorem dX0_calm_144 : decode cX0_calm 144 = .ok (.bipush 8, 2) := dk_16 8 (dk_at dksX0_calm_6 4 rfl rfl)
theorem dX0_calm_146 : decode cX0_calm 146 = .ok (.idiv, 1) := dk_108 (dk_at dksX0_calm_6 6 rfl rfl)
theorem dX0_calm_147 : decode cX0_calm 147 = .ok (.goto 25, 3) := dk_167 0 25 (dk_at dksX0_calm_6 7 rfl rfl)
theorem dX0_calm_150 : decode cX0_calm 150 = .ok (.iload_n 1, 1) := dk_27 (dk_at dksX0_calm_6 10 rfl rfl)
theorem dX0_calm_151 : decode cX0_calm 151 = .ok (.iconst 1, 1) := dk_4 (dk_at dksX0_calm_6 11 rfl rfl)
theorem dX0_calm_152 : decode cX0_calm 152 = .ok (.if_icmp .ne 10, 3) := dk_160 0 10 (dk_at dksX0_calm_6 12 rfl rfl)
theorem dX0_calm_155 : decode cX0_calm 155 = .ok (.iload_n 3, 1) := dk_29 (dk_at dksX0_calm_6 15 rfl rfl)
theorem dX0_calm_156 : decode cX0_calm 156 = .ok (.bipush 8, 2) := dk_16 8 (dk_at dksX0_calm_6 16 rfl rfl)
theorem dX0_calm_158 : decode cX0_calm 158 = .ok (.irem, 1) := dk_112 (dk_at dksX0_calm_6 18 rfl rfl)
theorem dX0_calm_159 : decode cX0_calm 159 = .ok (.goto 13, 3) := dk_167 0 13 (dk_at dksX0_calm_6 19 rfl rfl)
theorem dX0_calm_162 : decode cX0_calm 162 = .ok (.iload_n 1, 1) := dk_27 (dk_at dksX0_calm_6 22 rfl rfl)
theorem dX0_calm_163 : decode cX0_calm 163 = .ok (.iconst 2, 1) := dk_5 (dk_at dksX0_calm_6 23 rfl rfl)
theorem dX0_calm_164 : decode cX0_calm 164 = .ok (.if_icmp .ne 7, 3) := dk_160 0 7 (dk_at dksX0_calm_7 0 rfl rfl)
theorem dX0_calm_167 : decode cX0_calm 167 = .ok (.iload_n 2, 1) := dk_28 (dk_at dksX0_calm_7 3 rfl rfl)
theorem dX0_calm_168 : decode cX0_calm 168 = .ok (.goto 4, 3) := dk_167 0 4 (dk_at dksX0_calm_7 4 rfl rfl)
theorem dX0_calm_171 : decode cX0_calm 171 = .ok (.iconst (-1), 1) := dk_2 (dk_at dksX0_calm_7 7 rfl rfl)
theorem dX0_calm_172 : decode cX0_calm 172 = .ok (.ireturn, 1) := dk_172 (dk_at dksX0_calm_7 8 rfl rfl)
abbrev cX0_live : ByteArray := prog_1_method_51_code
def yX0_live : MethodName := ⟨RX0, "live", "(I)I"⟩
def dkwX0_live_2 : List UInt8 := [160, 0, 9, 28, 4, 29, 120, 128, 61, 132, 3, 1, 167, 255, 218, 28, 172]
abbrev dktX0_live_2 : List UInt8 := dkwX0_live_2 ++ []
def dkwX0_live_1 : List UInt8 := [182, 0, 91, 162, 0, 36, 42, 180, 0, 19, 180, 0, 95, 29, 182, 0, 98, 192, 0, 102, 180, 0, 192, 27]
abbrev dktX0_live_1 : List UInt8 := dkwX0_live_1 ++ dktX0_live_2
def dkwX0_live_0 : List UInt8 := [27, 3, 42, 180, 0, 19, 180, 0, 208, 184, 0, 155, 154, 0, 5, 2, 172, 3, 61, 3, 62, 29, 42]
abbrev dktX0_live_0 : List UInt8 := dkwX0_live_0 ++ dktX0_live_1
theorem dksX0_live_0 : cX0_live.data.toList.drop 0 = dktX0_live_0 := by decide +kernel
theorem dksX0_live_1 : cX0_live.data.toList.drop 23 = dktX0_live_1 := dk_seg dksX0_live_0 23 rfl rfl
theorem dksX0_live_2 : cX0_live.data.toList.drop 47 = dktX0_live_2 := dk_seg dksX0_live_1 24 rfl rfl
theorem dX0_live_0 : decode cX0_live 0 = .ok (.iload_n 1, 1) := dk_27 (dk_at dksX0_live_0 0 rfl rfl)
theorem dX0_live_1 : decode cX0_live 1 = .ok (.iconst 0, 1) := dk_3 (dk_at dksX0_live_0 1 rfl rfl)
theorem dX0_live_2 : decode cX0_live 2 = .ok (.aload_n 0, 1) := dk_42 (dk_at dksX0_live_0 2 rfl rfl)
theorem dX0_live_3 : decode cX0_live 3 = .ok (.getfield 19, 3) := dk_180 0 19 (dk_at dksX0_live_0 3 rfl rfl)
theorem dX0_live_6 : decode cX0_live 6 = .ok (.getfield 208, 3) := dk_180 0 208 (dk_at dksX0_live_0 6 rfl rfl)
theorem dX0_live_9 : decode cX0_live 9 = .ok (.invokestatic 155, 3) := dk_184 0 155 (dk_at dksX0_live_0 9 rfl rfl)
theorem dX0_live_12 : decode cX0_live 12 = .ok (.ifCond .ne 5, 3) := dk_154 0 5 (dk_at dksX0_live_0 12 rfl rfl)
theorem dX0_live_15 : decode cX0_live 15 = .ok (.iconst (-1), 1) := dk_2 (dk_at dksX0_live_0 15 rfl rfl)
theorem dX0_live_16 : decode cX0_live 16 = .ok (.ireturn, 1) := dk_172 (dk_at dksX0_live_0 16 rfl rfl)
theorem dX0_live_17 : decode cX0_live 17 = .ok (.iconst 0, 1) := dk_3 (dk_at dksX0_live_0 17 rfl rfl)
theorem dX0_live_18 : decode cX0_live 18 = .ok (.istore_n 2, 1) := dk_61 (dk_at dksX0_live_0 18 rfl rfl)
theorem dX0_live_19 : decode cX0_live 19 = .ok (.iconst 0, 1) := dk_3 (dk_at dksX0_live_0 19 rfl rfl)
theorem dX0_live_20 : decode cX0_live 20 = .ok (.istore_n 3, 1) := dk_62 (dk_at dksX0_live_0 20 rfl rfl)
theorem dX0_live_21 : decode cX0_live 21 = .ok (.iload_n 3, 1) := dk_29 (dk_at dksX0_live_0 21 rfl rfl)
theorem dX0_live_22 : decode cX0_live 22 = .ok (.aload_n 0, 1) := dk_42 (dk_at dksX0_live_0 22 rfl rfl)
theorem dX0_live_23 : decode cX0_live 23 = .ok (.invokevirtual 91, 3) := dk_182 0 91 (dk_at dksX0_live_1 0 rfl rfl)
theorem dX0_live_26 : decode cX0_live 26 = .ok (.if_icmp .ge 36, 3) := dk_162 0 36 (dk_at dksX0_live_1 3 rfl rfl)
theorem dX0_live_29 : decode cX0_live 29 = .ok (.aload_n 0, 1) := dk_42 (dk_at dksX0_live_1 6 rfl rfl)
theorem dX0_live_30 : decode cX0_live 30 = .ok (.getfield 19, 3) := dk_180 0 19 (dk_at dksX0_live_1 7 rfl rfl)
theorem dX0_live_33 : decode cX0_live 33 = .ok (.getfield 95, 3) := dk_180 0 95 (dk_at dksX0_live_1 10 rfl rfl)
theorem dX0_live_36 : decode cX0_live 36 = .ok (.iload_n 3, 1) := dk_29 (dk_at dksX0_live_1 13 rfl rfl)
theorem dX0_live_37 : decode cX0_live 37 = .ok (.invokevirtual 98, 3) := dk_182 0 98 (dk_at dksX0_live_1 14 rfl rfl)
theorem dX0_live_40 : decode cX0_live 40 = .ok (.checkcast 102, 3) := dk_192 0 102 (dk_at dksX0_live_1 17 rfl rfl)
theorem dX0_live_43 : decode cX0_live 43 = .ok (.getfield 192, 3) := dk_180 0 192 (dk_at dksX0_live_1 20 rfl rfl)
theorem dX0_live_46 : decode cX0_live 46 = .ok (.iload_n 1, 1) := dk_27 (dk_at dksX0_live_1 23 rfl rfl)
theorem dX0_live_47 : decode cX0_live 47 = .ok (.if_icmp .ne 9, 3) := dk_160 0 9 (dk_at dksX0_live_2 0 rfl rfl)
theorem dX0_live_50 : decode cX0_live 50 = .ok (.iload_n 2, 1) := dk_28 (dk_at dksX0_live_2 3 rfl rfl)
theorem dX0_live_51 : decode cX0_live 51 = .ok (.iconst 1, 1) := dk_4 (dk_at dksX0_live_2 4 rfl rfl)
theorem dX0_live_52 : decode cX0_live 52 = .ok (.iload_n 3, 1) := dk_29 (dk_at dksX0_live_2 5 rfl rfl)
theorem dX0_live_53 : decode cX0_live 53 = .ok (.ishl, 1) := dk_120 (dk_at dksX0_live_2 6 rfl rfl)
theorem dX0_live_54 : decode cX0_live 54 = .ok (.ior, 1) := dk_128 (dk_at dksX0_live_2 7 rfl rfl)
theorem dX0_live_55 : decode cX0_live 55 = .ok (.istore_n 2, 1) := dk_61 (dk_at dksX0_live_2 8 rfl rfl)
theorem dX0_live_56 : decode cX0_live 56 = .ok (.iinc 3 1, 3) := dk_132 3 1 (dk_at dksX0_live_2 9 rfl rfl)
theorem dX0_live_59 : decode cX0_live 59 = .ok (.goto (-38), 3) := dk_167 255 218 (dk_at dksX0_live_2 12 rfl rfl)
theorem dX0_live_62 : decode cX0_live 62 = .ok (.iload_n 2, 1) := dk_28 (dk_at dksX0_live_2 15 rfl rfl)
theorem dX0_live_63 : decode cX0_live 63 = .ok (.ireturn, 1) := dk_172 (dk_at dksX0_live_2 16 rfl rfl)
abbrev cX0_spread : ByteArray := prog_1_method_52_code
def yX0_spread : MethodName := ⟨RX0, "spread", "()I"⟩
def dkwX0_spread_2 : List UInt8 := [132, 3, 1, 167, 255, 225, 28, 27, 100, 172]
abbrev dktX0_spread_2 : List UInt8 := dkwX0_spread_2 ++ []
def dkwX0_spread_1 : List UInt8 := [162, 0, 29, 27, 42, 29, 182, 1, 43, 184, 0, 1, 60, 28, 42, 29, 182, 1, 43, 184, 0, 7, 61]
abbrev dktX0_spread_1 : List UInt8 := dkwX0_spread_1 ++ dktX0_spread_2
def dkwX0_spread_0 : List UInt8 := [42, 182, 0, 91, 154, 0, 5, 2, 172, 42, 3, 182, 1, 43, 60, 27, 61, 4, 62, 29, 42, 182, 0, 91]
abbrev dktX0_spread_0 : List UInt8 := dkwX0_spread_0 ++ dktX0_spread_1
theorem dksX0_spread_0 : cX0_spread.data.toList.drop 0 = dktX0_spread_0 := by decide +kernel
theorem dksX0_spread_1 : cX0_spread.data.toList.drop 24 = dktX0_spread_1 := dk_seg dksX0_spread_0 24 rfl rfl
theorem dksX0_spread_2 : cX0_spread.data.toList.drop 47 = dktX0_spread_2 := dk_seg dksX0_spread_1 23 rfl rfl
theorem dX0_spread_0 : decode cX0_spread 0 = .ok (.aload_n 0, 1) := dk_42 (dk_at dksX0_spread_0 0 rfl rfl)
theorem dX0_spread_1 : decode cX0_spread 1 = .ok (.invokevirtual 91, 3) := dk_182 0 91 (dk_at dksX0_spread_0 1 rfl rfl)
theorem dX0_spread_4 : decode cX0_spread 4 = .ok (.ifCond .ne 5, 3) := dk_154 0 5 (dk_at dksX0_spread_0 4 rfl rfl)
theorem dX0_spread_7 : decode cX0_spread 7 = .ok (.iconst (-1), 1) := dk_2 (dk_at dksX0_spread_0 7 rfl rfl)
theorem dX0_spread_8 : decode cX0_spread 8 = .ok (.ireturn, 1) := dk_172 (dk_at dksX0_spread_0 8 rfl rfl)
theorem dX0_spread_9 : decode cX0_spread 9 = .ok (.aload_n 0, 1) := dk_42 (dk_at dksX0_spread_0 9 rfl rfl)
theorem dX0_spread_10 : decode cX0_spread 10 = .ok (.iconst 0, 1) := dk_3 (dk_at dksX0_spread_0 10 rfl rfl)
theorem dX0_spread_11 : decode cX0_spread 11 = .ok (.invokevirtual 299, 3) := dk_182 1 43 (dk_at dksX0_spread_0 11 rfl rfl)
theorem dX0_spread_14 : decode cX0_spread 14 = .ok (.istore_n 1, 1) := dk_60 (dk_at dksX0_spread_0 14 rfl rfl)
theorem dX0_spread_15 : decode cX0_spread 15 = .ok (.iload_n 1, 1) := dk_27 (dk_at dksX0_spread_0 15 rfl rfl)
theorem dX0_spread_16 : decode cX0_spread 16 = .ok (.istore_n 2, 1) := dk_61 (dk_at dksX0_spread_0 16 rfl rfl)
theorem dX0_spread_17 : decode cX0_spread 17 = .ok (.iconst 1, 1) := dk_4 (dk_at dksX0_spread_0 17 rfl rfl)
theorem dX0_spread_18 : decode cX0_spread 18 = .ok (.istore_n 3, 1) := dk_62 (dk_at dksX0_spread_0 18 rfl rfl)
theorem dX0_spread_19 : decode cX0_spread 19 = .ok (.iload_n 3, 1) := dk_29 (dk_at dksX0_spread_0 19 rfl rfl)
theorem dX0_spread_20 : decode cX0_spread 20 = .ok (.aload_n 0, 1) := dk_42 (dk_at dksX0_spread_0 20 rfl rfl)
theorem dX0_spread_21 : decode cX0_spread 21 = .ok (.invokevirtual 91, 3) := dk_182 0 91 (dk_at dksX0_spread_0 21 rfl rfl)
theorem dX0_spread_24 : decode cX0_spread 24 = .ok (.if_icmp .ge 29, 3) := dk_162 0 29 (dk_at dksX0_spread_1 0 rfl rfl)
theorem dX0_spread_27 : decode cX0_spread 27 = .ok (.iload_n 1, 1) := dk_27 (dk_at dksX0_spread_1 3 rfl rfl)
theorem dX0_spread_28 : decode cX0_spread 28 = .ok (.aload_n 0, 1) := dk_42 (dk_at dksX0_spread_1 4 rfl rfl)
theorem dX0_spread_29 : decode cX0_spread 29 = .ok (.iload_n 3, 1) := dk_29 (dk_at dksX0_spread_1 5 rfl rfl)
theorem dX0_spread_30 : decode cX0_spread 30 = .ok (.invokevirtual 299, 3) := dk_182 1 43 (dk_at dksX0_spread_1 6 rfl rfl)
theorem dX0_spread_33 : decode cX0_spread 33 = .ok (.invokestatic 1, 3) := dk_184 0 1 (dk_at dksX0_spread_1 9 rfl rfl)
theorem dX0_spread_36 : decode cX0_spread 36 = .ok (.istore_n 1, 1) := dk_60 (dk_at dksX0_spread_1 12 rfl rfl)
theorem dX0_spread_37 : decode cX0_spread 37 = .ok (.iload_n 2, 1) := dk_28 (dk_at dksX0_spread_1 13 rfl rfl)
theorem dX0_spread_38 : decode cX0_spread 38 = .ok (.aload_n 0, 1) := dk_42 (dk_at dksX0_spread_1 14 rfl rfl)
theorem dX0_spread_39 : decode cX0_spread 39 = .ok (.iload_n 3, 1) := dk_29 (dk_at dksX0_spread_1 15 rfl rfl)
theorem dX0_spread_40 : decode cX0_spread 40 = .ok (.invokevirtual 299, 3) := dk_182 1 43 (dk_at dksX0_spread_1 16 rfl rfl)
theorem dX0_spread_43 : decode cX0_spread 43 = .ok (.invokestatic 7, 3) := dk_184 0 7 (dk_at dksX0_spread_1 19 rfl rfl)
theorem dX0_spread_46 : decode cX0_spread 46 = .ok (.istore_n 2, 1) := dk_61 (dk_at dksX0_spread_1 22 rfl rfl)
theorem dX0_spread_47 : decode cX0_spread 47 = .ok (.iinc 3 1, 3) := dk_132 3 1 (dk_at dksX0_spread_2 0 rfl rfl)
theorem dX0_spread_50 : decode cX0_spread 50 = .ok (.goto (-31), 3) := dk_167 255 225 (dk_at dksX0_spread_2 3 rfl rfl)
theorem dX0_spread_53 : decode cX0_spread 53 = .ok (.iload_n 2, 1) := dk_28 (dk_at dksX0_spread_2 6 rfl rfl)
theorem dX0_spread_54 : decode cX0_spread 54 = .ok (.iload_n 1, 1) := dk_27 (dk_at dksX0_spread_2 7 rfl rfl)
theorem dX0_spread_55 : decode cX0_spread 55 = .ok (.isub, 1) := dk_100 (dk_at dksX0_spread_2 8 rfl rfl)
theorem dX0_spread_56 : decode cX0_spread 56 = .ok (.ireturn, 1) := dk_172 (dk_at dksX0_spread_2 9 rfl rfl)
abbrev cX0_month : ByteArray := prog_1_method_56_code
def yX0_month : MethodName := ⟨RX0, "month", "(I)I"⟩
def dkwX0_month_1 : List UInt8 := [180, 0, 192, 182, 1, 49, 167, 0, 4, 2, 172]
abbrev dktX0_month_1 : List UInt8 := dkwX0_month_1 ++ []
def dkwX0_month_0 : List UInt8 := [42, 27, 182, 0, 188, 153, 0, 28, 42, 27, 42, 180, 0, 19, 180, 0, 95, 27, 182, 0, 98, 192, 0, 102]
abbrev dktX0_month_0 : List UInt8 := dkwX0_month_0 ++ dktX0_month_1
theorem dksX0_month_0 : cX0_month.data.toList.drop 0 = dktX0_month_0 := by decide +kernel
theorem dksX0_month_1 : cX0_month.data.toList.drop 24 = dktX0_month_1 := dk_seg dksX0_month_0 24 rfl rfl
theorem dX0_month_0 : decode cX0_month 0 = .ok (.aload_n 0, 1) := dk_42 (dk_at dksX0_month_0 0 rfl rfl)
theorem dX0_month_1 : decode cX0_month 1 = .ok (.iload_n 1, 1) := dk_27 (dk_at dksX0_month_0 1 rfl rfl)
theorem dX0_month_2 : decode cX0_month 2 = .ok (.invokevirtual 188, 3) := dk_182 0 188 (dk_at dksX0_month_0 2 rfl rfl)
theorem dX0_month_5 : decode cX0_month 5 = .ok (.ifCond .eq 28, 3) := dk_153 0 28 (dk_at dksX0_month_0 5 rfl rfl)
theorem dX0_month_8 : decode cX0_month 8 = .ok (.aload_n 0, 1) := dk_42 (dk_at dksX0_month_0 8 rfl rfl)
theorem dX0_month_9 : decode cX0_month 9 = .ok (.iload_n 1, 1) := dk_27 (dk_at dksX0_month_0 9 rfl rfl)
theorem dX0_month_10 : decode cX0_month 10 = .ok (.aload_n 0, 1) := dk_42 (dk_at dksX0_month_0 10 rfl rfl)
theorem dX0_month_11 : decode cX0_month 11 = .ok (.getfield 19, 3) := dk_180 0 19 (dk_at dksX0_month_0 11 rfl rfl)
theorem dX0_month_14 : decode cX0_month 14 = .ok (.getfield 95, 3) := dk_180 0 95 (dk_at dksX0_month_0 14 rfl rfl)
theorem dX0_month_17 : decode cX0_month 17 = .ok (.iload_n 1, 1) := dk_27 (dk_at dksX0_month_0 17 rfl rfl)
theorem dX0_month_18 : decode cX0_month 18 = .ok (.invokevirtual 98, 3) := dk_182 0 98 (dk_at dksX0_month_0 18 rfl rfl)
theorem dX0_month_21 : decode cX0_month 21 = .ok (.checkcast 102, 3) := dk_192 0 102 (dk_at dksX0_month_0 21 rfl rfl)
theorem dX0_month_24 : decode cX0_month 24 = .ok (.getfield 192, 3) := dk_180 0 192 (dk_at dksX0_month_1 0 rfl rfl)
theorem dX0_month_27 : decode cX0_month 27 = .ok (.invokevirtual 305, 3) := dk_182 1 49 (dk_at dksX0_month_1 3 rfl rfl)
theorem dX0_month_30 : decode cX0_month 30 = .ok (.goto 4, 3) := dk_167 0 4 (dk_at dksX0_month_1 6 rfl rfl)
theorem dX0_month_33 : decode cX0_month 33 = .ok (.iconst (-1), 1) := dk_2 (dk_at dksX0_month_1 9 rfl rfl)
theorem dX0_month_34 : decode cX0_month 34 = .ok (.ireturn, 1) := dk_172 (dk_at dksX0_month_1 10 rfl rfl)
abbrev cX0_costs : ByteArray := prog_1_method_53_code
def yX0_costs : MethodName := ⟨RX0, "costs", "(II)I"⟩
def dkwX0_costs_0 : List UInt8 := [16, 30, 28, 104, 42, 180, 0, 19, 180, 0, 95, 27, 182, 0, 98, 192, 0, 102, 180, 0, 198, 96, 172]
abbrev dktX0_costs_0 : List UInt8 := dkwX0_costs_0 ++ []
theorem dksX0_costs_0 : cX0_costs.data.toList.drop 0 = dktX0_costs_0 := by decide +kernel
theorem dX0_costs_0 : decode cX0_costs 0 = .ok (.bipush 30, 2) := dk_16 30 (dk_at dksX0_costs_0 0 rfl rfl)
theorem dX0_costs_2 : decode cX0_costs 2 = .ok (.iload_n 2, 1) := dk_28 (dk_at dksX0_costs_0 2 rfl rfl)
theorem dX0_costs_3 : decode cX0_costs 3 = .ok (.imul, 1) := dk_104 (dk_at dksX0_costs_0 3 rfl rfl)
theorem dX0_costs_4 : decode cX0_costs 4 = .ok (.aload_n 0, 1) := dk_42 (dk_at dksX0_costs_0 4 rfl rfl)
theorem dX0_costs_5 : decode cX0_costs 5 = .ok (.getfield 19, 3) := dk_180 0 19 (dk_at dksX0_costs_0 5 rfl rfl)
theorem dX0_costs_8 : decode cX0_costs 8 = .ok (.getfield 95, 3) := dk_180 0 95 (dk_at dksX0_costs_0 8 rfl rfl)
theorem dX0_costs_11 : decode cX0_costs 11 = .ok (.iload_n 1, 1) := dk_27 (dk_at dksX0_costs_0 11 rfl rfl)
theorem dX0_costs_12 : decode cX0_costs 12 = .ok (.invokevirtual 98, 3) := dk_182 0 98 (dk_at dksX0_costs_0 12 rfl rfl)
theorem dX0_costs_15 : decode cX0_costs 15 = .ok (.checkcast 102, 3) := dk_192 0 102 (dk_at dksX0_costs_0 15 rfl rfl)
theorem dX0_costs_18 : decode cX0_costs 18 = .ok (.getfield 198, 3) := dk_180 0 198 (dk_at dksX0_costs_0 18 rfl rfl)
theorem dX0_costs_21 : decode cX0_costs 21 = .ok (.iadd, 1) := dk_96 (dk_at dksX0_costs_0 21 rfl rfl)
theorem dX0_costs_22 : decode cX0_costs 22 = .ok (.ireturn, 1) := dk_172 (dk_at dksX0_costs_0 22 rfl rfl)
abbrev cX0_let : ByteArray := prog_1_method_55_code
def yX0_let : MethodName := ⟨RX0, "let", "()I"⟩
def dkwX0_let_1 : List UInt8 := [180, 1, 46, 172]
abbrev dktX0_let_1 : List UInt8 := dkwX0_let_1 ++ []
def dkwX0_let_0 : List UInt8 := [42, 3, 181, 0, 132, 42, 182, 0, 91, 154, 0, 5, 2, 172, 42, 3, 3, 3, 3, 182, 1, 52, 42]
abbrev dktX0_let_0 : List UInt8 := dkwX0_let_0 ++ dktX0_let_1
theorem dksX0_let_0 : cX0_let.data.toList.drop 0 = dktX0_let_0 := by decide +kernel
theorem dksX0_let_1 : cX0_let.data.toList.drop 23 = dktX0_let_1 := dk_seg dksX0_let_0 23 rfl rfl
theorem dX0_let_0 : decode cX0_let 0 = .ok (.aload_n 0, 1) := dk_42 (dk_at dksX0_let_0 0 rfl rfl)
theorem dX0_let_1 : decode cX0_let 1 = .ok (.iconst 0, 1) := dk_3 (dk_at dksX0_let_0 1 rfl rfl)
theorem dX0_let_2 : decode cX0_let 2 = .ok (.putfield 132, 3) := dk_181 0 132 (dk_at dksX0_let_0 2 rfl rfl)
theorem dX0_let_5 : decode cX0_let 5 = .ok (.aload_n 0, 1) := dk_42 (dk_at dksX0_let_0 5 rfl rfl)
theorem dX0_let_6 : decode cX0_let 6 = .ok (.invokevirtual 91, 3) := dk_182 0 91 (dk_at dksX0_let_0 6 rfl rfl)
theorem dX0_let_9 : decode cX0_let 9 = .ok (.ifCond .ne 5, 3) := dk_154 0 5 (dk_at dksX0_let_0 9 rfl rfl)
theorem dX0_let_12 : decode cX0_let 12 = .ok (.iconst (-1), 1) := dk_2 (dk_at dksX0_let_0 12 rfl rfl)
theorem dX0_let_13 : decode cX0_let 13 = .ok (.ireturn, 1) := dk_172 (dk_at dksX0_let_0 13 rfl rfl)
theorem dX0_let_14 : decode cX0_let 14 = .ok (.aload_n 0, 1) := dk_42 (dk_at dksX0_let_0 14 rfl rfl)
theorem dX0_let_15 : decode cX0_let 15 = .ok (.iconst 0, 1) := dk_3 (dk_at dksX0_let_0 15 rfl rfl)
theorem dX0_let_16 : decode cX0_let 16 = .ok (.iconst 0, 1) := dk_3 (dk_at dksX0_let_0 16 rfl rfl)
theorem dX0_let_17 : decode cX0_let 17 = .ok (.iconst 0, 1) := dk_3 (dk_at dksX0_let_0 17 rfl rfl)
theorem dX0_let_18 : decode cX0_let 18 = .ok (.iconst 0, 1) := dk_3 (dk_at dksX0_let_0 18 rfl rfl)
theorem dX0_let_19 : decode cX0_let 19 = .ok (.invokevirtual 308, 3) := dk_182 1 52 (dk_at dksX0_let_0 19 rfl rfl)
theorem dX0_let_22 : decode cX0_let 22 = .ok (.aload_n 0, 1) := dk_42 (dk_at dksX0_let_0 22 rfl rfl)
theorem dX0_let_23 : decode cX0_let 23 = .ok (.getfield 302, 3) := dk_180 1 46 (dk_at dksX0_let_1 0 rfl rfl)
theorem dX0_let_26 : decode cX0_let 26 = .ok (.ireturn, 1) := dk_172 (dk_at dksX0_let_1 3 rfl rfl)
abbrev cX0_goLet : ByteArray := prog_1_method_54_code
def yX0_goLet : MethodName := ⟨RX0, "goLet", "(IIII)V"⟩
def dkwX0_goLet_8 : List UInt8 := [21, 4, 21, 7, 184, 0, 7, 182, 1, 52, 132, 5, 1, 167, 255, 118, 177]
abbrev dktX0_goLet_8 : List UInt8 := dkwX0_goLet_8 ++ []
def dkwX0_goLet_7 : List UInt8 := [154, 0, 8, 21, 7, 167, 0, 9, 29, 21, 7, 184, 0, 1, 27, 154, 0, 8, 21, 7, 167, 0, 10]
abbrev dktX0_goLet_7 : List UInt8 := dkwX0_goLet_7 ++ dktX0_goLet_8
def dkwX0_goLet_6 : List UInt8 := [21, 5, 79, 42, 27, 21, 5, 182, 1, 49, 54, 7, 42, 27, 4, 96, 28, 4, 21, 6, 120, 128, 27]
abbrev dktX0_goLet_6 : List UInt8 := dkwX0_goLet_6 ++ dktX0_goLet_7
def dkwX0_goLet_5 : List UInt8 := [132, 6, 1, 167, 255, 212, 21, 6, 42, 182, 0, 91, 160, 0, 6, 167, 0, 64, 42, 180, 0, 64, 27]
abbrev dktX0_goLet_5 : List UInt8 := dkwX0_goLet_5 ++ dktX0_goLet_6
def dkwX0_goLet_4 : List UInt8 := [42, 180, 0, 19, 180, 0, 95, 21, 6, 182, 0, 98, 192, 0, 102, 180, 0, 192, 21, 5, 159, 0, 9]
abbrev dktX0_goLet_4 : List UInt8 := dkwX0_goLet_4 ++ dktX0_goLet_5
def dkwX0_goLet_3 : List UInt8 := [163, 0, 132, 3, 54, 6, 21, 6, 42, 182, 0, 91, 162, 0, 41, 28, 21, 6, 184, 1, 2, 154, 0, 26]
abbrev dktX0_goLet_3 : List UInt8 := dkwX0_goLet_3 ++ dktX0_goLet_4
def dkwX0_goLet_2 : List UInt8 := [3, 42, 180, 0, 60, 3, 27, 184, 0, 242, 177, 3, 54, 5, 21, 5, 42, 180, 0, 19, 180, 0, 208]
abbrev dktX0_goLet_2 : List UInt8 := dkwX0_goLet_2 ++ dktX0_goLet_3
def dkwX0_goLet_1 : List UInt8 := [42, 182, 0, 91, 160, 0, 31, 42, 21, 4, 29, 100, 181, 1, 46, 42, 27, 181, 0, 132, 42, 180, 0, 64]
abbrev dktX0_goLet_1 : List UInt8 := dkwX0_goLet_1 ++ dktX0_goLet_2
def dkwX0_goLet_0 : List UInt8 := [27, 158, 0, 22, 42, 180, 0, 132, 158, 0, 15, 21, 4, 29, 100, 42, 180, 1, 46, 161, 0, 4, 177, 27]
abbrev dktX0_goLet_0 : List UInt8 := dkwX0_goLet_0 ++ dktX0_goLet_1
theorem dksX0_goLet_0 : cX0_goLet.data.toList.drop 0 = dktX0_goLet_0 := by decide +kernel
theorem dksX0_goLet_1 : cX0_goLet.data.toList.drop 24 = dktX0_goLet_1 := dk_seg dksX0_goLet_0 24 rfl rfl
theorem dksX0_goLet_2 : cX0_goLet.data.toList.drop 48 = dktX0_goLet_2 := dk_seg dksX0_goLet_1 24 rfl rfl
theorem dksX0_goLet_3 : cX0_goLet.data.toList.drop 71 = dktX0_goLet_3 := dk_seg dksX0_goLet_2 23 rfl rfl
theorem dksX0_goLet_4 : cX0_goLet.data.toList.drop 95 = dktX0_goLet_4 := dk_seg dksX0_goLet_3 24 rfl rfl
theorem dksX0_goLet_5 : cX0_goLet.data.toList.drop 118 = dktX0_goLet_5 := dk_seg dksX0_goLet_4 23 rfl rfl
theorem dksX0_goLet_6 : cX0_goLet.data.toList.drop 141 = dktX0_goLet_6 := dk_seg dksX0_goLet_5 23 rfl rfl
theorem dksX0_goLet_7 : cX0_goLet.data.toList.drop 164 = dktX0_goLet_7 := dk_seg dksX0_goLet_6 23 rfl rfl
theorem dksX0_goLet_8 : cX0_goLet.data.toList.drop 187 = dktX0_goLet_8 := dk_seg dksX0_goLet_7 23 rfl rfl
theorem dX0_goLet_0 : decode cX0_goLet 0 = .ok (.iload_n 1, 1) := dk_27 (dk_at dksX0_goLet_0 0 rfl rfl)
theorem dX0_goLet_1 : decode cX0_goLet 1 = .ok (.ifCond .le 22, 3) := dk_158 0 22 (dk_at dksX0_goLet_0 1 rfl rfl)
theorem dX0_goLet_4 : decode cX0_goLet 4 = .ok (.aload_n 0, 1) := dk_42 (dk_at dksX0_goLet_0 4 rfl rfl)
theorem dX0_goLet_5 : decode cX0_goLet 5 = .ok (.getfield 132, 3) := dk_180 0 132 (dk_at dksX0_goLet_0 5 rfl rfl)
theorem dX0_goLet_8 : decode cX0_goLet 8 = .ok (.ifCond .le 15, 3) := dk_158 0 15 (dk_at dksX0_goLet_0 8 rfl rfl)
theorem dX0_goLet_11 : decode cX0_goLet 11 = .ok (.iload 4, 2) := dk_21 4 (dk_at dksX0_goLet_0 11 rfl rfl)
theorem dX0_goLet_13 : decode cX0_goLet 13 = .ok (.iload_n 3, 1) := dk_29 (dk_at dksX0_goLet_0 13 rfl rfl)
theorem dX0_goLet_14 : decode cX0_goLet 14 = .ok (.isub, 1) := dk_100 (dk_at dksX0_goLet_0 14 rfl rfl)
theorem dX0_goLet_15 : decode cX0_goLet 15 = .ok (.aload_n 0, 1) := dk_42 (dk_at dksX0_goLet_0 15 rfl rfl)
theorem dX0_goLet_16 : decode cX0_goLet 16 = .ok (.getfield 302, 3) := dk_180 1 46 (dk_at dksX0_goLet_0 16 rfl rfl)
theorem dX0_goLet_19 : decode cX0_goLet 19 = .ok (.if_icmp .lt 4, 3) := dk_161 0 4 (dk_at dksX0_goLet_0 19 rfl rfl)
theorem dX0_goLet_22 : decode cX0_goLet 22 = .ok (.return_, 1) := dk_177 (dk_at dksX0_goLet_0 22 rfl rfl)
theorem dX0_goLet_23 : decode cX0_goLet 23 = .ok (.iload_n 1, 1) := dk_27 (dk_at dksX0_goLet_0 23 rfl rfl)
theorem dX0_goLet_24 : decode cX0_goLet 24 = .ok (.aload_n 0, 1) := dk_42 (dk_at dksX0_goLet_1 0 rfl rfl)
theorem dX0_goLet_25 : decode cX0_goLet 25 = .ok (.invokevirtual 91, 3) := dk_182 0 91 (dk_at dksX0_goLet_1 1 rfl rfl)
theorem dX0_goLet_28 : decode cX0_goLet 28 = .ok (.if_icmp .ne 31, 3) := dk_160 0 31 (dk_at dksX0_goLet_1 4 rfl rfl)
theorem dX0_goLet_31 : decode cX0_goLet 31 = .ok (.aload_n 0, 1) := dk_42 (dk_at dksX0_goLet_1 7 rfl rfl)
theorem dX0_goLet_32 : decode cX0_goLet 32 = .ok (.iload 4, 2) := dk_21 4 (dk_at dksX0_goLet_1 8 rfl rfl)
theorem dX0_goLet_34 : decode cX0_goLet 34 = .ok (.iload_n 3, 1) := dk_29 (dk_at dksX0_goLet_1 10 rfl rfl)
theorem dX0_goLet_35 : decode cX0_goLet 35 = .ok (.isub, 1) := dk_100 (dk_at dksX0_goLet_1 11 rfl rfl)
theorem dX0_goLet_36 : decode cX0_goLet 36 = .ok (.putfield 302, 3) := dk_181 1 46 (dk_at dksX0_goLet_1 12 rfl rfl)
theorem dX0_goLet_39 : decode cX0_goLet 39 = .ok (.aload_n 0, 1) := dk_42 (dk_at dksX0_goLet_1 15 rfl rfl)
theorem dX0_goLet_40 : decode cX0_goLet 40 = .ok (.iload_n 1, 1) := dk_27 (dk_at dksX0_goLet_1 16 rfl rfl)
theorem dX0_goLet_41 : decode cX0_goLet 41 = .ok (.putfield 132, 3) := dk_181 0 132 (dk_at dksX0_goLet_1 17 rfl rfl)
theorem dX0_goLet_44 : decode cX0_goLet 44 = .ok (.aload_n 0, 1) := dk_42 (dk_at dksX0_goLet_1 20 rfl rfl)
theorem dX0_goLet_45 : decode cX0_goLet 45 = .ok (.getfield 64, 3) := dk_180 0 64 (dk_at dksX0_goLet_1 21 rfl rfl)
theorem dX0_goLet_48 : decode cX0_goLet 48 = .ok (.iconst 0, 1) := dk_3 (dk_at dksX0_goLet_2 0 rfl rfl)
theorem dX0_goLet_49 : decode cX0_goLet 49 = .ok (.aload_n 0, 1) := dk_42 (dk_at dksX0_goLet_2 1 rfl rfl)
theorem dX0_goLet_50 : decode cX0_goLet 50 = .ok (.getfield 60, 3) := dk_180 0 60 (dk_at dksX0_goLet_2 2 rfl rfl)
theorem dX0_goLet_53 : decode cX0_goLet 53 = .ok (.iconst 0, 1) := dk_3 (dk_at dksX0_goLet_2 5 rfl rfl)
theorem dX0_goLet_54 : decode cX0_goLet 54 = .ok (.iload_n 1, 1) := dk_27 (dk_at dksX0_goLet_2 6 rfl rfl)
theorem dX0_goLet_55 : decode cX0_goLet 55 = .ok (.invokestatic 242, 3) := dk_184 0 242 (dk_at dksX0_goLet_2 7 rfl rfl)
theorem dX0_goLet_58 : decode cX0_goLet 58 = .ok (.return_, 1) := dk_177 (dk_at dksX0_goLet_2 10 rfl rfl)
theorem dX0_goLet_59 : decode cX0_goLet 59 = .ok (.iconst 0, 1) := dk_3 (dk_at dksX0_goLet_2 11 rfl rfl)
theorem dX0_goLet_60 : decode cX0_goLet 60 = .ok (.istore 5, 2) := dk_54 5 (dk_at dksX0_goLet_2 12 rfl rfl)
theorem dX0_goLet_62 : decode cX0_goLet 62 = .ok (.iload 5, 2) := dk_21 5 (dk_at dksX0_goLet_2 14 rfl rfl)
theorem dX0_goLet_64 : decode cX0_goLet 64 = .ok (.aload_n 0, 1) := dk_42 (dk_at dksX0_goLet_2 16 rfl rfl)
theorem dX0_goLet_65 : decode cX0_goLet 65 = .ok (.getfield 19, 3) := dk_180 0 19 (dk_at dksX0_goLet_2 17 rfl rfl)
theorem dX0_goLet_68 : decode cX0_goLet 68 = .ok (.getfield 208, 3) := dk_180 0 208 (dk_at dksX0_goLet_2 20 rfl rfl)
theorem dX0_goLet_71 : decode cX0_goLet 71 = .ok (.if_icmp .gt 132, 3) := dk_163 0 132 (dk_at dksX0_goLet_3 0 rfl rfl)
theorem dX0_goLet_74 : decode cX0_goLet 74 = .ok (.iconst 0, 1) := dk_3 (dk_at dksX0_goLet_3 3 rfl rfl)
theorem dX0_goLet_75 : decode cX0_goLet 75 = .ok (.istore 6, 2) := dk_54 6 (dk_at dksX0_goLet_3 4 rfl rfl)
theorem dX0_goLet_77 : decode cX0_goLet 77 = .ok (.iload 6, 2) := dk_21 6 (dk_at dksX0_goLet_3 6 rfl rfl)
theorem dX0_goLet_79 : decode cX0_goLet 79 = .ok (.aload_n 0, 1) := dk_42 (dk_at dksX0_goLet_3 8 rfl rfl)
theorem dX0_goLet_80 : decode cX0_goLet 80 = .ok (.invokevirtual 91, 3) := dk_182 0 91 (dk_at dksX0_goLet_3 9 rfl rfl)
theorem dX0_goLet_83 : decode cX0_goLet 83 = .ok (.if_icmp .ge 41, 3) := dk_162 0 41 (dk_at dksX0_goLet_3 12 rfl rfl)
theorem dX0_goLet_86 : decode cX0_goLet 86 = .ok (.iload_n 2, 1) := dk_28 (dk_at dksX0_goLet_3 15 rfl rfl)
theorem dX0_goLet_87 : decode cX0_goLet 87 = .ok (.iload 6, 2) := dk_21 6 (dk_at dksX0_goLet_3 16 rfl rfl)
theorem dX0_goLet_89 : decode cX0_goLet 89 = .ok (.invokestatic 258, 3) := dk_184 1 2 (dk_at dksX0_goLet_3 18 rfl rfl)
theorem dX0_goLet_92 : decode cX0_goLet 92 = .ok (.ifCond .ne 26, 3) := dk_154 0 26 (dk_at dksX0_goLet_3 21 rfl rfl)
theorem dX0_goLet_95 : decode cX0_goLet 95 = .ok (.aload_n 0, 1) := dk_42 (dk_at dksX0_goLet_4 0 rfl rfl)
theorem dX0_goLet_96 : decode cX0_goLet 96 = .ok (.getfield 19, 3) := dk_180 0 19 (dk_at dksX0_goLet_4 1 rfl rfl)
theorem dX0_goLet_99 : decode cX0_goLet 99 = .ok (.getfield 95, 3) := dk_180 0 95 (dk_at dksX0_goLet_4 4 rfl rfl)
theorem dX0_goLet_102 : decode cX0_goLet 102 = .ok (.iload 6, 2) := dk_21 6 (dk_at dksX0_goLet_4 7 rfl rfl)
theorem dX0_goLet_104 : decode cX0_goLet 104 = .ok (.invokevirtual 98, 3) := dk_182 0 98 (dk_at dksX0_goLet_4 9 rfl rfl)
theorem dX0_goLet_107 : decode cX0_goLet 107 = .ok (.checkcast 102, 3) := dk_192 0 102 (dk_at dksX0_goLet_4 12 rfl rfl)
theorem dX0_goLet_110 : decode cX0_goLet 110 = .ok (.getfield 192, 3) := dk_180 0 192 (dk_at dksX0_goLet_4 15 rfl rfl)
theorem dX0_goLet_113 : decode cX0_goLet 113 = .ok (.iload 5, 2) := dk_21 5 (dk_at dksX0_goLet_4 18 rfl rfl)
theorem dX0_goLet_115 : decode cX0_goLet 115 = .ok (.if_icmp .eq 9, 3) := dk_159 0 9 (dk_at dksX0_goLet_4 20 rfl rfl)
theorem dX0_goLet_118 : decode cX0_goLet 118 = .ok (.iinc 6 1, 3) := dk_132 6 1 (dk_at dksX0_goLet_5 0 rfl rfl)
theorem dX0_goLet_121 : decode cX0_goLet 121 = .ok (.goto (-44), 3) := dk_167 255 212 (dk_at dksX0_goLet_5 3 rfl rfl)
theorem dX0_goLet_124 : decode cX0_goLet 124 = .ok (.iload 6, 2) := dk_21 6 (dk_at dksX0_goLet_5 6 rfl rfl)
theorem dX0_goLet_126 : decode cX0_goLet 126 = .ok (.aload_n 0, 1) := dk_42 (dk_at dksX0_goLet_5 8 rfl rfl)
theorem dX0_goLet_127 : decode cX0_goLet 127 = .ok (.invokevirtual 91, 3) := dk_182 0 91 (dk_at dksX0_goLet_5 9 rfl rfl)
theorem dX0_goLet_130 : decode cX0_goLet 130 = .ok (.if_icmp .ne 6, 3) := dk_160 0 6 (dk_at dksX0_goLet_5 12 rfl rfl)
theorem dX0_goLet_133 : decode cX0_goLet 133 = .ok (.goto 64, 3) := dk_167 0 64 (dk_at dksX0_goLet_5 15 rfl rfl)
theorem dX0_goLet_136 : decode cX0_goLet 136 = .ok (.aload_n 0, 1) := dk_42 (dk_at dksX0_goLet_5 18 rfl rfl)
theorem dX0_goLet_137 : decode cX0_goLet 137 = .ok (.getfield 64, 3) := dk_180 0 64 (dk_at dksX0_goLet_5 19 rfl rfl)
theorem dX0_goLet_140 : decode cX0_goLet 140 = .ok (.iload_n 1, 1) := dk_27 (dk_at dksX0_goLet_5 22 rfl rfl)
theorem dX0_goLet_141 : decode cX0_goLet 141 = .ok (.iload 5, 2) := dk_21 5 (dk_at dksX0_goLet_6 0 rfl rfl)
theorem dX0_goLet_143 : decode cX0_goLet 143 = .ok (.iastore, 1) := dk_79 (dk_at dksX0_goLet_6 2 rfl rfl)
theorem dX0_goLet_144 : decode cX0_goLet 144 = .ok (.aload_n 0, 1) := dk_42 (dk_at dksX0_goLet_6 3 rfl rfl)
theorem dX0_goLet_145 : decode cX0_goLet 145 = .ok (.iload_n 1, 1) := dk_27 (dk_at dksX0_goLet_6 4 rfl rfl)
theorem dX0_goLet_146 : decode cX0_goLet 146 = .ok (.iload 5, 2) := dk_21 5 (dk_at dksX0_goLet_6 5 rfl rfl)
theorem dX0_goLet_148 : decode cX0_goLet 148 = .ok (.invokevirtual 305, 3) := dk_182 1 49 (dk_at dksX0_goLet_6 7 rfl rfl)
theorem dX0_goLet_151 : decode cX0_goLet 151 = .ok (.istore 7, 2) := dk_54 7 (dk_at dksX0_goLet_6 10 rfl rfl)
theorem dX0_goLet_153 : decode cX0_goLet 153 = .ok (.aload_n 0, 1) := dk_42 (dk_at dksX0_goLet_6 12 rfl rfl)
theorem dX0_goLet_154 : decode cX0_goLet 154 = .ok (.iload_n 1, 1) := dk_27 (dk_at dksX0_goLet_6 13 rfl rfl)
theorem dX0_goLet_155 : decode cX0_goLet 155 = .ok (.iconst 1, 1) := dk_4 (dk_at dksX0_goLet_6 14 rfl rfl)
theorem dX0_goLet_156 : decode cX0_goLet 156 = .ok (.iadd, 1) := dk_96 (dk_at dksX0_goLet_6 15 rfl rfl)
theorem dX0_goLet_157 : decode cX0_goLet 157 = .ok (.iload_n 2, 1) := dk_28 (dk_at dksX0_goLet_6 16 rfl rfl)
theorem dX0_goLet_158 : decode cX0_goLet 158 = .ok (.iconst 1, 1) := dk_4 (dk_at dksX0_goLet_6 17 rfl rfl)
theorem dX0_goLet_159 : decode cX0_goLet 159 = .ok (.iload 6, 2) := dk_21 6 (dk_at dksX0_goLet_6 18 rfl rfl)
theorem dX0_goLet_161 : decode cX0_goLet 161 = .ok (.ishl, 1) := dk_120 (dk_at dksX0_goLet_6 20 rfl rfl)
theorem dX0_goLet_162 : decode cX0_goLet 162 = .ok (.ior, 1) := dk_128 (dk_at dksX0_goLet_6 21 rfl rfl)
theorem dX0_goLet_163 : decode cX0_goLet 163 = .ok (.iload_n 1, 1) := dk_27 (dk_at dksX0_goLet_6 22 rfl rfl)
theorem dX0_goLet_164 : decode cX0_goLet 164 = .ok (.ifCond .ne 8, 3) := dk_154 0 8 (dk_at dksX0_goLet_7 0 rfl rfl)
theorem dX0_goLet_167 : decode cX0_goLet 167 = .ok (.iload 7, 2) := dk_21 7 (dk_at dksX0_goLet_7 3 rfl rfl)
theorem dX0_goLet_169 : decode cX0_goLet 169 = .ok (.goto 9, 3) := dk_167 0 9 (dk_at dksX0_goLet_7 5 rfl rfl)
theorem dX0_goLet_172 : decode cX0_goLet 172 = .ok (.iload_n 3, 1) := dk_29 (dk_at dksX0_goLet_7 8 rfl rfl)
theorem dX0_goLet_173 : decode cX0_goLet 173 = .ok (.iload 7, 2) := dk_21 7 (dk_at dksX0_goLet_7 9 rfl rfl)
theorem dX0_goLet_175 : decode cX0_goLet 175 = .ok (.invokestatic 1, 3) := dk_184 0 1 (dk_at dksX0_goLet_7 11 rfl rfl)
theorem dX0_goLet_178 : decode cX0_goLet 178 = .ok (.iload_n 1, 1) := dk_27 (dk_at dksX0_goLet_7 14 rfl rfl)
theorem dX0_goLet_179 : decode cX0_goLet 179 = .ok (.ifCond .ne 8, 3) := dk_154 0 8 (dk_at dksX0_goLet_7 15 rfl rfl)
theorem dX0_goLet_182 : decode cX0_goLet 182 = .ok (.iload 7, 2) := dk_21 7 (dk_at dksX0_goLet_7 18 rfl rfl)
theorem dX0_goLet_184 : decode cX0_goLet 184 = .ok (.goto 10, 3) := dk_167 0 10 (dk_at dksX0_goLet_7 20 rfl rfl)
theorem dX0_goLet_187 : decode cX0_goLet 187 = .ok (.iload 4, 2) := dk_21 4 (dk_at dksX0_goLet_8 0 rfl rfl)
theorem dX0_goLet_189 : decode cX0_goLet 189 = .ok (.iload 7, 2) := dk_21 7 (dk_at dksX0_goLet_8 2 rfl rfl)
theorem dX0_goLet_191 : decode cX0_goLet 191 = .ok (.invokestatic 7, 3) := dk_184 0 7 (dk_at dksX0_goLet_8 4 rfl rfl)
theorem dX0_goLet_194 : decode cX0_goLet 194 = .ok (.invokevirtual 308, 3) := dk_182 1 52 (dk_at dksX0_goLet_8 7 rfl rfl)
theorem dX0_goLet_197 : decode cX0_goLet 197 = .ok (.iinc 5 1, 3) := dk_132 5 1 (dk_at dksX0_goLet_8 10 rfl rfl)
theorem dX0_goLet_200 : decode cX0_goLet 200 = .ok (.goto (-138), 3) := dk_167 255 118 (dk_at dksX0_goLet_8 13 rfl rfl)
theorem dX0_goLet_203 : decode cX0_goLet 203 = .ok (.return_, 1) := dk_177 (dk_at dksX0_goLet_8 16 rfl rfl)
abbrev cX0_rest : ByteArray := prog_1_method_57_code
def yX0_rest : MethodName := ⟨RX0, "rest", "()I"⟩
def dkwX0_rest_2 : List UInt8 := [160, 0, 5, 27, 172, 132, 1, 1, 167, 255, 215, 2, 172]
abbrev dktX0_rest_2 : List UInt8 := dkwX0_rest_2 ++ []
def dkwX0_rest_1 : List UInt8 := [180, 0, 119, 61, 42, 180, 0, 32, 42, 180, 0, 19, 182, 0, 227, 42, 180, 0, 32, 180, 0, 119, 28]
abbrev dktX0_rest_1 : List UInt8 := dkwX0_rest_1 ++ dktX0_rest_2
def dkwX0_rest_0 : List UInt8 := [42, 180, 0, 32, 42, 180, 0, 28, 182, 0, 138, 3, 60, 27, 16, 60, 163, 0, 41, 42, 180, 0, 32]
abbrev dktX0_rest_0 : List UInt8 := dkwX0_rest_0 ++ dktX0_rest_1
theorem dksX0_rest_0 : cX0_rest.data.toList.drop 0 = dktX0_rest_0 := by decide +kernel
theorem dksX0_rest_1 : cX0_rest.data.toList.drop 23 = dktX0_rest_1 := dk_seg dksX0_rest_0 23 rfl rfl
theorem dksX0_rest_2 : cX0_rest.data.toList.drop 46 = dktX0_rest_2 := dk_seg dksX0_rest_1 23 rfl rfl
theorem dX0_rest_0 : decode cX0_rest 0 = .ok (.aload_n 0, 1) := dk_42 (dk_at dksX0_rest_0 0 rfl rfl)
theorem dX0_rest_1 : decode cX0_rest 1 = .ok (.getfield 32, 3) := dk_180 0 32 (dk_at dksX0_rest_0 1 rfl rfl)
theorem dX0_rest_4 : decode cX0_rest 4 = .ok (.aload_n 0, 1) := dk_42 (dk_at dksX0_rest_0 4 rfl rfl)
theorem dX0_rest_5 : decode cX0_rest 5 = .ok (.getfield 28, 3) := dk_180 0 28 (dk_at dksX0_rest_0 5 rfl rfl)
theorem dX0_rest_8 : decode cX0_rest 8 = .ok (.invokevirtual 138, 3) := dk_182 0 138 (dk_at dksX0_rest_0 8 rfl rfl)
theorem dX0_rest_11 : decode cX0_rest 11 = .ok (.iconst 0, 1) := dk_3 (dk_at dksX0_rest_0 11 rfl rfl)
theorem dX0_rest_12 : decode cX0_rest 12 = .ok (.istore_n 1, 1) := dk_60 (dk_at dksX0_rest_0 12 rfl rfl)
theorem dX0_rest_13 : decode cX0_rest 13 = .ok (.iload_n 1, 1) := dk_27 (dk_at dksX0_rest_0 13 rfl rfl)
theorem dX0_rest_14 : decode cX0_rest 14 = .ok (.bipush 60, 2) := dk_16 60 (dk_at dksX0_rest_0 14 rfl rfl)
theorem dX0_rest_16 : decode cX0_rest 16 = .ok (.if_icmp .gt 41, 3) := dk_163 0 41 (dk_at dksX0_rest_0 16 rfl rfl)
theorem dX0_rest_19 : decode cX0_rest 19 = .ok (.aload_n 0, 1) := dk_42 (dk_at dksX0_rest_0 19 rfl rfl)
theorem dX0_rest_20 : decode cX0_rest 20 = .ok (.getfield 32, 3) := dk_180 0 32 (dk_at dksX0_rest_0 20 rfl rfl)
theorem dX0_rest_23 : decode cX0_rest 23 = .ok (.getfield 119, 3) := dk_180 0 119 (dk_at dksX0_rest_1 0 rfl rfl)
theorem dX0_rest_26 : decode cX0_rest 26 = .ok (.istore_n 2, 1) := dk_61 (dk_at dksX0_rest_1 3 rfl rfl)
theorem dX0_rest_27 : decode cX0_rest 27 = .ok (.aload_n 0, 1) := dk_42 (dk_at dksX0_rest_1 4 rfl rfl)
theorem dX0_rest_28 : decode cX0_rest 28 = .ok (.getfield 32, 3) := dk_180 0 32 (dk_at dksX0_rest_1 5 rfl rfl)
theorem dX0_rest_31 : decode cX0_rest 31 = .ok (.aload_n 0, 1) := dk_42 (dk_at dksX0_rest_1 8 rfl rfl)
theorem dX0_rest_32 : decode cX0_rest 32 = .ok (.getfield 19, 3) := dk_180 0 19 (dk_at dksX0_rest_1 9 rfl rfl)
theorem dX0_rest_35 : decode cX0_rest 35 = .ok (.invokevirtual 227, 3) := dk_182 0 227 (dk_at dksX0_rest_1 12 rfl rfl)
theorem dX0_rest_38 : decode cX0_rest 38 = .ok (.aload_n 0, 1) := dk_42 (dk_at dksX0_rest_1 15 rfl rfl)
theorem dX0_rest_39 : decode cX0_rest 39 = .ok (.getfield 32, 3) := dk_180 0 32 (dk_at dksX0_rest_1 16 rfl rfl)
theorem dX0_rest_42 : decode cX0_rest 42 = .ok (.getfield 119, 3) := dk_180 0 119 (dk_at dksX0_rest_1 19 rfl rfl)
theorem dX0_rest_45 : decode cX0_rest 45 = .ok (.iload_n 2, 1) := dk_28 (dk_at dksX0_rest_1 22 rfl rfl)
theorem dX0_rest_46 : decode cX0_rest 46 = .ok (.if_icmp .ne 5, 3) := dk_160 0 5 (dk_at dksX0_rest_2 0 rfl rfl)
theorem dX0_rest_49 : decode cX0_rest 49 = .ok (.iload_n 1, 1) := dk_27 (dk_at dksX0_rest_2 3 rfl rfl)
theorem dX0_rest_50 : decode cX0_rest 50 = .ok (.ireturn, 1) := dk_172 (dk_at dksX0_rest_2 4 rfl rfl)
theorem dX0_rest_51 : decode cX0_rest 51 = .ok (.iinc 1 1, 3) := dk_132 1 1 (dk_at dksX0_rest_2 5 rfl rfl)
theorem dX0_rest_54 : decode cX0_rest 54 = .ok (.goto (-41), 3) := dk_167 255 215 (dk_at dksX0_rest_2 8 rfl rfl)
theorem dX0_rest_57 : decode cX0_rest 57 = .ok (.iconst (-1), 1) := dk_2 (dk_at dksX0_rest_2 11 rfl rfl)
theorem dX0_rest_58 : decode cX0_rest 58 = .ok (.ireturn, 1) := dk_172 (dk_at dksX0_rest_2 12 rfl rfl)
abbrev cX0_will : ByteArray := prog_1_method_58_code
def yX0_will : MethodName := ⟨RX0, "will", "(I)I"⟩
def dkwX0_will_2 : List UInt8 := [180, 0, 32, 180, 0, 119, 172]
abbrev dktX0_will_2 : List UInt8 := dkwX0_will_2 ++ []
def dkwX0_will_1 : List UInt8 := [61, 28, 27, 162, 0, 20, 42, 180, 0, 32, 42, 180, 0, 19, 182, 0, 227, 132, 2, 1, 167, 255, 237, 42]
abbrev dktX0_will_1 : List UInt8 := dkwX0_will_1 ++ dktX0_will_2
def dkwX0_will_0 : List UInt8 := [27, 3, 16, 60, 184, 0, 155, 154, 0, 5, 2, 172, 42, 180, 0, 32, 42, 180, 0, 28, 182, 0, 138, 3]
abbrev dktX0_will_0 : List UInt8 := dkwX0_will_0 ++ dktX0_will_1
theorem dksX0_will_0 : cX0_will.data.toList.drop 0 = dktX0_will_0 := by decide +kernel
theorem dksX0_will_1 : cX0_will.data.toList.drop 24 = dktX0_will_1 := dk_seg dksX0_will_0 24 rfl rfl
theorem dksX0_will_2 : cX0_will.data.toList.drop 48 = dktX0_will_2 := dk_seg dksX0_will_1 24 rfl rfl
theorem dX0_will_0 : decode cX0_will 0 = .ok (.iload_n 1, 1) := dk_27 (dk_at dksX0_will_0 0 rfl rfl)
theorem dX0_will_1 : decode cX0_will 1 = .ok (.iconst 0, 1) := dk_3 (dk_at dksX0_will_0 1 rfl rfl)
theorem dX0_will_2 : decode cX0_will 2 = .ok (.bipush 60, 2) := dk_16 60 (dk_at dksX0_will_0 2 rfl rfl)
theorem dX0_will_4 : decode cX0_will 4 = .ok (.invokestatic 155, 3) := dk_184 0 155 (dk_at dksX0_will_0 4 rfl rfl)
theorem dX0_will_7 : decode cX0_will 7 = .ok (.ifCond .ne 5, 3) := dk_154 0 5 (dk_at dksX0_will_0 7 rfl rfl)
theorem dX0_will_10 : decode cX0_will 10 = .ok (.iconst (-1), 1) := dk_2 (dk_at dksX0_will_0 10 rfl rfl)
theorem dX0_will_11 : decode cX0_will 11 = .ok (.ireturn, 1) := dk_172 (dk_at dksX0_will_0 11 rfl rfl)
theorem dX0_will_12 : decode cX0_will 12 = .ok (.aload_n 0, 1) := dk_42 (dk_at dksX0_will_0 12 rfl rfl)
theorem dX0_will_13 : decode cX0_will 13 = .ok (.getfield 32, 3) := dk_180 0 32 (dk_at dksX0_will_0 13 rfl rfl)
theorem dX0_will_16 : decode cX0_will 16 = .ok (.aload_n 0, 1) := dk_42 (dk_at dksX0_will_0 16 rfl rfl)
theorem dX0_will_17 : decode cX0_will 17 = .ok (.getfield 28, 3) := dk_180 0 28 (dk_at dksX0_will_0 17 rfl rfl)
theorem dX0_will_20 : decode cX0_will 20 = .ok (.invokevirtual 138, 3) := dk_182 0 138 (dk_at dksX0_will_0 20 rfl rfl)
theorem dX0_will_23 : decode cX0_will 23 = .ok (.iconst 0, 1) := dk_3 (dk_at dksX0_will_0 23 rfl rfl)
theorem dX0_will_24 : decode cX0_will 24 = .ok (.istore_n 2, 1) := dk_61 (dk_at dksX0_will_1 0 rfl rfl)
theorem dX0_will_25 : decode cX0_will 25 = .ok (.iload_n 2, 1) := dk_28 (dk_at dksX0_will_1 1 rfl rfl)
theorem dX0_will_26 : decode cX0_will 26 = .ok (.iload_n 1, 1) := dk_27 (dk_at dksX0_will_1 2 rfl rfl)
theorem dX0_will_27 : decode cX0_will 27 = .ok (.if_icmp .ge 20, 3) := dk_162 0 20 (dk_at dksX0_will_1 3 rfl rfl)
theorem dX0_will_30 : decode cX0_will 30 = .ok (.aload_n 0, 1) := dk_42 (dk_at dksX0_will_1 6 rfl rfl)
theorem dX0_will_31 : decode cX0_will 31 = .ok (.getfield 32, 3) := dk_180 0 32 (dk_at dksX0_will_1 7 rfl rfl)
theorem dX0_will_34 : decode cX0_will 34 = .ok (.aload_n 0, 1) := dk_42 (dk_at dksX0_will_1 10 rfl rfl)
theorem dX0_will_35 : decode cX0_will 35 = .ok (.getfield 19, 3) := dk_180 0 19 (dk_at dksX0_will_1 11 rfl rfl)
theorem dX0_will_38 : decode cX0_will 38 = .ok (.invokevirtual 227, 3) := dk_182 0 227 (dk_at dksX0_will_1 14 rfl rfl)
theorem dX0_will_41 : decode cX0_will 41 = .ok (.iinc 2 1, 3) := dk_132 2 1 (dk_at dksX0_will_1 17 rfl rfl)
theorem dX0_will_44 : decode cX0_will 44 = .ok (.goto (-19), 3) := dk_167 255 237 (dk_at dksX0_will_1 20 rfl rfl)
theorem dX0_will_47 : decode cX0_will 47 = .ok (.aload_n 0, 1) := dk_42 (dk_at dksX0_will_1 23 rfl rfl)
theorem dX0_will_48 : decode cX0_will 48 = .ok (.getfield 32, 3) := dk_180 0 32 (dk_at dksX0_will_2 0 rfl rfl)
theorem dX0_will_51 : decode cX0_will 51 = .ok (.getfield 119, 3) := dk_180 0 119 (dk_at dksX0_will_2 3 rfl rfl)
theorem dX0_will_54 : decode cX0_will 54 = .ok (.ireturn, 1) := dk_172 (dk_at dksX0_will_2 6 rfl rfl)
abbrev cX0_pull : ByteArray := prog_1_method_59_code
def yX0_pull : MethodName := ⟨RX0, "pull", "()I"⟩
def dkwX0_pull_0 : List UInt8 := [42, 180, 0, 19, 42, 180, 0, 28, 42, 180, 0, 28, 180, 0, 113, 182, 1, 56, 172]
abbrev dktX0_pull_0 : List UInt8 := dkwX0_pull_0 ++ []
theorem dksX0_pull_0 : cX0_pull.data.toList.drop 0 = dktX0_pull_0 := by decide +kernel
theorem dX0_pull_0 : decode cX0_pull 0 = .ok (.aload_n 0, 1) := dk_42 (dk_at dksX0_pull_0 0 rfl rfl)
theorem dX0_pull_1 : decode cX0_pull 1 = .ok (.getfield 19, 3) := dk_180 0 19 (dk_at dksX0_pull_0 1 rfl rfl)
theorem dX0_pull_4 : decode cX0_pull 4 = .ok (.aload_n 0, 1) := dk_42 (dk_at dksX0_pull_0 4 rfl rfl)
theorem dX0_pull_5 : decode cX0_pull 5 = .ok (.getfield 28, 3) := dk_180 0 28 (dk_at dksX0_pull_0 5 rfl rfl)
theorem dX0_pull_8 : decode cX0_pull 8 = .ok (.aload_n 0, 1) := dk_42 (dk_at dksX0_pull_0 8 rfl rfl)
theorem dX0_pull_9 : decode cX0_pull 9 = .ok (.getfield 28, 3) := dk_180 0 28 (dk_at dksX0_pull_0 9 rfl rfl)
theorem dX0_pull_12 : decode cX0_pull 12 = .ok (.getfield 113, 3) := dk_180 0 113 (dk_at dksX0_pull_0 12 rfl rfl)
theorem dX0_pull_15 : decode cX0_pull 15 = .ok (.invokevirtual 312, 3) := dk_182 1 56 (dk_at dksX0_pull_0 15 rfl rfl)
theorem dX0_pull_18 : decode cX0_pull 18 = .ok (.ireturn, 1) := dk_172 (dk_at dksX0_pull_0 18 rfl rfl)
abbrev cX0_lever : ByteArray := prog_1_method_60_code
def yX0_lever : MethodName := ⟨RX0, "lever", "()I"⟩
def dkwX0_lever_1 : List UInt8 := [180, 0, 119, 164, 0, 5, 27, 172, 132, 1, 1, 167, 255, 223, 2, 172]
abbrev dktX0_lever_1 : List UInt8 := dkwX0_lever_1 ++ []
def dkwX0_lever_0 : List UInt8 := [3, 60, 27, 16, 99, 163, 0, 33, 42, 180, 0, 28, 42, 180, 0, 19, 27, 182, 1, 60, 42, 180, 0, 28]
abbrev dktX0_lever_0 : List UInt8 := dkwX0_lever_0 ++ dktX0_lever_1
theorem dksX0_lever_0 : cX0_lever.data.toList.drop 0 = dktX0_lever_0 := by decide +kernel
theorem dksX0_lever_1 : cX0_lever.data.toList.drop 24 = dktX0_lever_1 := dk_seg dksX0_lever_0 24 rfl rfl
theorem dX0_lever_0 : decode cX0_lever 0 = .ok (.iconst 0, 1) := dk_3 (dk_at dksX0_lever_0 0 rfl rfl)
theorem dX0_lever_1 : decode cX0_lever 1 = .ok (.istore_n 1, 1) := dk_60 (dk_at dksX0_lever_0 1 rfl rfl)
theorem dX0_lever_2 : decode cX0_lever 2 = .ok (.iload_n 1, 1) := dk_27 (dk_at dksX0_lever_0 2 rfl rfl)
theorem dX0_lever_3 : decode cX0_lever 3 = .ok (.bipush 99, 2) := dk_16 99 (dk_at dksX0_lever_0 3 rfl rfl)
theorem dX0_lever_5 : decode cX0_lever 5 = .ok (.if_icmp .gt 33, 3) := dk_163 0 33 (dk_at dksX0_lever_0 5 rfl rfl)
theorem dX0_lever_8 : decode cX0_lever 8 = .ok (.aload_n 0, 1) := dk_42 (dk_at dksX0_lever_0 8 rfl rfl)
theorem dX0_lever_9 : decode cX0_lever 9 = .ok (.getfield 28, 3) := dk_180 0 28 (dk_at dksX0_lever_0 9 rfl rfl)
theorem dX0_lever_12 : decode cX0_lever 12 = .ok (.aload_n 0, 1) := dk_42 (dk_at dksX0_lever_0 12 rfl rfl)
theorem dX0_lever_13 : decode cX0_lever 13 = .ok (.getfield 19, 3) := dk_180 0 19 (dk_at dksX0_lever_0 13 rfl rfl)
theorem dX0_lever_16 : decode cX0_lever 16 = .ok (.iload_n 1, 1) := dk_27 (dk_at dksX0_lever_0 16 rfl rfl)
theorem dX0_lever_17 : decode cX0_lever 17 = .ok (.invokevirtual 316, 3) := dk_182 1 60 (dk_at dksX0_lever_0 17 rfl rfl)
theorem dX0_lever_20 : decode cX0_lever 20 = .ok (.aload_n 0, 1) := dk_42 (dk_at dksX0_lever_0 20 rfl rfl)
theorem dX0_lever_21 : decode cX0_lever 21 = .ok (.getfield 28, 3) := dk_180 0 28 (dk_at dksX0_lever_0 21 rfl rfl)
theorem dX0_lever_24 : decode cX0_lever 24 = .ok (.getfield 119, 3) := dk_180 0 119 (dk_at dksX0_lever_1 0 rfl rfl)
theorem dX0_lever_27 : decode cX0_lever 27 = .ok (.if_icmp .le 5, 3) := dk_164 0 5 (dk_at dksX0_lever_1 3 rfl rfl)
theorem dX0_lever_30 : decode cX0_lever 30 = .ok (.iload_n 1, 1) := dk_27 (dk_at dksX0_lever_1 6 rfl rfl)
theorem dX0_lever_31 : decode cX0_lever 31 = .ok (.ireturn, 1) := dk_172 (dk_at dksX0_lever_1 7 rfl rfl)
theorem dX0_lever_32 : decode cX0_lever 32 = .ok (.iinc 1 1, 3) := dk_132 1 1 (dk_at dksX0_lever_1 8 rfl rfl)
theorem dX0_lever_35 : decode cX0_lever 35 = .ok (.goto (-33), 3) := dk_167 255 223 (dk_at dksX0_lever_1 11 rfl rfl)
theorem dX0_lever_38 : decode cX0_lever 38 = .ok (.iconst (-1), 1) := dk_2 (dk_at dksX0_lever_1 14 rfl rfl)
theorem dX0_lever_39 : decode cX0_lever 39 = .ok (.ireturn, 1) := dk_172 (dk_at dksX0_lever_1 15 rfl rfl)
abbrev cX0_odds : ByteArray := prog_1_method_62_code
def yX0_odds : MethodName := ⟨RX0, "odds", "(IIII)I"⟩
def dkwX0_odds_7 : List UInt8 := [21, 4, 154, 0, 8, 21, 6, 167, 0, 5, 21, 7, 21, 7, 21, 6, 184, 1, 63, 108, 172]
abbrev dktX0_odds_7 : List UInt8 := dkwX0_odds_7 ++ []
def dkwX0_odds_6 : List UInt8 := [21, 5, 104, 54, 9, 132, 10, 1, 167, 255, 222, 21, 6, 21, 9, 96, 54, 6, 132, 8, 1, 167, 255, 183]
abbrev dktX0_odds_6 : List UInt8 := dkwX0_odds_6 ++ dktX0_odds_7
def dkwX0_odds_5 : List UInt8 := [162, 0, 34, 21, 9, 21, 8, 21, 10, 184, 1, 2, 153, 0, 11, 16, 100, 21, 5, 100, 167, 0, 5]
abbrev dktX0_odds_5 : List UInt8 := dkwX0_odds_5 ++ dktX0_odds_6
def dkwX0_odds_4 : List UInt8 := [162, 0, 71, 21, 8, 184, 1, 18, 29, 162, 0, 6, 167, 0, 53, 4, 54, 9, 3, 54, 10, 21, 10, 28]
abbrev dktX0_odds_4 : List UInt8 := dkwX0_odds_4 ++ dktX0_odds_5
def dkwX0_odds_3 : List UInt8 := [162, 0, 16, 21, 7, 16, 100, 104, 54, 7, 132, 8, 1, 167, 255, 240, 3, 54, 8, 21, 8, 4, 28, 120]
abbrev dktX0_odds_3 : List UInt8 := dkwX0_odds_3 ++ dktX0_odds_4
def dkwX0_odds_2 : List UInt8 := [182, 0, 98, 192, 0, 102, 180, 0, 201, 54, 5, 3, 54, 6, 4, 54, 7, 3, 54, 8, 21, 8, 28]
abbrev dktX0_odds_2 : List UInt8 := dkwX0_odds_2 ++ dktX0_odds_3
def dkwX0_odds_1 : List UInt8 := [153, 0, 13, 21, 4, 3, 4, 184, 0, 155, 154, 0, 5, 2, 172, 42, 180, 0, 19, 180, 0, 95, 27]
abbrev dktX0_odds_1 : List UInt8 := dkwX0_odds_1 ++ dktX0_odds_2
def dkwX0_odds_0 : List UInt8 := [42, 27, 182, 0, 188, 153, 0, 31, 28, 3, 7, 184, 0, 155, 153, 0, 22, 29, 3, 28, 184, 0, 155]
abbrev dktX0_odds_0 : List UInt8 := dkwX0_odds_0 ++ dktX0_odds_1
theorem dksX0_odds_0 : cX0_odds.data.toList.drop 0 = dktX0_odds_0 := by decide +kernel
theorem dksX0_odds_1 : cX0_odds.data.toList.drop 23 = dktX0_odds_1 := dk_seg dksX0_odds_0 23 rfl rfl
theorem dksX0_odds_2 : cX0_odds.data.toList.drop 46 = dktX0_odds_2 := dk_seg dksX0_odds_1 23 rfl rfl
theorem dksX0_odds_3 : cX0_odds.data.toList.drop 69 = dktX0_odds_3 := dk_seg dksX0_odds_2 23 rfl rfl
theorem dksX0_odds_4 : cX0_odds.data.toList.drop 93 = dktX0_odds_4 := dk_seg dksX0_odds_3 24 rfl rfl
theorem dksX0_odds_5 : cX0_odds.data.toList.drop 117 = dktX0_odds_5 := dk_seg dksX0_odds_4 24 rfl rfl
theorem dksX0_odds_6 : cX0_odds.data.toList.drop 140 = dktX0_odds_6 := dk_seg dksX0_odds_5 23 rfl rfl
theorem dksX0_odds_7 : cX0_odds.data.toList.drop 164 = dktX0_odds_7 := dk_seg dksX0_odds_6 24 rfl rfl
theorem dX0_odds_0 : decode cX0_odds 0 = .ok (.aload_n 0, 1) := dk_42 (dk_at dksX0_odds_0 0 rfl rfl)
theorem dX0_odds_1 : decode cX0_odds 1 = .ok (.iload_n 1, 1) := dk_27 (dk_at dksX0_odds_0 1 rfl rfl)
theorem dX0_odds_2 : decode cX0_odds 2 = .ok (.invokevirtual 188, 3) := dk_182 0 188 (dk_at dksX0_odds_0 2 rfl rfl)
theorem dX0_odds_5 : decode cX0_odds 5 = .ok (.ifCond .eq 31, 3) := dk_153 0 31 (dk_at dksX0_odds_0 5 rfl rfl)
theorem dX0_odds_8 : decode cX0_odds 8 = .ok (.iload_n 2, 1) := dk_28 (dk_at dksX0_odds_0 8 rfl rfl)
theorem dX0_odds_9 : decode cX0_odds 9 = .ok (.iconst 0, 1) := dk_3 (dk_at dksX0_odds_0 9 rfl rfl)
theorem dX0_odds_10 : decode cX0_odds 10 = .ok (.iconst 4, 1) := dk_7 (dk_at dksX0_odds_0 10 rfl rfl)
theorem dX0_odds_11 : decode cX0_odds 11 = .ok (.invokestatic 155, 3) := dk_184 0 155 (dk_at dksX0_odds_0 11 rfl rfl)
theorem dX0_odds_14 : decode cX0_odds 14 = .ok (.ifCond .eq 22, 3) := dk_153 0 22 (dk_at dksX0_odds_0 14 rfl rfl)
theorem dX0_odds_17 : decode cX0_odds 17 = .ok (.iload_n 3, 1) := dk_29 (dk_at dksX0_odds_0 17 rfl rfl)
theorem dX0_odds_18 : decode cX0_odds 18 = .ok (.iconst 0, 1) := dk_3 (dk_at dksX0_odds_0 18 rfl rfl)
theorem dX0_odds_19 : decode cX0_odds 19 = .ok (.iload_n 2, 1) := dk_28 (dk_at dksX0_odds_0 19 rfl rfl)
theorem dX0_odds_20 : decode cX0_odds 20 = .ok (.invokestatic 155, 3) := dk_184 0 155 (dk_at dksX0_odds_0 20 rfl rfl)
theorem dX0_odds_23 : decode cX0_odds 23 = .ok (.ifCond .eq 13, 3) := dk_153 0 13 (dk_at dksX0_odds_1 0 rfl rfl)
theorem dX0_odds_26 : decode cX0_odds 26 = .ok (.iload 4, 2) := dk_21 4 (dk_at dksX0_odds_1 3 rfl rfl)
theorem dX0_odds_28 : decode cX0_odds 28 = .ok (.iconst 0, 1) := dk_3 (dk_at dksX0_odds_1 5 rfl rfl)
theorem dX0_odds_29 : decode cX0_odds 29 = .ok (.iconst 1, 1) := dk_4 (dk_at dksX0_odds_1 6 rfl rfl)
theorem dX0_odds_30 : decode cX0_odds 30 = .ok (.invokestatic 155, 3) := dk_184 0 155 (dk_at dksX0_odds_1 7 rfl rfl)
theorem dX0_odds_33 : decode cX0_odds 33 = .ok (.ifCond .ne 5, 3) := dk_154 0 5 (dk_at dksX0_odds_1 10 rfl rfl)
theorem dX0_odds_36 : decode cX0_odds 36 = .ok (.iconst (-1), 1) := dk_2 (dk_at dksX0_odds_1 13 rfl rfl)
theorem dX0_odds_37 : decode cX0_odds 37 = .ok (.ireturn, 1) := dk_172 (dk_at dksX0_odds_1 14 rfl rfl)
theorem dX0_odds_38 : decode cX0_odds 38 = .ok (.aload_n 0, 1) := dk_42 (dk_at dksX0_odds_1 15 rfl rfl)
theorem dX0_odds_39 : decode cX0_odds 39 = .ok (.getfield 19, 3) := dk_180 0 19 (dk_at dksX0_odds_1 16 rfl rfl)
theorem dX0_odds_42 : decode cX0_odds 42 = .ok (.getfield 95, 3) := dk_180 0 95 (dk_at dksX0_odds_1 19 rfl rfl)
theorem dX0_odds_45 : decode cX0_odds 45 = .ok (.iload_n 1, 1) := dk_27 (dk_at dksX0_odds_1 22 rfl rfl)
theorem dX0_odds_46 : decode cX0_odds 46 = .ok (.invokevirtual 98, 3) := dk_182 0 98 (dk_at dksX0_odds_2 0 rfl rfl)
theorem dX0_odds_49 : decode cX0_odds 49 = .ok (.checkcast 102, 3) := dk_192 0 102 (dk_at dksX0_odds_2 3 rfl rfl)
theorem dX0_odds_52 : decode cX0_odds 52 = .ok (.getfield 201, 3) := dk_180 0 201 (dk_at dksX0_odds_2 6 rfl rfl)
theorem dX0_odds_55 : decode cX0_odds 55 = .ok (.istore 5, 2) := dk_54 5 (dk_at dksX0_odds_2 9 rfl rfl)
theorem dX0_odds_57 : decode cX0_odds 57 = .ok (.iconst 0, 1) := dk_3 (dk_at dksX0_odds_2 11 rfl rfl)
theorem dX0_odds_58 : decode cX0_odds 58 = .ok (.istore 6, 2) := dk_54 6 (dk_at dksX0_odds_2 12 rfl rfl)
theorem dX0_odds_60 : decode cX0_odds 60 = .ok (.iconst 1, 1) := dk_4 (dk_at dksX0_odds_2 14 rfl rfl)
theorem dX0_odds_61 : decode cX0_odds 61 = .ok (.istore 7, 2) := dk_54 7 (dk_at dksX0_odds_2 15 rfl rfl)
theorem dX0_odds_63 : decode cX0_odds 63 = .ok (.iconst 0, 1) := dk_3 (dk_at dksX0_odds_2 17 rfl rfl)
theorem dX0_odds_64 : decode cX0_odds 64 = .ok (.istore 8, 2) := dk_54 8 (dk_at dksX0_odds_2 18 rfl rfl)
theorem dX0_odds_66 : decode cX0_odds 66 = .ok (.iload 8, 2) := dk_21 8 (dk_at dksX0_odds_2 20 rfl rfl)
theorem dX0_odds_68 : decode cX0_odds 68 = .ok (.iload_n 2, 1) := dk_28 (dk_at dksX0_odds_2 22 rfl rfl)
theorem dX0_odds_69 : decode cX0_odds 69 = .ok (.if_icmp .ge 16, 3) := dk_162 0 16 (dk_at dksX0_odds_3 0 rfl rfl)
theorem dX0_odds_72 : decode cX0_odds 72 = .ok (.iload 7, 2) := dk_21 7 (dk_at dksX0_odds_3 3 rfl rfl)
theorem dX0_odds_74 : decode cX0_odds 74 = .ok (.bipush 100, 2) := dk_16 100 (dk_at dksX0_odds_3 5 rfl rfl)
theorem dX0_odds_76 : decode cX0_odds 76 = .ok (.imul, 1) := dk_104 (dk_at dksX0_odds_3 7 rfl rfl)
theorem dX0_odds_77 : decode cX0_odds 77 = .ok (.istore 7, 2) := dk_54 7 (dk_at dksX0_odds_3 8 rfl rfl)
theorem dX0_odds_79 : decode cX0_odds 79 = .ok (.iinc 8 1, 3) := dk_132 8 1 (dk_at dksX0_odds_3 10 rfl rfl)
theorem dX0_odds_82 : decode cX0_odds 82 = .ok (.goto (-16), 3) := dk_167 255 240 (dk_at dksX0_odds_3 13 rfl rfl)
theorem dX0_odds_85 : decode cX0_odds 85 = .ok (.iconst 0, 1) := dk_3 (dk_at dksX0_odds_3 16 rfl rfl)
theorem dX0_odds_86 : decode cX0_odds 86 = .ok (.istore 8, 2) := dk_54 8 (dk_at dksX0_odds_3 17 rfl rfl)
theorem dX0_odds_88 : decode cX0_odds 88 = .ok (.iload 8, 2) := dk_21 8 (dk_at dksX0_odds_3 19 rfl rfl)
theorem dX0_odds_90 : decode cX0_odds 90 = .ok (.iconst 1, 1) := dk_4 (dk_at dksX0_odds_3 21 rfl rfl)
theorem dX0_odds_91 : decode cX0_odds 91 = .ok (.iload_n 2, 1) := dk_28 (dk_at dksX0_odds_3 22 rfl rfl)
theorem dX0_odds_92 : decode cX0_odds 92 = .ok (.ishl, 1) := dk_120 (dk_at dksX0_odds_3 23 rfl rfl)
theorem dX0_odds_93 : decode cX0_odds 93 = .ok (.if_icmp .ge 71, 3) := dk_162 0 71 (dk_at dksX0_odds_4 0 rfl rfl)
theorem dX0_odds_96 : decode cX0_odds 96 = .ok (.iload 8, 2) := dk_21 8 (dk_at dksX0_odds_4 3 rfl rfl)
theorem dX0_odds_98 : decode cX0_odds 98 = .ok (.invokestatic 274, 3) := dk_184 1 18 (dk_at dksX0_odds_4 5 rfl rfl)
theorem dX0_odds_101 : decode cX0_odds 101 = .ok (.iload_n 3, 1) := dk_29 (dk_at dksX0_odds_4 8 rfl rfl)
theorem dX0_odds_102 : decode cX0_odds 102 = .ok (.if_icmp .ge 6, 3) := dk_162 0 6 (dk_at dksX0_odds_4 9 rfl rfl)
theorem dX0_odds_105 : decode cX0_odds 105 = .ok (.goto 53, 3) := dk_167 0 53 (dk_at dksX0_odds_4 12 rfl rfl)
theorem dX0_odds_108 : decode cX0_odds 108 = .ok (.iconst 1, 1) := dk_4 (dk_at dksX0_odds_4 15 rfl rfl)
theorem dX0_odds_109 : decode cX0_odds 109 = .ok (.istore 9, 2) := dk_54 9 (dk_at dksX0_odds_4 16 rfl rfl)
theorem dX0_odds_111 : decode cX0_odds 111 = .ok (.iconst 0, 1) := dk_3 (dk_at dksX0_odds_4 18 rfl rfl)
theorem dX0_odds_112 : decode cX0_odds 112 = .ok (.istore 10, 2) := dk_54 10 (dk_at dksX0_odds_4 19 rfl rfl)
theorem dX0_odds_114 : decode cX0_odds 114 = .ok (.iload 10, 2) := dk_21 10 (dk_at dksX0_odds_4 21 rfl rfl)
theorem dX0_odds_116 : decode cX0_odds 116 = .ok (.iload_n 2, 1) := dk_28 (dk_at dksX0_odds_4 23 rfl rfl)
theorem dX0_odds_117 : decode cX0_odds 117 = .ok (.if_icmp .ge 34, 3) := dk_162 0 34 (dk_at dksX0_odds_5 0 rfl rfl)
theorem dX0_odds_120 : decode cX0_odds 120 = .ok (.iload 9, 2) := dk_21 9 (dk_at dksX0_odds_5 3 rfl rfl)
theorem dX0_odds_122 : decode cX0_odds 122 = .ok (.iload 8, 2) := dk_21 8 (dk_at dksX0_odds_5 5 rfl rfl)
theorem dX0_odds_124 : decode cX0_odds 124 = .ok (.iload 10, 2) := dk_21 10 (dk_at dksX0_odds_5 7 rfl rfl)
theorem dX0_odds_126 : decode cX0_odds 126 = .ok (.invokestatic 258, 3) := dk_184 1 2 (dk_at dksX0_odds_5 9 rfl rfl)
theorem dX0_odds_129 : decode cX0_odds 129 = .ok (.ifCond .eq 11, 3) := dk_153 0 11 (dk_at dksX0_odds_5 12 rfl rfl)
theorem dX0_odds_132 : decode cX0_odds 132 = .ok (.bipush 100, 2) := dk_16 100 (dk_at dksX0_odds_5 15 rfl rfl)
theorem dX0_odds_134 : decode cX0_odds 134 = .ok (.iload 5, 2) := dk_21 5 (dk_at dksX0_odds_5 17 rfl rfl)
theorem dX0_odds_136 : decode cX0_odds 136 = .ok (.isub, 1) := dk_100 (dk_at dksX0_odds_5 19 rfl rfl)
theorem dX0_odds_137 : decode cX0_odds 137 = .ok (.goto 5, 3) := dk_167 0 5 (dk_at dksX0_odds_5 20 rfl rfl)
theorem dX0_odds_140 : decode cX0_odds 140 = .ok (.iload 5, 2) := dk_21 5 (dk_at dksX0_odds_6 0 rfl rfl)
theorem dX0_odds_142 : decode cX0_odds 142 = .ok (.imul, 1) := dk_104 (dk_at dksX0_odds_6 2 rfl rfl)
theorem dX0_odds_143 : decode cX0_odds 143 = .ok (.istore 9, 2) := dk_54 9 (dk_at dksX0_odds_6 3 rfl rfl)
theorem dX0_odds_145 : decode cX0_odds 145 = .ok (.iinc 10 1, 3) := dk_132 10 1 (dk_at dksX0_odds_6 5 rfl rfl)
theorem dX0_odds_148 : decode cX0_odds 148 = .ok (.goto (-34), 3) := dk_167 255 222 (dk_at dksX0_odds_6 8 rfl rfl)
theorem dX0_odds_151 : decode cX0_odds 151 = .ok (.iload 6, 2) := dk_21 6 (dk_at dksX0_odds_6 11 rfl rfl)
theorem dX0_odds_153 : decode cX0_odds 153 = .ok (.iload 9, 2) := dk_21 9 (dk_at dksX0_odds_6 13 rfl rfl)
theorem dX0_odds_155 : decode cX0_odds 155 = .ok (.iadd, 1) := dk_96 (dk_at dksX0_odds_6 15 rfl rfl)
theorem dX0_odds_156 : decode cX0_odds 156 = .ok (.istore 6, 2) := dk_54 6 (dk_at dksX0_odds_6 16 rfl rfl)
theorem dX0_odds_158 : decode cX0_odds 158 = .ok (.iinc 8 1, 3) := dk_132 8 1 (dk_at dksX0_odds_6 18 rfl rfl)
theorem dX0_odds_161 : decode cX0_odds 161 = .ok (.goto (-73), 3) := dk_167 255 183 (dk_at dksX0_odds_6 21 rfl rfl)
theorem dX0_odds_164 : decode cX0_odds 164 = .ok (.iload 4, 2) := dk_21 4 (dk_at dksX0_odds_7 0 rfl rfl)
theorem dX0_odds_166 : decode cX0_odds 166 = .ok (.ifCond .ne 8, 3) := dk_154 0 8 (dk_at dksX0_odds_7 2 rfl rfl)
theorem dX0_odds_169 : decode cX0_odds 169 = .ok (.iload 6, 2) := dk_21 6 (dk_at dksX0_odds_7 5 rfl rfl)
theorem dX0_odds_171 : decode cX0_odds 171 = .ok (.goto 5, 3) := dk_167 0 5 (dk_at dksX0_odds_7 7 rfl rfl)
theorem dX0_odds_174 : decode cX0_odds 174 = .ok (.iload 7, 2) := dk_21 7 (dk_at dksX0_odds_7 10 rfl rfl)
theorem dX0_odds_176 : decode cX0_odds 176 = .ok (.iload 7, 2) := dk_21 7 (dk_at dksX0_odds_7 12 rfl rfl)
theorem dX0_odds_178 : decode cX0_odds 178 = .ok (.iload 6, 2) := dk_21 6 (dk_at dksX0_odds_7 14 rfl rfl)
theorem dX0_odds_180 : decode cX0_odds 180 = .ok (.invokestatic 319, 3) := dk_184 1 63 (dk_at dksX0_odds_7 16 rfl rfl)
theorem dX0_odds_183 : decode cX0_odds 183 = .ok (.idiv, 1) := dk_108 (dk_at dksX0_odds_7 19 rfl rfl)
theorem dX0_odds_184 : decode cX0_odds 184 = .ok (.ireturn, 1) := dk_172 (dk_at dksX0_odds_7 20 rfl rfl)
abbrev cX0_common : ByteArray := prog_1_method_61_code
def yX0_common : MethodName := ⟨RX0, "common", "(II)I"⟩
def dkwX0_common_0 : List UInt8 := [27, 154, 0, 7, 26, 167, 0, 10, 27, 26, 27, 112, 184, 1, 63, 172]
abbrev dktX0_common_0 : List UInt8 := dkwX0_common_0 ++ []
theorem dksX0_common_0 : cX0_common.data.toList.drop 0 = dktX0_common_0 := by decide +kernel
theorem dX0_common_0 : decode cX0_common 0 = .ok (.iload_n 1, 1) := dk_27 (dk_at dksX0_common_0 0 rfl rfl)
theorem dX0_common_1 : decode cX0_common 1 = .ok (.ifCond .ne 7, 3) := dk_154 0 7 (dk_at dksX0_common_0 1 rfl rfl)
theorem dX0_common_4 : decode cX0_common 4 = .ok (.iload_n 0, 1) := dk_26 (dk_at dksX0_common_0 4 rfl rfl)
theorem dX0_common_5 : decode cX0_common 5 = .ok (.goto 10, 3) := dk_167 0 10 (dk_at dksX0_common_0 5 rfl rfl)
theorem dX0_common_8 : decode cX0_common 8 = .ok (.iload_n 1, 1) := dk_27 (dk_at dksX0_common_0 8 rfl rfl)
theorem dX0_common_9 : decode cX0_common 9 = .ok (.iload_n 0, 1) := dk_26 (dk_at dksX0_common_0 9 rfl rfl)
theorem dX0_common_10 : decode cX0_common 10 = .ok (.iload_n 1, 1) := dk_27 (dk_at dksX0_common_0 10 rfl rfl)
theorem dX0_common_11 : decode cX0_common 11 = .ok (.irem, 1) := dk_112 (dk_at dksX0_common_0 11 rfl rfl)
theorem dX0_common_12 : decode cX0_common 12 = .ok (.invokestatic 319, 3) := dk_184 1 63 (dk_at dksX0_common_0 12 rfl rfl)
theorem dX0_common_15 : decode cX0_common 15 = .ok (.ireturn, 1) := dk_172 (dk_at dksX0_common_0 15 rfl rfl)
abbrev cX0_poorest : ByteArray := prog_1_method_63_code
def yX0_poorest : MethodName := ⟨RX0, "poorest", "()I"⟩
def dkwX0_poorest_1 : List UInt8 := [182, 0, 204, 164, 0, 5, 28, 60, 132, 2, 1, 167, 255, 226, 27, 172]
abbrev dktX0_poorest_1 : List UInt8 := dkwX0_poorest_1 ++ []
def dkwX0_poorest_0 : List UInt8 := [2, 60, 3, 61, 28, 42, 182, 0, 91, 162, 0, 28, 27, 155, 0, 16, 42, 28, 182, 0, 204, 42, 27]
abbrev dktX0_poorest_0 : List UInt8 := dkwX0_poorest_0 ++ dktX0_poorest_1
theorem dksX0_poorest_0 : cX0_poorest.data.toList.drop 0 = dktX0_poorest_0 := by decide +kernel
theorem dksX0_poorest_1 : cX0_poorest.data.toList.drop 23 = dktX0_poorest_1 := dk_seg dksX0_poorest_0 23 rfl rfl
theorem dX0_poorest_0 : decode cX0_poorest 0 = .ok (.iconst (-1), 1) := dk_2 (dk_at dksX0_poorest_0 0 rfl rfl)
theorem dX0_poorest_1 : decode cX0_poorest 1 = .ok (.istore_n 1, 1) := dk_60 (dk_at dksX0_poorest_0 1 rfl rfl)
theorem dX0_poorest_2 : decode cX0_poorest 2 = .ok (.iconst 0, 1) := dk_3 (dk_at dksX0_poorest_0 2 rfl rfl)
theorem dX0_poorest_3 : decode cX0_poorest 3 = .ok (.istore_n 2, 1) := dk_61 (dk_at dksX0_poorest_0 3 rfl rfl)
theorem dX0_poorest_4 : decode cX0_poorest 4 = .ok (.iload_n 2, 1) := dk_28 (dk_at dksX0_poorest_0 4 rfl rfl)
theorem dX0_poorest_5 : decode cX0_poorest 5 = .ok (.aload_n 0, 1) := dk_42 (dk_at dksX0_poorest_0 5 rfl rfl)
theorem dX0_poorest_6 : decode cX0_poorest 6 = .ok (.invokevirtual 91, 3) := dk_182 0 91 (dk_at dksX0_poorest_0 6 rfl rfl)
theorem dX0_poorest_9 : decode cX0_poorest 9 = .ok (.if_icmp .ge 28, 3) := dk_162 0 28 (dk_at dksX0_poorest_0 9 rfl rfl)
theorem dX0_poorest_12 : decode cX0_poorest 12 = .ok (.iload_n 1, 1) := dk_27 (dk_at dksX0_poorest_0 12 rfl rfl)
theorem dX0_poorest_13 : decode cX0_poorest 13 = .ok (.ifCond .lt 16, 3) := dk_155 0 16 (dk_at dksX0_poorest_0 13 rfl rfl)
theorem dX0_poorest_16 : decode cX0_poorest 16 = .ok (.aload_n 0, 1) := dk_42 (dk_at dksX0_poorest_0 16 rfl rfl)
theorem dX0_poorest_17 : decode cX0_poorest 17 = .ok (.iload_n 2, 1) := dk_28 (dk_at dksX0_poorest_0 17 rfl rfl)
theorem dX0_poorest_18 : decode cX0_poorest 18 = .ok (.invokevirtual 204, 3) := dk_182 0 204 (dk_at dksX0_poorest_0 18 rfl rfl)
theorem dX0_poorest_21 : decode cX0_poorest 21 = .ok (.aload_n 0, 1) := dk_42 (dk_at dksX0_poorest_0 21 rfl rfl)
theorem dX0_poorest_22 : decode cX0_poorest 22 = .ok (.iload_n 1, 1) := dk_27 (dk_at dksX0_poorest_0 22 rfl rfl)
theorem dX0_poorest_23 : decode cX0_poorest 23 = .ok (.invokevirtual 204, 3) := dk_182 0 204 (dk_at dksX0_poorest_1 0 rfl rfl)
theorem dX0_poorest_26 : decode cX0_poorest 26 = .ok (.if_icmp .le 5, 3) := dk_164 0 5 (dk_at dksX0_poorest_1 3 rfl rfl)
theorem dX0_poorest_29 : decode cX0_poorest 29 = .ok (.iload_n 2, 1) := dk_28 (dk_at dksX0_poorest_1 6 rfl rfl)
theorem dX0_poorest_30 : decode cX0_poorest 30 = .ok (.istore_n 1, 1) := dk_60 (dk_at dksX0_poorest_1 7 rfl rfl)
theorem dX0_poorest_31 : decode cX0_poorest 31 = .ok (.iinc 2 1, 3) := dk_132 2 1 (dk_at dksX0_poorest_1 8 rfl rfl)
theorem dX0_poorest_34 : decode cX0_poorest 34 = .ok (.goto (-30), 3) := dk_167 255 226 (dk_at dksX0_poorest_1 11 rfl rfl)
theorem dX0_poorest_37 : decode cX0_poorest 37 = .ok (.iload_n 1, 1) := dk_27 (dk_at dksX0_poorest_1 14 rfl rfl)
theorem dX0_poorest_38 : decode cX0_poorest 38 = .ok (.ireturn, 1) := dk_172 (dk_at dksX0_poorest_1 15 rfl rfl)
abbrev cX0_owing : ByteArray := prog_1_method_64_code
def yX0_owing : MethodName := ⟨RX0, "owing", "()I"⟩
def dkwX0_owing_1 : List UInt8 := [128, 60, 132, 2, 1, 167, 255, 231, 27, 172]
abbrev dktX0_owing_1 : List UInt8 := dkwX0_owing_1 ++ []
def dkwX0_owing_0 : List UInt8 := [3, 60, 3, 61, 28, 42, 182, 0, 91, 162, 0, 23, 42, 28, 182, 0, 204, 158, 0, 9, 27, 4, 28, 120]
abbrev dktX0_owing_0 : List UInt8 := dkwX0_owing_0 ++ dktX0_owing_1
theorem dksX0_owing_0 : cX0_owing.data.toList.drop 0 = dktX0_owing_0 := by decide +kernel
theorem dksX0_owing_1 : cX0_owing.data.toList.drop 24 = dktX0_owing_1 := dk_seg dksX0_owing_0 24 rfl rfl
theorem dX0_owing_0 : decode cX0_owing 0 = .ok (.iconst 0, 1) := dk_3 (dk_at dksX0_owing_0 0 rfl rfl)
theorem dX0_owing_1 : decode cX0_owing 1 = .ok (.istore_n 1, 1) := dk_60 (dk_at dksX0_owing_0 1 rfl rfl)
theorem dX0_owing_2 : decode cX0_owing 2 = .ok (.iconst 0, 1) := dk_3 (dk_at dksX0_owing_0 2 rfl rfl)
theorem dX0_owing_3 : decode cX0_owing 3 = .ok (.istore_n 2, 1) := dk_61 (dk_at dksX0_owing_0 3 rfl rfl)
theorem dX0_owing_4 : decode cX0_owing 4 = .ok (.iload_n 2, 1) := dk_28 (dk_at dksX0_owing_0 4 rfl rfl)
theorem dX0_owing_5 : decode cX0_owing 5 = .ok (.aload_n 0, 1) := dk_42 (dk_at dksX0_owing_0 5 rfl rfl)
theorem dX0_owing_6 : decode cX0_owing 6 = .ok (.invokevirtual 91, 3) := dk_182 0 91 (dk_at dksX0_owing_0 6 rfl rfl)
theorem dX0_owing_9 : decode cX0_owing 9 = .ok (.if_icmp .ge 23, 3) := dk_162 0 23 (dk_at dksX0_owing_0 9 rfl rfl)
theorem dX0_owing_12 : decode cX0_owing 12 = .ok (.aload_n 0, 1) := dk_42 (dk_at dksX0_owing_0 12 rfl rfl)
theorem dX0_owing_13 : decode cX0_owing 13 = .ok (.iload_n 2, 1) := dk_28 (dk_at dksX0_owing_0 13 rfl rfl)
theorem dX0_owing_14 : decode cX0_owing 14 = .ok (.invokevirtual 204, 3) := dk_182 0 204 (dk_at dksX0_owing_0 14 rfl rfl)
theorem dX0_owing_17 : decode cX0_owing 17 = .ok (.ifCond .le 9, 3) := dk_158 0 9 (dk_at dksX0_owing_0 17 rfl rfl)
theorem dX0_owing_20 : decode cX0_owing 20 = .ok (.iload_n 1, 1) := dk_27 (dk_at dksX0_owing_0 20 rfl rfl)
theorem dX0_owing_21 : decode cX0_owing 21 = .ok (.iconst 1, 1) := dk_4 (dk_at dksX0_owing_0 21 rfl rfl)
theorem dX0_owing_22 : decode cX0_owing 22 = .ok (.iload_n 2, 1) := dk_28 (dk_at dksX0_owing_0 22 rfl rfl)
theorem dX0_owing_23 : decode cX0_owing 23 = .ok (.ishl, 1) := dk_120 (dk_at dksX0_owing_0 23 rfl rfl)
theorem dX0_owing_24 : decode cX0_owing 24 = .ok (.ior, 1) := dk_128 (dk_at dksX0_owing_1 0 rfl rfl)
theorem dX0_owing_25 : decode cX0_owing 25 = .ok (.istore_n 1, 1) := dk_60 (dk_at dksX0_owing_1 1 rfl rfl)
theorem dX0_owing_26 : decode cX0_owing 26 = .ok (.iinc 2 1, 3) := dk_132 2 1 (dk_at dksX0_owing_1 2 rfl rfl)
theorem dX0_owing_29 : decode cX0_owing 29 = .ok (.goto (-25), 3) := dk_167 255 231 (dk_at dksX0_owing_1 5 rfl rfl)
theorem dX0_owing_32 : decode cX0_owing 32 = .ok (.iload_n 1, 1) := dk_27 (dk_at dksX0_owing_1 8 rfl rfl)
theorem dX0_owing_33 : decode cX0_owing 33 = .ok (.ireturn, 1) := dk_172 (dk_at dksX0_owing_1 9 rfl rfl)
abbrev cX0_law : ByteArray := prog_1_method_65_code
def yX0_law : MethodName := ⟨RX0, "law", "(I)I"⟩
def dkwX0_law_2 : List UInt8 := [132, 3, 1, 167, 255, 226, 28, 172]
abbrev dktX0_law_2 : List UInt8 := dkwX0_law_2 ++ []
def dkwX0_law_1 : List UInt8 := [162, 0, 28, 42, 180, 0, 28, 42, 180, 0, 19, 29, 27, 182, 0, 184, 158, 0, 6, 132, 2, 1]
abbrev dktX0_law_1 : List UInt8 := dkwX0_law_1 ++ dktX0_law_2
def dkwX0_law_0 : List UInt8 := [27, 17, 252, 25, 17, 3, 231, 184, 0, 155, 154, 0, 5, 2, 172, 3, 61, 3, 62, 29, 42, 182, 0, 91]
abbrev dktX0_law_0 : List UInt8 := dkwX0_law_0 ++ dktX0_law_1
theorem dksX0_law_0 : cX0_law.data.toList.drop 0 = dktX0_law_0 := by decide +kernel
theorem dksX0_law_1 : cX0_law.data.toList.drop 24 = dktX0_law_1 := dk_seg dksX0_law_0 24 rfl rfl
theorem dksX0_law_2 : cX0_law.data.toList.drop 46 = dktX0_law_2 := dk_seg dksX0_law_1 22 rfl rfl
theorem dX0_law_0 : decode cX0_law 0 = .ok (.iload_n 1, 1) := dk_27 (dk_at dksX0_law_0 0 rfl rfl)
theorem dX0_law_1 : decode cX0_law 1 = .ok (.sipush (-999), 3) := dk_17 252 25 (dk_at dksX0_law_0 1 rfl rfl)
theorem dX0_law_4 : decode cX0_law 4 = .ok (.sipush 999, 3) := dk_17 3 231 (dk_at dksX0_law_0 4 rfl rfl)
theorem dX0_law_7 : decode cX0_law 7 = .ok (.invokestatic 155, 3) := dk_184 0 155 (dk_at dksX0_law_0 7 rfl rfl)
theorem dX0_law_10 : decode cX0_law 10 = .ok (.ifCond .ne 5, 3) := dk_154 0 5 (dk_at dksX0_law_0 10 rfl rfl)
theorem dX0_law_13 : decode cX0_law 13 = .ok (.iconst (-1), 1) := dk_2 (dk_at dksX0_law_0 13 rfl rfl)
theorem dX0_law_14 : decode cX0_law 14 = .ok (.ireturn, 1) := dk_172 (dk_at dksX0_law_0 14 rfl rfl)
theorem dX0_law_15 : decode cX0_law 15 = .ok (.iconst 0, 1) := dk_3 (dk_at dksX0_law_0 15 rfl rfl)
theorem dX0_law_16 : decode cX0_law 16 = .ok (.istore_n 2, 1) := dk_61 (dk_at dksX0_law_0 16 rfl rfl)
theorem dX0_law_17 : decode cX0_law 17 = .ok (.iconst 0, 1) := dk_3 (dk_at dksX0_law_0 17 rfl rfl)
theorem dX0_law_18 : decode cX0_law 18 = .ok (.istore_n 3, 1) := dk_62 (dk_at dksX0_law_0 18 rfl rfl)
theorem dX0_law_19 : decode cX0_law 19 = .ok (.iload_n 3, 1) := dk_29 (dk_at dksX0_law_0 19 rfl rfl)
theorem dX0_law_20 : decode cX0_law 20 = .ok (.aload_n 0, 1) := dk_42 (dk_at dksX0_law_0 20 rfl rfl)
theorem dX0_law_21 : decode cX0_law 21 = .ok (.invokevirtual 91, 3) := dk_182 0 91 (dk_at dksX0_law_0 21 rfl rfl)
theorem dX0_law_24 : decode cX0_law 24 = .ok (.if_icmp .ge 28, 3) := dk_162 0 28 (dk_at dksX0_law_1 0 rfl rfl)
theorem dX0_law_27 : decode cX0_law 27 = .ok (.aload_n 0, 1) := dk_42 (dk_at dksX0_law_1 3 rfl rfl)
theorem dX0_law_28 : decode cX0_law 28 = .ok (.getfield 28, 3) := dk_180 0 28 (dk_at dksX0_law_1 4 rfl rfl)
theorem dX0_law_31 : decode cX0_law 31 = .ok (.aload_n 0, 1) := dk_42 (dk_at dksX0_law_1 7 rfl rfl)
theorem dX0_law_32 : decode cX0_law 32 = .ok (.getfield 19, 3) := dk_180 0 19 (dk_at dksX0_law_1 8 rfl rfl)
theorem dX0_law_35 : decode cX0_law 35 = .ok (.iload_n 3, 1) := dk_29 (dk_at dksX0_law_1 11 rfl rfl)
theorem dX0_law_36 : decode cX0_law 36 = .ok (.iload_n 1, 1) := dk_27 (dk_at dksX0_law_1 12 rfl rfl)
theorem dX0_law_37 : decode cX0_law 37 = .ok (.invokevirtual 184, 3) := dk_182 0 184 (dk_at dksX0_law_1 13 rfl rfl)
theorem dX0_law_40 : decode cX0_law 40 = .ok (.ifCond .le 6, 3) := dk_158 0 6 (dk_at dksX0_law_1 16 rfl rfl)
theorem dX0_law_43 : decode cX0_law 43 = .ok (.iinc 2 1, 3) := dk_132 2 1 (dk_at dksX0_law_1 19 rfl rfl)
theorem dX0_law_46 : decode cX0_law 46 = .ok (.iinc 3 1, 3) := dk_132 3 1 (dk_at dksX0_law_2 0 rfl rfl)
theorem dX0_law_49 : decode cX0_law 49 = .ok (.goto (-30), 3) := dk_167 255 226 (dk_at dksX0_law_2 3 rfl rfl)
theorem dX0_law_52 : decode cX0_law 52 = .ok (.iload_n 2, 1) := dk_28 (dk_at dksX0_law_2 6 rfl rfl)
theorem dX0_law_53 : decode cX0_law 53 = .ok (.ireturn, 1) := dk_172 (dk_at dksX0_law_2 7 rfl rfl)
abbrev cX0_chalk : ByteArray := prog_1_method_67_code
def yX0_chalk : MethodName := ⟨RX0, "chalk", "(IZ)I"⟩
def dkwX0_chalk_1 : List UInt8 := [162, 0, 20, 42, 187, 1, 66, 89, 42, 27, 28, 183, 1, 68, 182, 1, 71, 167, 0, 4, 2, 172]
abbrev dktX0_chalk_1 : List UInt8 := dkwX0_chalk_1 ++ []
def dkwX0_chalk_0 : List UInt8 := [27, 3, 42, 180, 0, 19, 180, 0, 208, 184, 0, 155, 153, 0, 32, 42, 180, 0, 73, 182, 0, 141, 16, 30]
abbrev dktX0_chalk_0 : List UInt8 := dkwX0_chalk_0 ++ dktX0_chalk_1
theorem dksX0_chalk_0 : cX0_chalk.data.toList.drop 0 = dktX0_chalk_0 := by decide +kernel
theorem dksX0_chalk_1 : cX0_chalk.data.toList.drop 24 = dktX0_chalk_1 := dk_seg dksX0_chalk_0 24 rfl rfl
theorem dX0_chalk_0 : decode cX0_chalk 0 = .ok (.iload_n 1, 1) := dk_27 (dk_at dksX0_chalk_0 0 rfl rfl)
theorem dX0_chalk_1 : decode cX0_chalk 1 = .ok (.iconst 0, 1) := dk_3 (dk_at dksX0_chalk_0 1 rfl rfl)
theorem dX0_chalk_2 : decode cX0_chalk 2 = .ok (.aload_n 0, 1) := dk_42 (dk_at dksX0_chalk_0 2 rfl rfl)
theorem dX0_chalk_3 : decode cX0_chalk 3 = .ok (.getfield 19, 3) := dk_180 0 19 (dk_at dksX0_chalk_0 3 rfl rfl)
theorem dX0_chalk_6 : decode cX0_chalk 6 = .ok (.getfield 208, 3) := dk_180 0 208 (dk_at dksX0_chalk_0 6 rfl rfl)
theorem dX0_chalk_9 : decode cX0_chalk 9 = .ok (.invokestatic 155, 3) := dk_184 0 155 (dk_at dksX0_chalk_0 9 rfl rfl)
theorem dX0_chalk_12 : decode cX0_chalk 12 = .ok (.ifCond .eq 32, 3) := dk_153 0 32 (dk_at dksX0_chalk_0 12 rfl rfl)
theorem dX0_chalk_15 : decode cX0_chalk 15 = .ok (.aload_n 0, 1) := dk_42 (dk_at dksX0_chalk_0 15 rfl rfl)
theorem dX0_chalk_16 : decode cX0_chalk 16 = .ok (.getfield 73, 3) := dk_180 0 73 (dk_at dksX0_chalk_0 16 rfl rfl)
theorem dX0_chalk_19 : decode cX0_chalk 19 = .ok (.invokevirtual 141, 3) := dk_182 0 141 (dk_at dksX0_chalk_0 19 rfl rfl)
theorem dX0_chalk_22 : decode cX0_chalk 22 = .ok (.bipush 30, 2) := dk_16 30 (dk_at dksX0_chalk_0 22 rfl rfl)
theorem dX0_chalk_24 : decode cX0_chalk 24 = .ok (.if_icmp .ge 20, 3) := dk_162 0 20 (dk_at dksX0_chalk_1 0 rfl rfl)
theorem dX0_chalk_27 : decode cX0_chalk 27 = .ok (.aload_n 0, 1) := dk_42 (dk_at dksX0_chalk_1 3 rfl rfl)
theorem dX0_chalk_28 : decode cX0_chalk 28 = .ok (.new 322, 3) := dk_187 1 66 (dk_at dksX0_chalk_1 4 rfl rfl)
theorem dX0_chalk_31 : decode cX0_chalk 31 = .ok (.dup, 1) := dk_89 (dk_at dksX0_chalk_1 7 rfl rfl)
theorem dX0_chalk_32 : decode cX0_chalk 32 = .ok (.aload_n 0, 1) := dk_42 (dk_at dksX0_chalk_1 8 rfl rfl)
theorem dX0_chalk_33 : decode cX0_chalk 33 = .ok (.iload_n 1, 1) := dk_27 (dk_at dksX0_chalk_1 9 rfl rfl)
theorem dX0_chalk_34 : decode cX0_chalk 34 = .ok (.iload_n 2, 1) := dk_28 (dk_at dksX0_chalk_1 10 rfl rfl)
theorem dX0_chalk_35 : decode cX0_chalk 35 = .ok (.invokespecial 324, 3) := dk_183 1 68 (dk_at dksX0_chalk_1 11 rfl rfl)
theorem dX0_chalk_38 : decode cX0_chalk 38 = .ok (.invokevirtual 327, 3) := dk_182 1 71 (dk_at dksX0_chalk_1 14 rfl rfl)
theorem dX0_chalk_41 : decode cX0_chalk 41 = .ok (.goto 4, 3) := dk_167 0 4 (dk_at dksX0_chalk_1 17 rfl rfl)
theorem dX0_chalk_44 : decode cX0_chalk 44 = .ok (.iconst (-1), 1) := dk_2 (dk_at dksX0_chalk_1 20 rfl rfl)
theorem dX0_chalk_45 : decode cX0_chalk 45 = .ok (.ireturn, 1) := dk_172 (dk_at dksX0_chalk_1 21 rfl rfl)
abbrev cX0_tell : ByteArray := prog_1_method_66_code
def yX0_tell : MethodName := ⟨RX0, "tell", "(LSoManyStairs$Mark;)I"⟩
def dkwX0_tell_0 : List UInt8 := [42, 180, 0, 73, 43, 182, 0, 151, 87, 42, 180, 0, 73, 182, 0, 141, 4, 100, 172]
abbrev dktX0_tell_0 : List UInt8 := dkwX0_tell_0 ++ []
theorem dksX0_tell_0 : cX0_tell.data.toList.drop 0 = dktX0_tell_0 := by decide +kernel
theorem dX0_tell_0 : decode cX0_tell 0 = .ok (.aload_n 0, 1) := dk_42 (dk_at dksX0_tell_0 0 rfl rfl)
theorem dX0_tell_1 : decode cX0_tell 1 = .ok (.getfield 73, 3) := dk_180 0 73 (dk_at dksX0_tell_0 1 rfl rfl)
theorem dX0_tell_4 : decode cX0_tell 4 = .ok (.aload_n 1, 1) := dk_43 (dk_at dksX0_tell_0 4 rfl rfl)
theorem dX0_tell_5 : decode cX0_tell 5 = .ok (.invokevirtual 151, 3) := dk_182 0 151 (dk_at dksX0_tell_0 5 rfl rfl)
theorem dX0_tell_8 : decode cX0_tell 8 = .ok (.pop, 1) := dk_87 (dk_at dksX0_tell_0 8 rfl rfl)
theorem dX0_tell_9 : decode cX0_tell 9 = .ok (.aload_n 0, 1) := dk_42 (dk_at dksX0_tell_0 9 rfl rfl)
theorem dX0_tell_10 : decode cX0_tell 10 = .ok (.getfield 73, 3) := dk_180 0 73 (dk_at dksX0_tell_0 10 rfl rfl)
theorem dX0_tell_13 : decode cX0_tell 13 = .ok (.invokevirtual 141, 3) := dk_182 0 141 (dk_at dksX0_tell_0 13 rfl rfl)
theorem dX0_tell_16 : decode cX0_tell 16 = .ok (.iconst 1, 1) := dk_4 (dk_at dksX0_tell_0 16 rfl rfl)
theorem dX0_tell_17 : decode cX0_tell 17 = .ok (.isub, 1) := dk_100 (dk_at dksX0_tell_0 17 rfl rfl)
theorem dX0_tell_18 : decode cX0_tell 18 = .ok (.ireturn, 1) := dk_172 (dk_at dksX0_tell_0 18 rfl rfl)
abbrev cX0_tread : ByteArray := prog_1_method_68_code
def yX0_tread : MethodName := ⟨RX0, "tread", "(IZ)I"⟩
def dkwX0_tread_1 : List UInt8 := [187, 1, 75, 89, 42, 27, 28, 183, 1, 77, 182, 1, 71, 167, 0, 4, 2, 172]
abbrev dktX0_tread_1 : List UInt8 := dkwX0_tread_1 ++ []
def dkwX0_tread_0 : List UInt8 := [27, 3, 16, 9, 184, 0, 155, 153, 0, 32, 42, 180, 0, 73, 182, 0, 141, 16, 30, 162, 0, 20, 42]
abbrev dktX0_tread_0 : List UInt8 := dkwX0_tread_0 ++ dktX0_tread_1
theorem dksX0_tread_0 : cX0_tread.data.toList.drop 0 = dktX0_tread_0 := by decide +kernel
theorem dksX0_tread_1 : cX0_tread.data.toList.drop 23 = dktX0_tread_1 := dk_seg dksX0_tread_0 23 rfl rfl
theorem dX0_tread_0 : decode cX0_tread 0 = .ok (.iload_n 1, 1) := dk_27 (dk_at dksX0_tread_0 0 rfl rfl)
theorem dX0_tread_1 : decode cX0_tread 1 = .ok (.iconst 0, 1) := dk_3 (dk_at dksX0_tread_0 1 rfl rfl)
theorem dX0_tread_2 : decode cX0_tread 2 = .ok (.bipush 9, 2) := dk_16 9 (dk_at dksX0_tread_0 2 rfl rfl)
theorem dX0_tread_4 : decode cX0_tread 4 = .ok (.invokestatic 155, 3) := dk_184 0 155 (dk_at dksX0_tread_0 4 rfl rfl)
theorem dX0_tread_7 : decode cX0_tread 7 = .ok (.ifCond .eq 32, 3) := dk_153 0 32 (dk_at dksX0_tread_0 7 rfl rfl)
theorem dX0_tread_10 : decode cX0_tread 10 = .ok (.aload_n 0, 1) := dk_42 (dk_at dksX0_tread_0 10 rfl rfl)
theorem dX0_tread_11 : decode cX0_tread 11 = .ok (.getfield 73, 3) := dk_180 0 73 (dk_at dksX0_tread_0 11 rfl rfl)
theorem dX0_tread_14 : decode cX0_tread 14 = .ok (.invokevirtual 141, 3) := dk_182 0 141 (dk_at dksX0_tread_0 14 rfl rfl)
theorem dX0_tread_17 : decode cX0_tread 17 = .ok (.bipush 30, 2) := dk_16 30 (dk_at dksX0_tread_0 17 rfl rfl)
theorem dX0_tread_19 : decode cX0_tread 19 = .ok (.if_icmp .ge 20, 3) := dk_162 0 20 (dk_at dksX0_tread_0 19 rfl rfl)
theorem dX0_tread_22 : decode cX0_tread 22 = .ok (.aload_n 0, 1) := dk_42 (dk_at dksX0_tread_0 22 rfl rfl)
theorem dX0_tread_23 : decode cX0_tread 23 = .ok (.new 331, 3) := dk_187 1 75 (dk_at dksX0_tread_1 0 rfl rfl)
theorem dX0_tread_26 : decode cX0_tread 26 = .ok (.dup, 1) := dk_89 (dk_at dksX0_tread_1 3 rfl rfl)
theorem dX0_tread_27 : decode cX0_tread 27 = .ok (.aload_n 0, 1) := dk_42 (dk_at dksX0_tread_1 4 rfl rfl)
theorem dX0_tread_28 : decode cX0_tread 28 = .ok (.iload_n 1, 1) := dk_27 (dk_at dksX0_tread_1 5 rfl rfl)
theorem dX0_tread_29 : decode cX0_tread 29 = .ok (.iload_n 2, 1) := dk_28 (dk_at dksX0_tread_1 6 rfl rfl)
theorem dX0_tread_30 : decode cX0_tread 30 = .ok (.invokespecial 333, 3) := dk_183 1 77 (dk_at dksX0_tread_1 7 rfl rfl)
theorem dX0_tread_33 : decode cX0_tread 33 = .ok (.invokevirtual 327, 3) := dk_182 1 71 (dk_at dksX0_tread_1 10 rfl rfl)
theorem dX0_tread_36 : decode cX0_tread 36 = .ok (.goto 4, 3) := dk_167 0 4 (dk_at dksX0_tread_1 13 rfl rfl)
theorem dX0_tread_39 : decode cX0_tread 39 = .ok (.iconst (-1), 1) := dk_2 (dk_at dksX0_tread_1 16 rfl rfl)
theorem dX0_tread_40 : decode cX0_tread 40 = .ok (.ireturn, 1) := dk_172 (dk_at dksX0_tread_1 17 rfl rfl)
abbrev cX0_untell : ByteArray := prog_1_method_69_code
def yX0_untell : MethodName := ⟨RX0, "untell", "(I)Z"⟩
def dkwX0_untell_2 : List UInt8 := [192, 1, 78, 42, 180, 1, 83, 181, 1, 80, 4, 172]
abbrev dktX0_untell_2 : List UInt8 := dkwX0_untell_2 ++ []
def dkwX0_untell_1 : List UInt8 := [182, 0, 98, 192, 1, 78, 180, 1, 80, 155, 0, 5, 3, 172, 42, 180, 0, 73, 27, 182, 0, 98]
abbrev dktX0_untell_1 : List UInt8 := dkwX0_untell_1 ++ dktX0_untell_2
def dkwX0_untell_0 : List UInt8 := [27, 3, 42, 180, 0, 73, 182, 0, 141, 4, 100, 184, 0, 155, 153, 0, 20, 42, 180, 0, 73, 27]
abbrev dktX0_untell_0 : List UInt8 := dkwX0_untell_0 ++ dktX0_untell_1
theorem dksX0_untell_0 : cX0_untell.data.toList.drop 0 = dktX0_untell_0 := by decide +kernel
theorem dksX0_untell_1 : cX0_untell.data.toList.drop 22 = dktX0_untell_1 := dk_seg dksX0_untell_0 22 rfl rfl
theorem dksX0_untell_2 : cX0_untell.data.toList.drop 44 = dktX0_untell_2 := dk_seg dksX0_untell_1 22 rfl rfl
theorem dX0_untell_0 : decode cX0_untell 0 = .ok (.iload_n 1, 1) := dk_27 (dk_at dksX0_untell_0 0 rfl rfl)
theorem dX0_untell_1 : decode cX0_untell 1 = .ok (.iconst 0, 1) := dk_3 (dk_at dksX0_untell_0 1 rfl rfl)
theorem dX0_untell_2 : decode cX0_untell 2 = .ok (.aload_n 0, 1) := dk_42 (dk_at dksX0_untell_0 2 rfl rfl)
theorem dX0_untell_3 : decode cX0_untell 3 = .ok (.getfield 73, 3) := dk_180 0 73 (dk_at dksX0_untell_0 3 rfl rfl)
theorem dX0_untell_6 : decode cX0_untell 6 = .ok (.invokevirtual 141, 3) := dk_182 0 141 (dk_at dksX0_untell_0 6 rfl rfl)
theorem dX0_untell_9 : decode cX0_untell 9 = .ok (.iconst 1, 1) := dk_4 (dk_at dksX0_untell_0 9 rfl rfl)
theorem dX0_untell_10 : decode cX0_untell 10 = .ok (.isub, 1) := dk_100 (dk_at dksX0_untell_0 10 rfl rfl)
theorem dX0_untell_11 : decode cX0_untell 11 = .ok (.invokestatic 155, 3) := dk_184 0 155 (dk_at dksX0_untell_0 11 rfl rfl)
theorem dX0_untell_14 : decode cX0_untell 14 = .ok (.ifCond .eq 20, 3) := dk_153 0 20 (dk_at dksX0_untell_0 14 rfl rfl)
theorem dX0_untell_17 : decode cX0_untell 17 = .ok (.aload_n 0, 1) := dk_42 (dk_at dksX0_untell_0 17 rfl rfl)
theorem dX0_untell_18 : decode cX0_untell 18 = .ok (.getfield 73, 3) := dk_180 0 73 (dk_at dksX0_untell_0 18 rfl rfl)
theorem dX0_untell_21 : decode cX0_untell 21 = .ok (.iload_n 1, 1) := dk_27 (dk_at dksX0_untell_0 21 rfl rfl)
theorem dX0_untell_22 : decode cX0_untell 22 = .ok (.invokevirtual 98, 3) := dk_182 0 98 (dk_at dksX0_untell_1 0 rfl rfl)
theorem dX0_untell_25 : decode cX0_untell 25 = .ok (.checkcast 334, 3) := dk_192 1 78 (dk_at dksX0_untell_1 3 rfl rfl)
theorem dX0_untell_28 : decode cX0_untell 28 = .ok (.getfield 336, 3) := dk_180 1 80 (dk_at dksX0_untell_1 6 rfl rfl)
theorem dX0_untell_31 : decode cX0_untell 31 = .ok (.ifCond .lt 5, 3) := dk_155 0 5 (dk_at dksX0_untell_1 9 rfl rfl)
theorem dX0_untell_34 : decode cX0_untell 34 = .ok (.iconst 0, 1) := dk_3 (dk_at dksX0_untell_1 12 rfl rfl)
theorem dX0_untell_35 : decode cX0_untell 35 = .ok (.ireturn, 1) := dk_172 (dk_at dksX0_untell_1 13 rfl rfl)
theorem dX0_untell_36 : decode cX0_untell 36 = .ok (.aload_n 0, 1) := dk_42 (dk_at dksX0_untell_1 14 rfl rfl)
theorem dX0_untell_37 : decode cX0_untell 37 = .ok (.getfield 73, 3) := dk_180 0 73 (dk_at dksX0_untell_1 15 rfl rfl)
theorem dX0_untell_40 : decode cX0_untell 40 = .ok (.iload_n 1, 1) := dk_27 (dk_at dksX0_untell_1 18 rfl rfl)
theorem dX0_untell_41 : decode cX0_untell 41 = .ok (.invokevirtual 98, 3) := dk_182 0 98 (dk_at dksX0_untell_1 19 rfl rfl)
theorem dX0_untell_44 : decode cX0_untell 44 = .ok (.checkcast 334, 3) := dk_192 1 78 (dk_at dksX0_untell_2 0 rfl rfl)
theorem dX0_untell_47 : decode cX0_untell 47 = .ok (.aload_n 0, 1) := dk_42 (dk_at dksX0_untell_2 3 rfl rfl)
theorem dX0_untell_48 : decode cX0_untell 48 = .ok (.getfield 339, 3) := dk_180 1 83 (dk_at dksX0_untell_2 4 rfl rfl)
theorem dX0_untell_51 : decode cX0_untell 51 = .ok (.putfield 336, 3) := dk_181 1 80 (dk_at dksX0_untell_2 7 rfl rfl)
theorem dX0_untell_54 : decode cX0_untell 54 = .ok (.iconst 1, 1) := dk_4 (dk_at dksX0_untell_2 10 rfl rfl)
theorem dX0_untell_55 : decode cX0_untell 55 = .ok (.ireturn, 1) := dk_172 (dk_at dksX0_untell_2 11 rfl rfl)
abbrev cX0_later : ByteArray := prog_1_method_70_code
def yX0_later : MethodName := ⟨RX0, "later", "(I)I"⟩
def dkwX0_later_1 : List UInt8 := [172, 42, 89, 180, 1, 83, 27, 96, 181, 1, 83, 42, 180, 1, 83, 172]
abbrev dktX0_later_1 : List UInt8 := dkwX0_later_1 ++ []
def dkwX0_later_0 : List UInt8 := [27, 155, 0, 22, 27, 17, 3, 232, 163, 0, 15, 42, 180, 1, 83, 27, 96, 19, 1, 86, 164, 0, 5, 2]
abbrev dktX0_later_0 : List UInt8 := dkwX0_later_0 ++ dktX0_later_1
theorem dksX0_later_0 : cX0_later.data.toList.drop 0 = dktX0_later_0 := by decide +kernel
theorem dksX0_later_1 : cX0_later.data.toList.drop 24 = dktX0_later_1 := dk_seg dksX0_later_0 24 rfl rfl
theorem dX0_later_0 : decode cX0_later 0 = .ok (.iload_n 1, 1) := dk_27 (dk_at dksX0_later_0 0 rfl rfl)
theorem dX0_later_1 : decode cX0_later 1 = .ok (.ifCond .lt 22, 3) := dk_155 0 22 (dk_at dksX0_later_0 1 rfl rfl)
theorem dX0_later_4 : decode cX0_later 4 = .ok (.iload_n 1, 1) := dk_27 (dk_at dksX0_later_0 4 rfl rfl)
theorem dX0_later_5 : decode cX0_later 5 = .ok (.sipush 1000, 3) := dk_17 3 232 (dk_at dksX0_later_0 5 rfl rfl)
theorem dX0_later_8 : decode cX0_later 8 = .ok (.if_icmp .gt 15, 3) := dk_163 0 15 (dk_at dksX0_later_0 8 rfl rfl)
theorem dX0_later_11 : decode cX0_later 11 = .ok (.aload_n 0, 1) := dk_42 (dk_at dksX0_later_0 11 rfl rfl)
theorem dX0_later_12 : decode cX0_later 12 = .ok (.getfield 339, 3) := dk_180 1 83 (dk_at dksX0_later_0 12 rfl rfl)
theorem dX0_later_15 : decode cX0_later 15 = .ok (.iload_n 1, 1) := dk_27 (dk_at dksX0_later_0 15 rfl rfl)
theorem dX0_later_16 : decode cX0_later 16 = .ok (.iadd, 1) := dk_96 (dk_at dksX0_later_0 16 rfl rfl)
theorem dX0_later_17 : decode cX0_later 17 = .ok (.ldc_w 342, 3) := dk_19 1 86 (dk_at dksX0_later_0 17 rfl rfl)
theorem dX0_later_20 : decode cX0_later 20 = .ok (.if_icmp .le 5, 3) := dk_164 0 5 (dk_at dksX0_later_0 20 rfl rfl)
theorem dX0_later_23 : decode cX0_later 23 = .ok (.iconst (-1), 1) := dk_2 (dk_at dksX0_later_0 23 rfl rfl)
theorem dX0_later_24 : decode cX0_later 24 = .ok (.ireturn, 1) := dk_172 (dk_at dksX0_later_1 0 rfl rfl)
theorem dX0_later_25 : decode cX0_later 25 = .ok (.aload_n 0, 1) := dk_42 (dk_at dksX0_later_1 1 rfl rfl)
theorem dX0_later_26 : decode cX0_later 26 = .ok (.dup, 1) := dk_89 (dk_at dksX0_later_1 2 rfl rfl)
theorem dX0_later_27 : decode cX0_later 27 = .ok (.getfield 339, 3) := dk_180 1 83 (dk_at dksX0_later_1 3 rfl rfl)
theorem dX0_later_30 : decode cX0_later 30 = .ok (.iload_n 1, 1) := dk_27 (dk_at dksX0_later_1 6 rfl rfl)
theorem dX0_later_31 : decode cX0_later 31 = .ok (.iadd, 1) := dk_96 (dk_at dksX0_later_1 7 rfl rfl)
theorem dX0_later_32 : decode cX0_later 32 = .ok (.putfield 339, 3) := dk_181 1 83 (dk_at dksX0_later_1 8 rfl rfl)
theorem dX0_later_35 : decode cX0_later 35 = .ok (.aload_n 0, 1) := dk_42 (dk_at dksX0_later_1 11 rfl rfl)
theorem dX0_later_36 : decode cX0_later 36 = .ok (.getfield 339, 3) := dk_180 1 83 (dk_at dksX0_later_1 12 rfl rfl)
theorem dX0_later_39 : decode cX0_later 39 = .ok (.ireturn, 1) := dk_172 (dk_at dksX0_later_1 15 rfl rfl)
abbrev cX0_runs : ByteArray := prog_1_method_74_code
def yX0_runs : MethodName := ⟨RX0, "runs", "(I)I"⟩
def dkwX0_runs_0 : List UInt8 := [42, 2, 27, 182, 1, 97, 172]
abbrev dktX0_runs_0 : List UInt8 := dkwX0_runs_0 ++ []
theorem dksX0_runs_0 : cX0_runs.data.toList.drop 0 = dktX0_runs_0 := by decide +kernel
theorem dX0_runs_0 : decode cX0_runs 0 = .ok (.aload_n 0, 1) := dk_42 (dk_at dksX0_runs_0 0 rfl rfl)
theorem dX0_runs_1 : decode cX0_runs 1 = .ok (.iconst (-1), 1) := dk_2 (dk_at dksX0_runs_0 1 rfl rfl)
theorem dX0_runs_2 : decode cX0_runs 2 = .ok (.iload_n 1, 1) := dk_27 (dk_at dksX0_runs_0 2 rfl rfl)
theorem dX0_runs_3 : decode cX0_runs 3 = .ok (.invokevirtual 353, 3) := dk_182 1 97 (dk_at dksX0_runs_0 3 rfl rfl)
theorem dX0_runs_6 : decode cX0_runs 6 = .ok (.ireturn, 1) := dk_172 (dk_at dksX0_runs_0 6 rfl rfl)
abbrev cX0_allRuns : ByteArray := prog_1_method_73_code
def yX0_allRuns : MethodName := ⟨RX0, "allRuns", "(II)I"⟩
def dkwX0_allRuns_1 : List UInt8 := [62, 132, 4, 1, 167, 255, 233, 29, 172]
abbrev dktX0_allRuns_1 : List UInt8 := dkwX0_allRuns_1 ++ []
def dkwX0_allRuns_0 : List UInt8 := [3, 62, 3, 54, 4, 21, 4, 42, 182, 0, 91, 162, 0, 20, 29, 42, 21, 4, 27, 28, 182, 1, 93, 96]
abbrev dktX0_allRuns_0 : List UInt8 := dkwX0_allRuns_0 ++ dktX0_allRuns_1
theorem dksX0_allRuns_0 : cX0_allRuns.data.toList.drop 0 = dktX0_allRuns_0 := by decide +kernel
theorem dksX0_allRuns_1 : cX0_allRuns.data.toList.drop 24 = dktX0_allRuns_1 := dk_seg dksX0_allRuns_0 24 rfl rfl
theorem dX0_allRuns_0 : decode cX0_allRuns 0 = .ok (.iconst 0, 1) := dk_3 (dk_at dksX0_allRuns_0 0 rfl rfl)
theorem dX0_allRuns_1 : decode cX0_allRuns 1 = .ok (.istore_n 3, 1) := dk_62 (dk_at dksX0_allRuns_0 1 rfl rfl)
theorem dX0_allRuns_2 : decode cX0_allRuns 2 = .ok (.iconst 0, 1) := dk_3 (dk_at dksX0_allRuns_0 2 rfl rfl)
theorem dX0_allRuns_3 : decode cX0_allRuns 3 = .ok (.istore 4, 2) := dk_54 4 (dk_at dksX0_allRuns_0 3 rfl rfl)
theorem dX0_allRuns_5 : decode cX0_allRuns 5 = .ok (.iload 4, 2) := dk_21 4 (dk_at dksX0_allRuns_0 5 rfl rfl)
theorem dX0_allRuns_7 : decode cX0_allRuns 7 = .ok (.aload_n 0, 1) := dk_42 (dk_at dksX0_allRuns_0 7 rfl rfl)
theorem dX0_allRuns_8 : decode cX0_allRuns 8 = .ok (.invokevirtual 91, 3) := dk_182 0 91 (dk_at dksX0_allRuns_0 8 rfl rfl)
theorem dX0_allRuns_11 : decode cX0_allRuns 11 = .ok (.if_icmp .ge 20, 3) := dk_162 0 20 (dk_at dksX0_allRuns_0 11 rfl rfl)
theorem dX0_allRuns_14 : decode cX0_allRuns 14 = .ok (.iload_n 3, 1) := dk_29 (dk_at dksX0_allRuns_0 14 rfl rfl)
theorem dX0_allRuns_15 : decode cX0_allRuns 15 = .ok (.aload_n 0, 1) := dk_42 (dk_at dksX0_allRuns_0 15 rfl rfl)
theorem dX0_allRuns_16 : decode cX0_allRuns 16 = .ok (.iload 4, 2) := dk_21 4 (dk_at dksX0_allRuns_0 16 rfl rfl)
theorem dX0_allRuns_18 : decode cX0_allRuns 18 = .ok (.iload_n 1, 1) := dk_27 (dk_at dksX0_allRuns_0 18 rfl rfl)
theorem dX0_allRuns_19 : decode cX0_allRuns 19 = .ok (.iload_n 2, 1) := dk_28 (dk_at dksX0_allRuns_0 19 rfl rfl)
theorem dX0_allRuns_20 : decode cX0_allRuns 20 = .ok (.invokevirtual 349, 3) := dk_182 1 93 (dk_at dksX0_allRuns_0 20 rfl rfl)
theorem dX0_allRuns_23 : decode cX0_allRuns 23 = .ok (.iadd, 1) := dk_96 (dk_at dksX0_allRuns_0 23 rfl rfl)
theorem dX0_allRuns_24 : decode cX0_allRuns 24 = .ok (.istore_n 3, 1) := dk_62 (dk_at dksX0_allRuns_1 0 rfl rfl)
theorem dX0_allRuns_25 : decode cX0_allRuns 25 = .ok (.iinc 4 1, 3) := dk_132 4 1 (dk_at dksX0_allRuns_1 1 rfl rfl)
theorem dX0_allRuns_28 : decode cX0_allRuns 28 = .ok (.goto (-23), 3) := dk_167 255 233 (dk_at dksX0_allRuns_1 4 rfl rfl)
theorem dX0_allRuns_31 : decode cX0_allRuns 31 = .ok (.iload_n 3, 1) := dk_29 (dk_at dksX0_allRuns_1 7 rfl rfl)
theorem dX0_allRuns_32 : decode cX0_allRuns 32 = .ok (.ireturn, 1) := dk_172 (dk_at dksX0_allRuns_1 8 rfl rfl)
abbrev cX0_runsOf : ByteArray := prog_1_method_72_code
def yX0_runsOf : MethodName := ⟨RX0, "runsOf", "(III)I"⟩
def dkwX0_runsOf_4 : List UInt8 := [132, 6, 1, 167, 255, 187, 132, 5, 1, 167, 255, 163, 21, 4, 172]
abbrev dktX0_runsOf_4 : List UInt8 := dkwX0_runsOf_4 ++ []
def dkwX0_runsOf_3 : List UInt8 := [184, 0, 155, 153, 0, 19, 42, 27, 21, 5, 21, 6, 29, 182, 1, 90, 153, 0, 6, 132, 4, 1]
abbrev dktX0_runsOf_3 : List UInt8 := dkwX0_runsOf_3 ++ dktX0_runsOf_4
def dkwX0_runsOf_2 : List UInt8 := [192, 0, 102, 180, 0, 104, 96, 184, 0, 1, 163, 0, 40, 28, 155, 0, 14, 28, 21, 5, 21, 6]
abbrev dktX0_runsOf_2 : List UInt8 := dkwX0_runsOf_2 ++ dktX0_runsOf_3
def dkwX0_runsOf_1 : List UInt8 := [21, 6, 42, 180, 0, 19, 180, 0, 208, 21, 5, 42, 180, 0, 19, 180, 0, 95, 27, 182, 0, 98]
abbrev dktX0_runsOf_1 : List UInt8 := dkwX0_runsOf_1 ++ dktX0_runsOf_2
def dkwX0_runsOf_0 : List UInt8 := [3, 54, 4, 3, 54, 5, 21, 5, 42, 180, 0, 19, 180, 0, 208, 162, 0, 87, 21, 5, 4, 96, 54, 6]
abbrev dktX0_runsOf_0 : List UInt8 := dkwX0_runsOf_0 ++ dktX0_runsOf_1
theorem dksX0_runsOf_0 : cX0_runsOf.data.toList.drop 0 = dktX0_runsOf_0 := by decide +kernel
theorem dksX0_runsOf_1 : cX0_runsOf.data.toList.drop 24 = dktX0_runsOf_1 := dk_seg dksX0_runsOf_0 24 rfl rfl
theorem dksX0_runsOf_2 : cX0_runsOf.data.toList.drop 46 = dktX0_runsOf_2 := dk_seg dksX0_runsOf_1 22 rfl rfl
theorem dksX0_runsOf_3 : cX0_runsOf.data.toList.drop 68 = dktX0_runsOf_3 := dk_seg dksX0_runsOf_2 22 rfl rfl
theorem dksX0_runsOf_4 : cX0_runsOf.data.toList.drop 90 = dktX0_runsOf_4 := dk_seg dksX0_runsOf_3 22 rfl rfl
theorem dX0_runsOf_0 : decode cX0_runsOf 0 = .ok (.iconst 0, 1) := dk_3 (dk_at dksX0_runsOf_0 0 rfl rfl)
theorem dX0_runsOf_1 : decode cX0_runsOf 1 = .ok (.istore 4, 2) := dk_54 4 (dk_at dksX0_runsOf_0 1 rfl rfl)
theorem dX0_runsOf_3 : decode cX0_runsOf 3 = .ok (.iconst 0, 1) := dk_3 (dk_at dksX0_runsOf_0 3 rfl rfl)
theorem dX0_runsOf_4 : decode cX0_runsOf 4 = .ok (.istore 5, 2) := dk_54 5 (dk_at dksX0_runsOf_0 4 rfl rfl)
theorem dX0_runsOf_6 : decode cX0_runsOf 6 = .ok (.iload 5, 2) := dk_21 5 (dk_at dksX0_runsOf_0 6 rfl rfl)
theorem dX0_runsOf_8 : decode cX0_runsOf 8 = .ok (.aload_n 0, 1) := dk_42 (dk_at dksX0_runsOf_0 8 rfl rfl)
theorem dX0_runsOf_9 : decode cX0_runsOf 9 = .ok (.getfield 19, 3) := dk_180 0 19 (dk_at dksX0_runsOf_0 9 rfl rfl)
theorem dX0_runsOf_12 : decode cX0_runsOf 12 = .ok (.getfield 208, 3) := dk_180 0 208 (dk_at dksX0_runsOf_0 12 rfl rfl)
theorem dX0_runsOf_15 : decode cX0_runsOf 15 = .ok (.if_icmp .ge 87, 3) := dk_162 0 87 (dk_at dksX0_runsOf_0 15 rfl rfl)
theorem dX0_runsOf_18 : decode cX0_runsOf 18 = .ok (.iload 5, 2) := dk_21 5 (dk_at dksX0_runsOf_0 18 rfl rfl)
theorem dX0_runsOf_20 : decode cX0_runsOf 20 = .ok (.iconst 1, 1) := dk_4 (dk_at dksX0_runsOf_0 20 rfl rfl)
theorem dX0_runsOf_21 : decode cX0_runsOf 21 = .ok (.iadd, 1) := dk_96 (dk_at dksX0_runsOf_0 21 rfl rfl)
theorem dX0_runsOf_22 : decode cX0_runsOf 22 = .ok (.istore 6, 2) := dk_54 6 (dk_at dksX0_runsOf_0 22 rfl rfl)
theorem dX0_runsOf_24 : decode cX0_runsOf 24 = .ok (.iload 6, 2) := dk_21 6 (dk_at dksX0_runsOf_1 0 rfl rfl)
theorem dX0_runsOf_26 : decode cX0_runsOf 26 = .ok (.aload_n 0, 1) := dk_42 (dk_at dksX0_runsOf_1 2 rfl rfl)
theorem dX0_runsOf_27 : decode cX0_runsOf 27 = .ok (.getfield 19, 3) := dk_180 0 19 (dk_at dksX0_runsOf_1 3 rfl rfl)
theorem dX0_runsOf_30 : decode cX0_runsOf 30 = .ok (.getfield 208, 3) := dk_180 0 208 (dk_at dksX0_runsOf_1 6 rfl rfl)
theorem dX0_runsOf_33 : decode cX0_runsOf 33 = .ok (.iload 5, 2) := dk_21 5 (dk_at dksX0_runsOf_1 9 rfl rfl)
theorem dX0_runsOf_35 : decode cX0_runsOf 35 = .ok (.aload_n 0, 1) := dk_42 (dk_at dksX0_runsOf_1 11 rfl rfl)
theorem dX0_runsOf_36 : decode cX0_runsOf 36 = .ok (.getfield 19, 3) := dk_180 0 19 (dk_at dksX0_runsOf_1 12 rfl rfl)
theorem dX0_runsOf_39 : decode cX0_runsOf 39 = .ok (.getfield 95, 3) := dk_180 0 95 (dk_at dksX0_runsOf_1 15 rfl rfl)
theorem dX0_runsOf_42 : decode cX0_runsOf 42 = .ok (.iload_n 1, 1) := dk_27 (dk_at dksX0_runsOf_1 18 rfl rfl)
theorem dX0_runsOf_43 : decode cX0_runsOf 43 = .ok (.invokevirtual 98, 3) := dk_182 0 98 (dk_at dksX0_runsOf_1 19 rfl rfl)
theorem dX0_runsOf_46 : decode cX0_runsOf 46 = .ok (.checkcast 102, 3) := dk_192 0 102 (dk_at dksX0_runsOf_2 0 rfl rfl)
theorem dX0_runsOf_49 : decode cX0_runsOf 49 = .ok (.getfield 104, 3) := dk_180 0 104 (dk_at dksX0_runsOf_2 3 rfl rfl)
theorem dX0_runsOf_52 : decode cX0_runsOf 52 = .ok (.iadd, 1) := dk_96 (dk_at dksX0_runsOf_2 6 rfl rfl)
theorem dX0_runsOf_53 : decode cX0_runsOf 53 = .ok (.invokestatic 1, 3) := dk_184 0 1 (dk_at dksX0_runsOf_2 7 rfl rfl)
theorem dX0_runsOf_56 : decode cX0_runsOf 56 = .ok (.if_icmp .gt 40, 3) := dk_163 0 40 (dk_at dksX0_runsOf_2 10 rfl rfl)
theorem dX0_runsOf_59 : decode cX0_runsOf 59 = .ok (.iload_n 2, 1) := dk_28 (dk_at dksX0_runsOf_2 13 rfl rfl)
theorem dX0_runsOf_60 : decode cX0_runsOf 60 = .ok (.ifCond .lt 14, 3) := dk_155 0 14 (dk_at dksX0_runsOf_2 14 rfl rfl)
theorem dX0_runsOf_63 : decode cX0_runsOf 63 = .ok (.iload_n 2, 1) := dk_28 (dk_at dksX0_runsOf_2 17 rfl rfl)
theorem dX0_runsOf_64 : decode cX0_runsOf 64 = .ok (.iload 5, 2) := dk_21 5 (dk_at dksX0_runsOf_2 18 rfl rfl)
theorem dX0_runsOf_66 : decode cX0_runsOf 66 = .ok (.iload 6, 2) := dk_21 6 (dk_at dksX0_runsOf_2 20 rfl rfl)
theorem dX0_runsOf_68 : decode cX0_runsOf 68 = .ok (.invokestatic 155, 3) := dk_184 0 155 (dk_at dksX0_runsOf_3 0 rfl rfl)
theorem dX0_runsOf_71 : decode cX0_runsOf 71 = .ok (.ifCond .eq 19, 3) := dk_153 0 19 (dk_at dksX0_runsOf_3 3 rfl rfl)
theorem dX0_runsOf_74 : decode cX0_runsOf 74 = .ok (.aload_n 0, 1) := dk_42 (dk_at dksX0_runsOf_3 6 rfl rfl)
theorem dX0_runsOf_75 : decode cX0_runsOf 75 = .ok (.iload_n 1, 1) := dk_27 (dk_at dksX0_runsOf_3 7 rfl rfl)
theorem dX0_runsOf_76 : decode cX0_runsOf 76 = .ok (.iload 5, 2) := dk_21 5 (dk_at dksX0_runsOf_3 8 rfl rfl)
theorem dX0_runsOf_78 : decode cX0_runsOf 78 = .ok (.iload 6, 2) := dk_21 6 (dk_at dksX0_runsOf_3 10 rfl rfl)
theorem dX0_runsOf_80 : decode cX0_runsOf 80 = .ok (.iload_n 3, 1) := dk_29 (dk_at dksX0_runsOf_3 12 rfl rfl)
theorem dX0_runsOf_81 : decode cX0_runsOf 81 = .ok (.invokevirtual 346, 3) := dk_182 1 90 (dk_at dksX0_runsOf_3 13 rfl rfl)
theorem dX0_runsOf_84 : decode cX0_runsOf 84 = .ok (.ifCond .eq 6, 3) := dk_153 0 6 (dk_at dksX0_runsOf_3 16 rfl rfl)
theorem dX0_runsOf_87 : decode cX0_runsOf 87 = .ok (.iinc 4 1, 3) := dk_132 4 1 (dk_at dksX0_runsOf_3 19 rfl rfl)
theorem dX0_runsOf_90 : decode cX0_runsOf 90 = .ok (.iinc 6 1, 3) := dk_132 6 1 (dk_at dksX0_runsOf_4 0 rfl rfl)
theorem dX0_runsOf_93 : decode cX0_runsOf 93 = .ok (.goto (-69), 3) := dk_167 255 187 (dk_at dksX0_runsOf_4 3 rfl rfl)
theorem dX0_runsOf_96 : decode cX0_runsOf 96 = .ok (.iinc 5 1, 3) := dk_132 5 1 (dk_at dksX0_runsOf_4 6 rfl rfl)
theorem dX0_runsOf_99 : decode cX0_runsOf 99 = .ok (.goto (-93), 3) := dk_167 255 163 (dk_at dksX0_runsOf_4 9 rfl rfl)
theorem dX0_runsOf_102 : decode cX0_runsOf 102 = .ok (.iload 4, 2) := dk_21 4 (dk_at dksX0_runsOf_4 12 rfl rfl)
theorem dX0_runsOf_104 : decode cX0_runsOf 104 = .ok (.ireturn, 1) := dk_172 (dk_at dksX0_runsOf_4 14 rfl rfl)
abbrev cX0_doesFit : ByteArray := prog_1_method_71_code
def yX0_doesFit : MethodName := ⟨RX0, "doesFit", "(IIII)Z"⟩
def dkwX0_doesFit_1 : List UInt8 := [192, 1, 78, 27, 28, 29, 21, 4, 182, 1, 87, 154, 0, 5, 3, 172, 132, 5, 1, 167, 255, 216, 4, 172]
abbrev dktX0_doesFit_1 : List UInt8 := dkwX0_doesFit_1 ++ []
def dkwX0_doesFit_0 : List UInt8 := [3, 54, 5, 21, 5, 42, 180, 0, 73, 182, 0, 141, 162, 0, 34, 42, 180, 0, 73, 21, 5, 182, 0, 98]
abbrev dktX0_doesFit_0 : List UInt8 := dkwX0_doesFit_0 ++ dktX0_doesFit_1
theorem dksX0_doesFit_0 : cX0_doesFit.data.toList.drop 0 = dktX0_doesFit_0 := by decide +kernel
theorem dksX0_doesFit_1 : cX0_doesFit.data.toList.drop 24 = dktX0_doesFit_1 := dk_seg dksX0_doesFit_0 24 rfl rfl
theorem dX0_doesFit_0 : decode cX0_doesFit 0 = .ok (.iconst 0, 1) := dk_3 (dk_at dksX0_doesFit_0 0 rfl rfl)
theorem dX0_doesFit_1 : decode cX0_doesFit 1 = .ok (.istore 5, 2) := dk_54 5 (dk_at dksX0_doesFit_0 1 rfl rfl)
theorem dX0_doesFit_3 : decode cX0_doesFit 3 = .ok (.iload 5, 2) := dk_21 5 (dk_at dksX0_doesFit_0 3 rfl rfl)
theorem dX0_doesFit_5 : decode cX0_doesFit 5 = .ok (.aload_n 0, 1) := dk_42 (dk_at dksX0_doesFit_0 5 rfl rfl)
theorem dX0_doesFit_6 : decode cX0_doesFit 6 = .ok (.getfield 73, 3) := dk_180 0 73 (dk_at dksX0_doesFit_0 6 rfl rfl)
theorem dX0_doesFit_9 : decode cX0_doesFit 9 = .ok (.invokevirtual 141, 3) := dk_182 0 141 (dk_at dksX0_doesFit_0 9 rfl rfl)
theorem dX0_doesFit_12 : decode cX0_doesFit 12 = .ok (.if_icmp .ge 34, 3) := dk_162 0 34 (dk_at dksX0_doesFit_0 12 rfl rfl)
theorem dX0_doesFit_15 : decode cX0_doesFit 15 = .ok (.aload_n 0, 1) := dk_42 (dk_at dksX0_doesFit_0 15 rfl rfl)
theorem dX0_doesFit_16 : decode cX0_doesFit 16 = .ok (.getfield 73, 3) := dk_180 0 73 (dk_at dksX0_doesFit_0 16 rfl rfl)
theorem dX0_doesFit_19 : decode cX0_doesFit 19 = .ok (.iload 5, 2) := dk_21 5 (dk_at dksX0_doesFit_0 19 rfl rfl)
theorem dX0_doesFit_21 : decode cX0_doesFit 21 = .ok (.invokevirtual 98, 3) := dk_182 0 98 (dk_at dksX0_doesFit_0 21 rfl rfl)
theorem dX0_doesFit_24 : decode cX0_doesFit 24 = .ok (.checkcast 334, 3) := dk_192 1 78 (dk_at dksX0_doesFit_1 0 rfl rfl)
theorem dX0_doesFit_27 : decode cX0_doesFit 27 = .ok (.iload_n 1, 1) := dk_27 (dk_at dksX0_doesFit_1 3 rfl rfl)
theorem dX0_doesFit_28 : decode cX0_doesFit 28 = .ok (.iload_n 2, 1) := dk_28 (dk_at dksX0_doesFit_1 4 rfl rfl)
theorem dX0_doesFit_29 : decode cX0_doesFit 29 = .ok (.iload_n 3, 1) := dk_29 (dk_at dksX0_doesFit_1 5 rfl rfl)
theorem dX0_doesFit_30 : decode cX0_doesFit 30 = .ok (.iload 4, 2) := dk_21 4 (dk_at dksX0_doesFit_1 6 rfl rfl)
theorem dX0_doesFit_32 : decode cX0_doesFit 32 = .ok (.invokevirtual 343, 3) := dk_182 1 87 (dk_at dksX0_doesFit_1 8 rfl rfl)
theorem dX0_doesFit_35 : decode cX0_doesFit 35 = .ok (.ifCond .ne 5, 3) := dk_154 0 5 (dk_at dksX0_doesFit_1 11 rfl rfl)
theorem dX0_doesFit_38 : decode cX0_doesFit 38 = .ok (.iconst 0, 1) := dk_3 (dk_at dksX0_doesFit_1 14 rfl rfl)
theorem dX0_doesFit_39 : decode cX0_doesFit 39 = .ok (.ireturn, 1) := dk_172 (dk_at dksX0_doesFit_1 15 rfl rfl)
theorem dX0_doesFit_40 : decode cX0_doesFit 40 = .ok (.iinc 5 1, 3) := dk_132 5 1 (dk_at dksX0_doesFit_1 16 rfl rfl)
theorem dX0_doesFit_43 : decode cX0_doesFit 43 = .ok (.goto (-40), 3) := dk_167 255 216 (dk_at dksX0_doesFit_1 19 rfl rfl)
theorem dX0_doesFit_46 : decode cX0_doesFit 46 = .ok (.iconst 1, 1) := dk_4 (dk_at dksX0_doesFit_1 22 rfl rfl)
theorem dX0_doesFit_47 : decode cX0_doesFit 47 = .ok (.ireturn, 1) := dk_172 (dk_at dksX0_doesFit_1 23 rfl rfl)
abbrev cX0_who : ByteArray := prog_1_method_75_code
def yX0_who : MethodName := ⟨RX0, "who", "(I)I"⟩
def dkwX0_who_1 : List UInt8 := [29, 120, 128, 61, 132, 3, 1, 167, 255, 229, 28, 172]
abbrev dktX0_who_1 : List UInt8 := dkwX0_who_1 ++ []
def dkwX0_who_0 : List UInt8 := [3, 61, 3, 62, 29, 42, 182, 0, 91, 162, 0, 25, 42, 29, 2, 27, 182, 1, 93, 158, 0, 9, 28, 4]
abbrev dktX0_who_0 : List UInt8 := dkwX0_who_0 ++ dktX0_who_1
theorem dksX0_who_0 : cX0_who.data.toList.drop 0 = dktX0_who_0 := by decide +kernel
theorem dksX0_who_1 : cX0_who.data.toList.drop 24 = dktX0_who_1 := dk_seg dksX0_who_0 24 rfl rfl
theorem dX0_who_0 : decode cX0_who 0 = .ok (.iconst 0, 1) := dk_3 (dk_at dksX0_who_0 0 rfl rfl)
theorem dX0_who_1 : decode cX0_who 1 = .ok (.istore_n 2, 1) := dk_61 (dk_at dksX0_who_0 1 rfl rfl)
theorem dX0_who_2 : decode cX0_who 2 = .ok (.iconst 0, 1) := dk_3 (dk_at dksX0_who_0 2 rfl rfl)
theorem dX0_who_3 : decode cX0_who 3 = .ok (.istore_n 3, 1) := dk_62 (dk_at dksX0_who_0 3 rfl rfl)
theorem dX0_who_4 : decode cX0_who 4 = .ok (.iload_n 3, 1) := dk_29 (dk_at dksX0_who_0 4 rfl rfl)
theorem dX0_who_5 : decode cX0_who 5 = .ok (.aload_n 0, 1) := dk_42 (dk_at dksX0_who_0 5 rfl rfl)
theorem dX0_who_6 : decode cX0_who 6 = .ok (.invokevirtual 91, 3) := dk_182 0 91 (dk_at dksX0_who_0 6 rfl rfl)
theorem dX0_who_9 : decode cX0_who 9 = .ok (.if_icmp .ge 25, 3) := dk_162 0 25 (dk_at dksX0_who_0 9 rfl rfl)
theorem dX0_who_12 : decode cX0_who 12 = .ok (.aload_n 0, 1) := dk_42 (dk_at dksX0_who_0 12 rfl rfl)
theorem dX0_who_13 : decode cX0_who 13 = .ok (.iload_n 3, 1) := dk_29 (dk_at dksX0_who_0 13 rfl rfl)
theorem dX0_who_14 : decode cX0_who 14 = .ok (.iconst (-1), 1) := dk_2 (dk_at dksX0_who_0 14 rfl rfl)
theorem dX0_who_15 : decode cX0_who 15 = .ok (.iload_n 1, 1) := dk_27 (dk_at dksX0_who_0 15 rfl rfl)
theorem dX0_who_16 : decode cX0_who 16 = .ok (.invokevirtual 349, 3) := dk_182 1 93 (dk_at dksX0_who_0 16 rfl rfl)
theorem dX0_who_19 : decode cX0_who 19 = .ok (.ifCond .le 9, 3) := dk_158 0 9 (dk_at dksX0_who_0 19 rfl rfl)
theorem dX0_who_22 : decode cX0_who 22 = .ok (.iload_n 2, 1) := dk_28 (dk_at dksX0_who_0 22 rfl rfl)
theorem dX0_who_23 : decode cX0_who 23 = .ok (.iconst 1, 1) := dk_4 (dk_at dksX0_who_0 23 rfl rfl)
theorem dX0_who_24 : decode cX0_who 24 = .ok (.iload_n 3, 1) := dk_29 (dk_at dksX0_who_1 0 rfl rfl)
theorem dX0_who_25 : decode cX0_who 25 = .ok (.ishl, 1) := dk_120 (dk_at dksX0_who_1 1 rfl rfl)
theorem dX0_who_26 : decode cX0_who 26 = .ok (.ior, 1) := dk_128 (dk_at dksX0_who_1 2 rfl rfl)
theorem dX0_who_27 : decode cX0_who 27 = .ok (.istore_n 2, 1) := dk_61 (dk_at dksX0_who_1 3 rfl rfl)
theorem dX0_who_28 : decode cX0_who 28 = .ok (.iinc 3 1, 3) := dk_132 3 1 (dk_at dksX0_who_1 4 rfl rfl)
theorem dX0_who_31 : decode cX0_who 31 = .ok (.goto (-27), 3) := dk_167 255 229 (dk_at dksX0_who_1 7 rfl rfl)
theorem dX0_who_34 : decode cX0_who 34 = .ok (.iload_n 2, 1) := dk_28 (dk_at dksX0_who_1 10 rfl rfl)
theorem dX0_who_35 : decode cX0_who 35 = .ok (.ireturn, 1) := dk_172 (dk_at dksX0_who_1 11 rfl rfl)
abbrev cX0_ask : ByteArray := prog_1_method_76_code
def yX0_ask : MethodName := ⟨RX0, "ask", "(II)I"⟩
def dkwX0_ask_4 : List UInt8 := [154, 0, 8, 21, 4, 167, 0, 5, 21, 5, 172]
abbrev dktX0_ask_4 : List UInt8 := dkwX0_ask_4 ++ []
def dkwX0_ask_3 : List UInt8 := [21, 5, 161, 0, 6, 167, 0, 11, 21, 6, 54, 4, 21, 8, 54, 5, 132, 6, 1, 167, 255, 198, 27]
abbrev dktX0_ask_3 : List UInt8 := dkwX0_ask_3 ++ dktX0_ask_4
def dkwX0_ask_2 : List UInt8 := [182, 1, 97, 54, 7, 21, 7, 29, 21, 7, 100, 184, 0, 7, 54, 8, 21, 4, 155, 0, 13, 21, 8]
abbrev dktX0_ask_2 : List UInt8 := dkwX0_ask_2 ++ dktX0_ask_3
def dkwX0_ask_1 : List UInt8 := [3, 54, 5, 3, 54, 6, 21, 6, 42, 180, 0, 19, 180, 0, 208, 163, 0, 52, 42, 21, 6, 28]
abbrev dktX0_ask_1 : List UInt8 := dkwX0_ask_1 ++ dktX0_ask_2
def dkwX0_ask_0 : List UInt8 := [42, 28, 182, 1, 100, 62, 27, 3, 4, 184, 0, 155, 153, 0, 7, 29, 154, 0, 5, 2, 172, 2, 54, 4]
abbrev dktX0_ask_0 : List UInt8 := dkwX0_ask_0 ++ dktX0_ask_1
theorem dksX0_ask_0 : cX0_ask.data.toList.drop 0 = dktX0_ask_0 := by decide +kernel
theorem dksX0_ask_1 : cX0_ask.data.toList.drop 24 = dktX0_ask_1 := dk_seg dksX0_ask_0 24 rfl rfl
theorem dksX0_ask_2 : cX0_ask.data.toList.drop 46 = dktX0_ask_2 := dk_seg dksX0_ask_1 22 rfl rfl
theorem dksX0_ask_3 : cX0_ask.data.toList.drop 69 = dktX0_ask_3 := dk_seg dksX0_ask_2 23 rfl rfl
theorem dksX0_ask_4 : cX0_ask.data.toList.drop 92 = dktX0_ask_4 := dk_seg dksX0_ask_3 23 rfl rfl
theorem dX0_ask_0 : decode cX0_ask 0 = .ok (.aload_n 0, 1) := dk_42 (dk_at dksX0_ask_0 0 rfl rfl)
theorem dX0_ask_1 : decode cX0_ask 1 = .ok (.iload_n 2, 1) := dk_28 (dk_at dksX0_ask_0 1 rfl rfl)
theorem dX0_ask_2 : decode cX0_ask 2 = .ok (.invokevirtual 356, 3) := dk_182 1 100 (dk_at dksX0_ask_0 2 rfl rfl)
theorem dX0_ask_5 : decode cX0_ask 5 = .ok (.istore_n 3, 1) := dk_62 (dk_at dksX0_ask_0 5 rfl rfl)
theorem dX0_ask_6 : decode cX0_ask 6 = .ok (.iload_n 1, 1) := dk_27 (dk_at dksX0_ask_0 6 rfl rfl)
theorem dX0_ask_7 : decode cX0_ask 7 = .ok (.iconst 0, 1) := dk_3 (dk_at dksX0_ask_0 7 rfl rfl)
theorem dX0_ask_8 : decode cX0_ask 8 = .ok (.iconst 1, 1) := dk_4 (dk_at dksX0_ask_0 8 rfl rfl)
theorem dX0_ask_9 : decode cX0_ask 9 = .ok (.invokestatic 155, 3) := dk_184 0 155 (dk_at dksX0_ask_0 9 rfl rfl)
theorem dX0_ask_12 : decode cX0_ask 12 = .ok (.ifCond .eq 7, 3) := dk_153 0 7 (dk_at dksX0_ask_0 12 rfl rfl)
theorem dX0_ask_15 : decode cX0_ask 15 = .ok (.iload_n 3, 1) := dk_29 (dk_at dksX0_ask_0 15 rfl rfl)
theorem dX0_ask_16 : decode cX0_ask 16 = .ok (.ifCond .ne 5, 3) := dk_154 0 5 (dk_at dksX0_ask_0 16 rfl rfl)
theorem dX0_ask_19 : decode cX0_ask 19 = .ok (.iconst (-1), 1) := dk_2 (dk_at dksX0_ask_0 19 rfl rfl)
theorem dX0_ask_20 : decode cX0_ask 20 = .ok (.ireturn, 1) := dk_172 (dk_at dksX0_ask_0 20 rfl rfl)
theorem dX0_ask_21 : decode cX0_ask 21 = .ok (.iconst (-1), 1) := dk_2 (dk_at dksX0_ask_0 21 rfl rfl)
theorem dX0_ask_22 : decode cX0_ask 22 = .ok (.istore 4, 2) := dk_54 4 (dk_at dksX0_ask_0 22 rfl rfl)
theorem dX0_ask_24 : decode cX0_ask 24 = .ok (.iconst 0, 1) := dk_3 (dk_at dksX0_ask_1 0 rfl rfl)
theorem dX0_ask_25 : decode cX0_ask 25 = .ok (.istore 5, 2) := dk_54 5 (dk_at dksX0_ask_1 1 rfl rfl)
theorem dX0_ask_27 : decode cX0_ask 27 = .ok (.iconst 0, 1) := dk_3 (dk_at dksX0_ask_1 3 rfl rfl)
theorem dX0_ask_28 : decode cX0_ask 28 = .ok (.istore 6, 2) := dk_54 6 (dk_at dksX0_ask_1 4 rfl rfl)
theorem dX0_ask_30 : decode cX0_ask 30 = .ok (.iload 6, 2) := dk_21 6 (dk_at dksX0_ask_1 6 rfl rfl)
theorem dX0_ask_32 : decode cX0_ask 32 = .ok (.aload_n 0, 1) := dk_42 (dk_at dksX0_ask_1 8 rfl rfl)
theorem dX0_ask_33 : decode cX0_ask 33 = .ok (.getfield 19, 3) := dk_180 0 19 (dk_at dksX0_ask_1 9 rfl rfl)
theorem dX0_ask_36 : decode cX0_ask 36 = .ok (.getfield 208, 3) := dk_180 0 208 (dk_at dksX0_ask_1 12 rfl rfl)
theorem dX0_ask_39 : decode cX0_ask 39 = .ok (.if_icmp .gt 52, 3) := dk_163 0 52 (dk_at dksX0_ask_1 15 rfl rfl)
theorem dX0_ask_42 : decode cX0_ask 42 = .ok (.aload_n 0, 1) := dk_42 (dk_at dksX0_ask_1 18 rfl rfl)
theorem dX0_ask_43 : decode cX0_ask 43 = .ok (.iload 6, 2) := dk_21 6 (dk_at dksX0_ask_1 19 rfl rfl)
theorem dX0_ask_45 : decode cX0_ask 45 = .ok (.iload_n 2, 1) := dk_28 (dk_at dksX0_ask_1 21 rfl rfl)
theorem dX0_ask_46 : decode cX0_ask 46 = .ok (.invokevirtual 353, 3) := dk_182 1 97 (dk_at dksX0_ask_2 0 rfl rfl)
theorem dX0_ask_49 : decode cX0_ask 49 = .ok (.istore 7, 2) := dk_54 7 (dk_at dksX0_ask_2 3 rfl rfl)
theorem dX0_ask_51 : decode cX0_ask 51 = .ok (.iload 7, 2) := dk_21 7 (dk_at dksX0_ask_2 5 rfl rfl)
theorem dX0_ask_53 : decode cX0_ask 53 = .ok (.iload_n 3, 1) := dk_29 (dk_at dksX0_ask_2 7 rfl rfl)
theorem dX0_ask_54 : decode cX0_ask 54 = .ok (.iload 7, 2) := dk_21 7 (dk_at dksX0_ask_2 8 rfl rfl)
theorem dX0_ask_56 : decode cX0_ask 56 = .ok (.isub, 1) := dk_100 (dk_at dksX0_ask_2 10 rfl rfl)
theorem dX0_ask_57 : decode cX0_ask 57 = .ok (.invokestatic 7, 3) := dk_184 0 7 (dk_at dksX0_ask_2 11 rfl rfl)
theorem dX0_ask_60 : decode cX0_ask 60 = .ok (.istore 8, 2) := dk_54 8 (dk_at dksX0_ask_2 14 rfl rfl)
theorem dX0_ask_62 : decode cX0_ask 62 = .ok (.iload 4, 2) := dk_21 4 (dk_at dksX0_ask_2 16 rfl rfl)
theorem dX0_ask_64 : decode cX0_ask 64 = .ok (.ifCond .lt 13, 3) := dk_155 0 13 (dk_at dksX0_ask_2 18 rfl rfl)
theorem dX0_ask_67 : decode cX0_ask 67 = .ok (.iload 8, 2) := dk_21 8 (dk_at dksX0_ask_2 21 rfl rfl)
theorem dX0_ask_69 : decode cX0_ask 69 = .ok (.iload 5, 2) := dk_21 5 (dk_at dksX0_ask_3 0 rfl rfl)
theorem dX0_ask_71 : decode cX0_ask 71 = .ok (.if_icmp .lt 6, 3) := dk_161 0 6 (dk_at dksX0_ask_3 2 rfl rfl)
theorem dX0_ask_74 : decode cX0_ask 74 = .ok (.goto 11, 3) := dk_167 0 11 (dk_at dksX0_ask_3 5 rfl rfl)
theorem dX0_ask_77 : decode cX0_ask 77 = .ok (.iload 6, 2) := dk_21 6 (dk_at dksX0_ask_3 8 rfl rfl)
theorem dX0_ask_79 : decode cX0_ask 79 = .ok (.istore 4, 2) := dk_54 4 (dk_at dksX0_ask_3 10 rfl rfl)
theorem dX0_ask_81 : decode cX0_ask 81 = .ok (.iload 8, 2) := dk_21 8 (dk_at dksX0_ask_3 12 rfl rfl)
theorem dX0_ask_83 : decode cX0_ask 83 = .ok (.istore 5, 2) := dk_54 5 (dk_at dksX0_ask_3 14 rfl rfl)
theorem dX0_ask_85 : decode cX0_ask 85 = .ok (.iinc 6 1, 3) := dk_132 6 1 (dk_at dksX0_ask_3 16 rfl rfl)
theorem dX0_ask_88 : decode cX0_ask 88 = .ok (.goto (-58), 3) := dk_167 255 198 (dk_at dksX0_ask_3 19 rfl rfl)
theorem dX0_ask_91 : decode cX0_ask 91 = .ok (.iload_n 1, 1) := dk_27 (dk_at dksX0_ask_3 22 rfl rfl)
theorem dX0_ask_92 : decode cX0_ask 92 = .ok (.ifCond .ne 8, 3) := dk_154 0 8 (dk_at dksX0_ask_4 0 rfl rfl)
theorem dX0_ask_95 : decode cX0_ask 95 = .ok (.iload 4, 2) := dk_21 4 (dk_at dksX0_ask_4 3 rfl rfl)
theorem dX0_ask_97 : decode cX0_ask 97 = .ok (.goto 5, 3) := dk_167 0 5 (dk_at dksX0_ask_4 5 rfl rfl)
theorem dX0_ask_100 : decode cX0_ask 100 = .ok (.iload 5, 2) := dk_21 5 (dk_at dksX0_ask_4 8 rfl rfl)
theorem dX0_ask_102 : decode cX0_ask 102 = .ok (.ireturn, 1) := dk_172 (dk_at dksX0_ask_4 10 rfl rfl)
abbrev cX0_image : ByteArray := prog_1_method_77_code
def yX0_image : MethodName := ⟨RX0, "image", "(I)I"⟩
def dkwX0_image_1 : List UInt8 := [181, 0, 135, 42, 180, 0, 28, 180, 0, 120, 172]
abbrev dktX0_image_1 : List UInt8 := dkwX0_image_1 ++ []
def dkwX0_image_0 : List UInt8 := [27, 3, 5, 184, 0, 155, 154, 0, 5, 2, 172, 42, 180, 0, 81, 27, 50, 42, 180, 0, 28, 184, 0, 147]
abbrev dktX0_image_0 : List UInt8 := dkwX0_image_0 ++ dktX0_image_1
theorem dksX0_image_0 : cX0_image.data.toList.drop 0 = dktX0_image_0 := by decide +kernel
theorem dksX0_image_1 : cX0_image.data.toList.drop 24 = dktX0_image_1 := dk_seg dksX0_image_0 24 rfl rfl
theorem dX0_image_0 : decode cX0_image 0 = .ok (.iload_n 1, 1) := dk_27 (dk_at dksX0_image_0 0 rfl rfl)
theorem dX0_image_1 : decode cX0_image 1 = .ok (.iconst 0, 1) := dk_3 (dk_at dksX0_image_0 1 rfl rfl)
theorem dX0_image_2 : decode cX0_image 2 = .ok (.iconst 2, 1) := dk_5 (dk_at dksX0_image_0 2 rfl rfl)
theorem dX0_image_3 : decode cX0_image 3 = .ok (.invokestatic 155, 3) := dk_184 0 155 (dk_at dksX0_image_0 3 rfl rfl)
theorem dX0_image_6 : decode cX0_image 6 = .ok (.ifCond .ne 5, 3) := dk_154 0 5 (dk_at dksX0_image_0 6 rfl rfl)
theorem dX0_image_9 : decode cX0_image 9 = .ok (.iconst (-1), 1) := dk_2 (dk_at dksX0_image_0 9 rfl rfl)
theorem dX0_image_10 : decode cX0_image 10 = .ok (.ireturn, 1) := dk_172 (dk_at dksX0_image_0 10 rfl rfl)
theorem dX0_image_11 : decode cX0_image 11 = .ok (.aload_n 0, 1) := dk_42 (dk_at dksX0_image_0 11 rfl rfl)
theorem dX0_image_12 : decode cX0_image 12 = .ok (.getfield 81, 3) := dk_180 0 81 (dk_at dksX0_image_0 12 rfl rfl)
theorem dX0_image_15 : decode cX0_image 15 = .ok (.iload_n 1, 1) := dk_27 (dk_at dksX0_image_0 15 rfl rfl)
theorem dX0_image_16 : decode cX0_image 16 = .ok (.aaload, 1) := dk_50 (dk_at dksX0_image_0 16 rfl rfl)
theorem dX0_image_17 : decode cX0_image 17 = .ok (.aload_n 0, 1) := dk_42 (dk_at dksX0_image_0 17 rfl rfl)
theorem dX0_image_18 : decode cX0_image 18 = .ok (.getfield 28, 3) := dk_180 0 28 (dk_at dksX0_image_0 18 rfl rfl)
theorem dX0_image_21 : decode cX0_image 21 = .ok (.invokestatic 147, 3) := dk_184 0 147 (dk_at dksX0_image_0 21 rfl rfl)
theorem dX0_image_24 : decode cX0_image 24 = .ok (.putfield 135, 3) := dk_181 0 135 (dk_at dksX0_image_1 0 rfl rfl)
theorem dX0_image_27 : decode cX0_image 27 = .ok (.aload_n 0, 1) := dk_42 (dk_at dksX0_image_1 3 rfl rfl)
theorem dX0_image_28 : decode cX0_image 28 = .ok (.getfield 28, 3) := dk_180 0 28 (dk_at dksX0_image_1 4 rfl rfl)
theorem dX0_image_31 : decode cX0_image 31 = .ok (.getfield 120, 3) := dk_180 0 120 (dk_at dksX0_image_1 7 rfl rfl)
theorem dX0_image_34 : decode cX0_image 34 = .ok (.ireturn, 1) := dk_172 (dk_at dksX0_image_1 10 rfl rfl)
abbrev cX0_back : ByteArray := prog_1_method_78_code
def yX0_back : MethodName := ⟨RX0, "back", "(I)I"⟩
def dkwX0_back_2 : List UInt8 := [180, 0, 57, 182, 0, 129, 42, 180, 0, 28, 180, 0, 120, 172]
abbrev dktX0_back_2 : List UInt8 := dkwX0_back_2 ++ []
def dkwX0_back_1 : List UInt8 := [180, 0, 28, 42, 180, 0, 81, 27, 50, 180, 0, 135, 182, 0, 138, 42, 180, 0, 53, 182, 0, 129, 42]
abbrev dktX0_back_1 : List UInt8 := dkwX0_back_1 ++ dktX0_back_2
def dkwX0_back_0 : List UInt8 := [27, 3, 5, 184, 0, 155, 153, 0, 15, 42, 180, 0, 81, 27, 50, 180, 0, 135, 199, 0, 5, 2, 172, 42]
abbrev dktX0_back_0 : List UInt8 := dkwX0_back_0 ++ dktX0_back_1
theorem dksX0_back_0 : cX0_back.data.toList.drop 0 = dktX0_back_0 := by decide +kernel
theorem dksX0_back_1 : cX0_back.data.toList.drop 24 = dktX0_back_1 := dk_seg dksX0_back_0 24 rfl rfl
theorem dksX0_back_2 : cX0_back.data.toList.drop 47 = dktX0_back_2 := dk_seg dksX0_back_1 23 rfl rfl
theorem dX0_back_0 : decode cX0_back 0 = .ok (.iload_n 1, 1) := dk_27 (dk_at dksX0_back_0 0 rfl rfl)
theorem dX0_back_1 : decode cX0_back 1 = .ok (.iconst 0, 1) := dk_3 (dk_at dksX0_back_0 1 rfl rfl)
theorem dX0_back_2 : decode cX0_back 2 = .ok (.iconst 2, 1) := dk_5 (dk_at dksX0_back_0 2 rfl rfl)
theorem dX0_back_3 : decode cX0_back 3 = .ok (.invokestatic 155, 3) := dk_184 0 155 (dk_at dksX0_back_0 3 rfl rfl)
theorem dX0_back_6 : decode cX0_back 6 = .ok (.ifCond .eq 15, 3) := dk_153 0 15 (dk_at dksX0_back_0 6 rfl rfl)
theorem dX0_back_9 : decode cX0_back 9 = .ok (.aload_n 0, 1) := dk_42 (dk_at dksX0_back_0 9 rfl rfl)
theorem dX0_back_10 : decode cX0_back 10 = .ok (.getfield 81, 3) := dk_180 0 81 (dk_at dksX0_back_0 10 rfl rfl)
theorem dX0_back_13 : decode cX0_back 13 = .ok (.iload_n 1, 1) := dk_27 (dk_at dksX0_back_0 13 rfl rfl)
theorem dX0_back_14 : decode cX0_back 14 = .ok (.aaload, 1) := dk_50 (dk_at dksX0_back_0 14 rfl rfl)
theorem dX0_back_15 : decode cX0_back 15 = .ok (.getfield 135, 3) := dk_180 0 135 (dk_at dksX0_back_0 15 rfl rfl)
theorem dX0_back_18 : decode cX0_back 18 = .ok (.ifnonnull 5, 3) := dk_199 0 5 (dk_at dksX0_back_0 18 rfl rfl)
theorem dX0_back_21 : decode cX0_back 21 = .ok (.iconst (-1), 1) := dk_2 (dk_at dksX0_back_0 21 rfl rfl)
theorem dX0_back_22 : decode cX0_back 22 = .ok (.ireturn, 1) := dk_172 (dk_at dksX0_back_0 22 rfl rfl)
theorem dX0_back_23 : decode cX0_back 23 = .ok (.aload_n 0, 1) := dk_42 (dk_at dksX0_back_0 23 rfl rfl)
theorem dX0_back_24 : decode cX0_back 24 = .ok (.getfield 28, 3) := dk_180 0 28 (dk_at dksX0_back_1 0 rfl rfl)
theorem dX0_back_27 : decode cX0_back 27 = .ok (.aload_n 0, 1) := dk_42 (dk_at dksX0_back_1 3 rfl rfl)
theorem dX0_back_28 : decode cX0_back 28 = .ok (.getfield 81, 3) := dk_180 0 81 (dk_at dksX0_back_1 4 rfl rfl)
theorem dX0_back_31 : decode cX0_back 31 = .ok (.iload_n 1, 1) := dk_27 (dk_at dksX0_back_1 7 rfl rfl)
theorem dX0_back_32 : decode cX0_back 32 = .ok (.aaload, 1) := dk_50 (dk_at dksX0_back_1 8 rfl rfl)
theorem dX0_back_33 : decode cX0_back 33 = .ok (.getfield 135, 3) := dk_180 0 135 (dk_at dksX0_back_1 9 rfl rfl)
theorem dX0_back_36 : decode cX0_back 36 = .ok (.invokevirtual 138, 3) := dk_182 0 138 (dk_at dksX0_back_1 12 rfl rfl)
theorem dX0_back_39 : decode cX0_back 39 = .ok (.aload_n 0, 1) := dk_42 (dk_at dksX0_back_1 15 rfl rfl)
theorem dX0_back_40 : decode cX0_back 40 = .ok (.getfield 53, 3) := dk_180 0 53 (dk_at dksX0_back_1 16 rfl rfl)
theorem dX0_back_43 : decode cX0_back 43 = .ok (.invokevirtual 129, 3) := dk_182 0 129 (dk_at dksX0_back_1 19 rfl rfl)
theorem dX0_back_46 : decode cX0_back 46 = .ok (.aload_n 0, 1) := dk_42 (dk_at dksX0_back_1 22 rfl rfl)
theorem dX0_back_47 : decode cX0_back 47 = .ok (.getfield 57, 3) := dk_180 0 57 (dk_at dksX0_back_2 0 rfl rfl)
theorem dX0_back_50 : decode cX0_back 50 = .ok (.invokevirtual 129, 3) := dk_182 0 129 (dk_at dksX0_back_2 3 rfl rfl)
theorem dX0_back_53 : decode cX0_back 53 = .ok (.aload_n 0, 1) := dk_42 (dk_at dksX0_back_2 6 rfl rfl)
theorem dX0_back_54 : decode cX0_back 54 = .ok (.getfield 28, 3) := dk_180 0 28 (dk_at dksX0_back_2 7 rfl rfl)
theorem dX0_back_57 : decode cX0_back 57 = .ok (.getfield 120, 3) := dk_180 0 120 (dk_at dksX0_back_2 10 rfl rfl)
theorem dX0_back_60 : decode cX0_back 60 = .ok (.ireturn, 1) := dk_172 (dk_at dksX0_back_2 13 rfl rfl)
abbrev cX0_about : ByteArray := prog_1_method_79_code
def yX0_about : MethodName := ⟨RX0, "about", "(I)I"⟩
def dkwX0_about_5 : List UInt8 := [180, 1, 83, 172, 42, 180, 0, 159, 172, 42, 180, 0, 19, 180, 1, 103, 172, 42, 180, 0, 132, 172, 2, 172]
abbrev dktX0_about_5 : List UInt8 := dkwX0_about_5 ++ []
def dkwX0_about_4 : List UInt8 := [180, 0, 53, 182, 0, 141, 172, 42, 180, 0, 57, 182, 0, 141, 172, 42, 180, 0, 73, 182, 0, 141, 172, 42]
abbrev dktX0_about_4 : List UInt8 := dkwX0_about_4 ++ dktX0_about_5
def dkwX0_about_3 : List UInt8 := [180, 0, 28, 180, 0, 113, 172, 42, 180, 0, 28, 180, 0, 120, 172, 42, 180, 0, 28, 180, 0, 126, 172, 42]
abbrev dktX0_about_3 : List UInt8 := dkwX0_about_3 ++ dktX0_about_4
def dkwX0_about_2 : List UInt8 := [42, 182, 0, 91, 172, 42, 180, 0, 19, 180, 0, 208, 172, 42, 180, 0, 28, 180, 0, 119, 172, 42]
abbrev dktX0_about_2 : List UInt8 := dkwX0_about_2 ++ dktX0_about_3
def dkwX0_about_1 : List UInt8 := [170, 0, 0, 0, 0, 0, 159, 0, 0, 0, 0, 0, 0, 0, 12, 0, 0, 0, 67, 0, 0, 0, 72, 0, 0, 0, 80, 0, 0, 0, 88, 0, 0, 0, 96, 0, 0, 0, 104, 0, 0, 0, 112, 0, 0, 0, 120, 0, 0, 0, 128, 0, 0, 0, 136, 0, 0, 0, 141, 0, 0, 0, 146, 0, 0, 0, 154]
abbrev dktX0_about_1 : List UInt8 := dkwX0_about_1 ++ dktX0_about_2
def dkwX0_about_0 : List UInt8 := [27]
abbrev dktX0_about_0 : List UInt8 := dkwX0_about_0 ++ dktX0_about_1
theorem dksX0_about_0 : cX0_about.data.toList.drop 0 = dktX0_about_0 := by decide +kernel
theorem dksX0_about_1 : cX0_about.data.toList.drop 1 = dktX0_about_1 := dk_seg dksX0_about_0 1 rfl rfl
theorem dksX0_about_2 : cX0_about.data.toList.drop 68 = dktX0_about_2 := dk_seg dksX0_about_1 67 rfl rfl
theorem dksX0_about_3 : cX0_about.data.toList.drop 90 = dktX0_about_3 := dk_seg dksX0_about_2 22 rfl rfl
theorem dksX0_about_4 : cX0_about.data.toList.drop 114 = dktX0_about_4 := dk_seg dksX0_about_3 24 rfl rfl
theorem dksX0_about_5 : cX0_about.data.toList.drop 138 = dktX0_about_5 := dk_seg dksX0_about_4 24 rfl rfl
theorem dX0_about_0 : decode cX0_about 0 = .ok (.iload_n 1, 1) := dk_27 (dk_at dksX0_about_0 0 rfl rfl)
theorem dX0_about_1 : decode cX0_about 1 = .ok (.tableswitch 159 0 12 #[67, 72, 80, 88, 96, 104, 112, 120, 128, 136, 141, 146, 154], 67) := by decide +kernel
theorem dX0_about_68 : decode cX0_about 68 = .ok (.aload_n 0, 1) := dk_42 (dk_at dksX0_about_2 0 rfl rfl)
theorem dX0_about_69 : decode cX0_about 69 = .ok (.invokevirtual 91, 3) := dk_182 0 91 (dk_at dksX0_about_2 1 rfl rfl)
theorem dX0_about_72 : decode cX0_about 72 = .ok (.ireturn, 1) := dk_172 (dk_at dksX0_about_2 4 rfl rfl)
theorem dX0_about_73 : decode cX0_about 73 = .ok (.aload_n 0, 1) := dk_42 (dk_at dksX0_about_2 5 rfl rfl)
theorem dX0_about_74 : decode cX0_about 74 = .ok (.getfield 19, 3) := dk_180 0 19 (dk_at dksX0_about_2 6 rfl rfl)
theorem dX0_about_77 : decode cX0_about 77 = .ok (.getfield 208, 3) := dk_180 0 208 (dk_at dksX0_about_2 9 rfl rfl)
theorem dX0_about_80 : decode cX0_about 80 = .ok (.ireturn, 1) := dk_172 (dk_at dksX0_about_2 12 rfl rfl)
theorem dX0_about_81 : decode cX0_about 81 = .ok (.aload_n 0, 1) := dk_42 (dk_at dksX0_about_2 13 rfl rfl)
theorem dX0_about_82 : decode cX0_about 82 = .ok (.getfield 28, 3) := dk_180 0 28 (dk_at dksX0_about_2 14 rfl rfl)
theorem dX0_about_85 : decode cX0_about 85 = .ok (.getfield 119, 3) := dk_180 0 119 (dk_at dksX0_about_2 17 rfl rfl)
theorem dX0_about_88 : decode cX0_about 88 = .ok (.ireturn, 1) := dk_172 (dk_at dksX0_about_2 20 rfl rfl)
theorem dX0_about_89 : decode cX0_about 89 = .ok (.aload_n 0, 1) := dk_42 (dk_at dksX0_about_2 21 rfl rfl)
theorem dX0_about_90 : decode cX0_about 90 = .ok (.getfield 28, 3) := dk_180 0 28 (dk_at dksX0_about_3 0 rfl rfl)
theorem dX0_about_93 : decode cX0_about 93 = .ok (.getfield 113, 3) := dk_180 0 113 (dk_at dksX0_about_3 3 rfl rfl)
theorem dX0_about_96 : decode cX0_about 96 = .ok (.ireturn, 1) := dk_172 (dk_at dksX0_about_3 6 rfl rfl)
theorem dX0_about_97 : decode cX0_about 97 = .ok (.aload_n 0, 1) := dk_42 (dk_at dksX0_about_3 7 rfl rfl)
theorem dX0_about_98 : decode cX0_about 98 = .ok (.getfield 28, 3) := dk_180 0 28 (dk_at dksX0_about_3 8 rfl rfl)
theorem dX0_about_101 : decode cX0_about 101 = .ok (.getfield 120, 3) := dk_180 0 120 (dk_at dksX0_about_3 11 rfl rfl)
theorem dX0_about_104 : decode cX0_about 104 = .ok (.ireturn, 1) := dk_172 (dk_at dksX0_about_3 14 rfl rfl)
theorem dX0_about_105 : decode cX0_about 105 = .ok (.aload_n 0, 1) := dk_42 (dk_at dksX0_about_3 15 rfl rfl)
theorem dX0_about_106 : decode cX0_about 106 = .ok (.getfield 28, 3) := dk_180 0 28 (dk_at dksX0_about_3 16 rfl rfl)
theorem dX0_about_109 : decode cX0_about 109 = .ok (.getfield 126, 3) := dk_180 0 126 (dk_at dksX0_about_3 19 rfl rfl)
theorem dX0_about_112 : decode cX0_about 112 = .ok (.ireturn, 1) := dk_172 (dk_at dksX0_about_3 22 rfl rfl)
theorem dX0_about_113 : decode cX0_about 113 = .ok (.aload_n 0, 1) := dk_42 (dk_at dksX0_about_3 23 rfl rfl)
theorem dX0_about_114 : decode cX0_about 114 = .ok (.getfield 53, 3) := dk_180 0 53 (dk_at dksX0_about_4 0 rfl rfl)
theorem dX0_about_117 : decode cX0_about 117 = .ok (.invokevirtual 141, 3) := dk_182 0 141 (dk_at dksX0_about_4 3 rfl rfl)
theorem dX0_about_120 : decode cX0_about 120 = .ok (.ireturn, 1) := dk_172 (dk_at dksX0_about_4 6 rfl rfl)
theorem dX0_about_121 : decode cX0_about 121 = .ok (.aload_n 0, 1) := dk_42 (dk_at dksX0_about_4 7 rfl rfl)
theorem dX0_about_122 : decode cX0_about 122 = .ok (.getfield 57, 3) := dk_180 0 57 (dk_at dksX0_about_4 8 rfl rfl)
theorem dX0_about_125 : decode cX0_about 125 = .ok (.invokevirtual 141, 3) := dk_182 0 141 (dk_at dksX0_about_4 11 rfl rfl)
theorem dX0_about_128 : decode cX0_about 128 = .ok (.ireturn, 1) := dk_172 (dk_at dksX0_about_4 14 rfl rfl)
theorem dX0_about_129 : decode cX0_about 129 = .ok (.aload_n 0, 1) := dk_42 (dk_at dksX0_about_4 15 rfl rfl)
theorem dX0_about_130 : decode cX0_about 130 = .ok (.getfield 73, 3) := dk_180 0 73 (dk_at dksX0_about_4 16 rfl rfl)
theorem dX0_about_133 : decode cX0_about 133 = .ok (.invokevirtual 141, 3) := dk_182 0 141 (dk_at dksX0_about_4 19 rfl rfl)
theorem dX0_about_136 : decode cX0_about 136 = .ok (.ireturn, 1) := dk_172 (dk_at dksX0_about_4 22 rfl rfl)
theorem dX0_about_137 : decode cX0_about 137 = .ok (.aload_n 0, 1) := dk_42 (dk_at dksX0_about_4 23 rfl rfl)
theorem dX0_about_138 : decode cX0_about 138 = .ok (.getfield 339, 3) := dk_180 1 83 (dk_at dksX0_about_5 0 rfl rfl)
theorem dX0_about_141 : decode cX0_about 141 = .ok (.ireturn, 1) := dk_172 (dk_at dksX0_about_5 3 rfl rfl)
theorem dX0_about_142 : decode cX0_about 142 = .ok (.aload_n 0, 1) := dk_42 (dk_at dksX0_about_5 4 rfl rfl)
theorem dX0_about_143 : decode cX0_about 143 = .ok (.getfield 159, 3) := dk_180 0 159 (dk_at dksX0_about_5 5 rfl rfl)
theorem dX0_about_146 : decode cX0_about 146 = .ok (.ireturn, 1) := dk_172 (dk_at dksX0_about_5 8 rfl rfl)
theorem dX0_about_147 : decode cX0_about 147 = .ok (.aload_n 0, 1) := dk_42 (dk_at dksX0_about_5 9 rfl rfl)
theorem dX0_about_148 : decode cX0_about 148 = .ok (.getfield 19, 3) := dk_180 0 19 (dk_at dksX0_about_5 10 rfl rfl)
theorem dX0_about_151 : decode cX0_about 151 = .ok (.getfield 359, 3) := dk_180 1 103 (dk_at dksX0_about_5 13 rfl rfl)
theorem dX0_about_154 : decode cX0_about 154 = .ok (.ireturn, 1) := dk_172 (dk_at dksX0_about_5 16 rfl rfl)
theorem dX0_about_155 : decode cX0_about 155 = .ok (.aload_n 0, 1) := dk_42 (dk_at dksX0_about_5 17 rfl rfl)
theorem dX0_about_156 : decode cX0_about 156 = .ok (.getfield 132, 3) := dk_180 0 132 (dk_at dksX0_about_5 18 rfl rfl)
theorem dX0_about_159 : decode cX0_about 159 = .ok (.ireturn, 1) := dk_172 (dk_at dksX0_about_5 21 rfl rfl)
theorem dX0_about_160 : decode cX0_about 160 = .ok (.iconst (-1), 1) := dk_2 (dk_at dksX0_about_5 22 rfl rfl)
theorem dX0_about_161 : decode cX0_about 161 = .ok (.ireturn, 1) := dk_172 (dk_at dksX0_about_5 23 rfl rfl)
theorem q118 : (Jvm.Cond.initialized "SoManyStairs") ∈ lw_all := lw_g (lw_at lw_m1 1 rfl) rfl
theorem q151 : (Jvm.Cond.instantiable "SoManyStairs" (20 : Nat)) ∈ lw_all := lw_g (lw_at lw_m1 34 rfl) rfl
theorem q153 : (Jvm.Cond.instanceMethod ({ cls := "SoManyStairs", name := "<init>", desc := "()V" } : Jvm.MethodName)) ∈ lw_all := lw_g (lw_at lw_m1 36 rfl) rfl
theorem q154 : (Jvm.Cond.code ({ cls := "SoManyStairs", name := "<init>", desc := "()V" } : Jvm.MethodName) prog_1_method_4_code (1 : Nat) (Option.none : Option Jvm.ClassFile.FieldType)) ∈ lw_all := lw_g (lw_at lw_m1 37 rfl) rfl
theorem q155 : (Jvm.Cond.methodLink "SoManyStairs" (10 : Nat) ({ cls := "java/lang/Object", name := "<init>", desc := "()V" } : Jvm.MethodName)) ∈ lw_all := lw_g (lw_at lw_m1 38 rfl) rfl
theorem q158 : (Jvm.Cond.classLink "SoManyStairs" (16 : Nat) "SoManyStairs$House") ∈ lw_all := lw_g (lw_at lw_m1 41 rfl) rfl
theorem q160 : (Jvm.Cond.methodLinkNest "SoManyStairs" (18 : Nat) ({ cls := "SoManyStairs$House", name := "<init>", desc := "()V" } : Jvm.MethodName) "SoManyStairs") ∈ lw_tbl := lw_at lw_m1 43 rfl
theorem q195 : (Jvm.Cond.fieldLinkNest "SoManyStairs" (95 : Nat) "SoManyStairs$House" "tenants" "Ljava/util/ArrayList;" "SoManyStairs") ∈ lw_tbl := lw_at lw_m1 78 rfl
theorem q203 : (Jvm.Cond.fieldLinkNest "SoManyStairs" (359 : Nat) "SoManyStairs$House" "units" "I" "SoManyStairs") ∈ lw_tbl := lw_at lw_m1 86 rfl
theorem q208 : (Jvm.Cond.fieldLinkNest "SoManyStairs" (208 : Nat) "SoManyStairs$House" "storeys" "I" "SoManyStairs") ∈ lw_tbl := lw_at lw_m1 91 rfl
theorem q209 : (Jvm.Cond.fieldLinkNest "SoManyStairs" (116 : Nat) "SoManyStairs$House" "lift" "I" "SoManyStairs") ∈ lw_tbl := lw_at lw_m1 92 rfl
theorem q211 : (Jvm.Cond.fieldLinkNest "SoManyStairs" (123 : Nat) "SoManyStairs$House" "draw" "I" "SoManyStairs") ∈ lw_tbl := lw_at lw_m1 94 rfl
theorem q236 : (Jvm.Cond.classLink "SoManyStairs" (25 : Nat) "SoManyStairs$State") ∈ lw_all := lw_g (lw_at lw_m1 119 rfl) rfl
theorem q238 : (Jvm.Cond.methodLinkNest "SoManyStairs" (27 : Nat) ({ cls := "SoManyStairs$State", name := "<init>", desc := "()V" } : Jvm.MethodName) "SoManyStairs") ∈ lw_tbl := lw_at lw_m1 121 rfl
theorem q243 : (Jvm.Cond.fieldLinkNest "SoManyStairs" (88 : Nat) "SoManyStairs$State" "breath" "[I" "SoManyStairs") ∈ lw_tbl := lw_at lw_m1 126 rfl
theorem q245 : (Jvm.Cond.fieldLinkNest "SoManyStairs" (107 : Nat) "SoManyStairs$State" "paid" "[I" "SoManyStairs") ∈ lw_tbl := lw_at lw_m1 128 rfl
theorem q247 : (Jvm.Cond.fieldLinkNest "SoManyStairs" (110 : Nat) "SoManyStairs$State" "debt" "[I" "SoManyStairs") ∈ lw_tbl := lw_at lw_m1 130 rfl
theorem q249 : (Jvm.Cond.fieldLinkNest "SoManyStairs" (113 : Nat) "SoManyStairs$State" "climbed" "I" "SoManyStairs") ∈ lw_tbl := lw_at lw_m1 132 rfl
theorem q252 : (Jvm.Cond.fieldLinkNest "SoManyStairs" (119 : Nat) "SoManyStairs$State" "lift" "I" "SoManyStairs") ∈ lw_tbl := lw_at lw_m1 135 rfl
theorem q255 : (Jvm.Cond.fieldLinkNest "SoManyStairs" (120 : Nat) "SoManyStairs$State" "week" "I" "SoManyStairs") ∈ lw_tbl := lw_at lw_m1 138 rfl
theorem q257 : (Jvm.Cond.fieldLinkNest "SoManyStairs" (126 : Nat) "SoManyStairs$State" "seed" "I" "SoManyStairs") ∈ lw_tbl := lw_at lw_m1 140 rfl
theorem q273 : (Jvm.Cond.classLink "SoManyStairs" (39 : Nat) "SoManyStairs$Wrong") ∈ lw_all := lw_g (lw_at lw_m1 156 rfl) rfl
theorem q310 : (Jvm.Cond.methodLinkNest "SoManyStairs" (41 : Nat) ({ cls := "SoManyStairs$Wrong", name := "<init>", desc := "()V" } : Jvm.MethodName) "SoManyStairs") ∈ lw_tbl := lw_at lw_m1 193 rfl
theorem q318 : (Jvm.Cond.fieldLinkNest "SoManyStairs" (178 : Nat) "SoManyStairs$Wrong" "kind" "I" "SoManyStairs") ∈ lw_tbl := lw_at lw_m1 201 rfl
theorem q320 : (Jvm.Cond.fieldLinkNest "SoManyStairs" (181 : Nat) "SoManyStairs$Wrong" "place" "I" "SoManyStairs") ∈ lw_tbl := lw_at lw_m1 203 rfl
theorem q338 : (Jvm.Cond.classLink "SoManyStairs" (50 : Nat) "java/util/ArrayList") ∈ lw_all := lw_g (lw_at lw_m1 221 rfl) rfl
theorem q339 : (Jvm.Cond.methodLink "SoManyStairs" (52 : Nat) ({ cls := "java/util/ArrayList", name := "<init>", desc := "()V" } : Jvm.MethodName)) ∈ lw_all := lw_g (lw_at lw_m1 222 rfl) rfl
theorem q340 : (Jvm.Cond.classLink "SoManyStairs" (76 : Nat) "SoManyStairs$Kept") ∈ lw_all := lw_g (lw_at lw_m1 223 rfl) rfl
theorem q343 : (Jvm.Cond.methodLink "SoManyStairs" (78 : Nat) ({ cls := "SoManyStairs$Kept", name := "<init>", desc := "(LSoManyStairs$State;)V" } : Jvm.MethodName)) ∈ lw_all := lw_g (lw_at lw_m1 226 rfl) rfl
theorem q348 : (Jvm.Cond.fieldLinkNest "SoManyStairs" (135 : Nat) "SoManyStairs$Kept" "state" "LSoManyStairs$State;" "SoManyStairs") ∈ lw_tbl := lw_at lw_m1 231 rfl
theorem q352 : (Jvm.Cond.methodLink "SoManyStairs" (85 : Nat) ({ cls := "SoManyStairs", name := "start", desc := "()V" } : Jvm.MethodName)) ∈ lw_all := lw_g (lw_at lw_m1 235 rfl) rfl
theorem q353 : (Jvm.Cond.privateMethod ({ cls := "SoManyStairs", name := "start", desc := "()V" } : Jvm.MethodName)) ∈ lw_tbl := lw_at lw_m1 236 rfl
theorem q354 : (Jvm.Cond.instanceMethod ({ cls := "SoManyStairs", name := "start", desc := "()V" } : Jvm.MethodName)) ∈ lw_all := lw_g (lw_at lw_m1 237 rfl) rfl
theorem q355 : (Jvm.Cond.code ({ cls := "SoManyStairs", name := "start", desc := "()V" } : Jvm.MethodName) prog_1_method_5_code (2 : Nat) (Option.none : Option Jvm.ClassFile.FieldType)) ∈ lw_all := lw_g (lw_at lw_m1 238 rfl) rfl
theorem q356 : (Jvm.Cond.methodLink "SoManyStairs" (91 : Nat) ({ cls := "SoManyStairs", name := "many", desc := "()I" } : Jvm.MethodName)) ∈ lw_all := lw_g (lw_at lw_m1 239 rfl) rfl
theorem q357 : (Jvm.Cond.privateMethod ({ cls := "SoManyStairs", name := "many", desc := "()I" } : Jvm.MethodName)) ∈ lw_tbl := lw_at lw_m2 0 rfl
theorem q358 : (Jvm.Cond.instanceMethod ({ cls := "SoManyStairs", name := "many", desc := "()I" } : Jvm.MethodName)) ∈ lw_all := lw_g (lw_at lw_m2 1 rfl) rfl
theorem q359 : (Jvm.Cond.code ({ cls := "SoManyStairs", name := "many", desc := "()I" } : Jvm.MethodName) prog_1_method_9_code (1 : Nat) (Option.some Jvm.ClassFile.FieldType.int)) ∈ lw_all := lw_g (lw_at lw_m2 2 rfl) rfl
theorem q360 : (Jvm.Cond.methodLink "SoManyStairs" (141 : Nat) ({ cls := "java/util/ArrayList", name := "size", desc := "()I" } : Jvm.MethodName)) ∈ lw_all := lw_g (lw_at lw_m2 3 rfl) rfl
theorem q364 : (Jvm.Cond.methodLink "SoManyStairs" (98 : Nat) ({ cls := "java/util/ArrayList", name := "get", desc := "(I)Ljava/lang/Object;" } : Jvm.MethodName)) ∈ lw_all := lw_g (lw_at lw_m2 7 rfl) rfl
theorem q378 : (Jvm.Cond.classLink "SoManyStairs" (102 : Nat) "SoManyStairs$Tenant") ∈ lw_all := lw_g (lw_at lw_m2 21 rfl) rfl
theorem q379 : (Jvm.Cond.methodLink "SoManyStairs" (129 : Nat) ({ cls := "java/util/ArrayList", name := "clear", desc := "()V" } : Jvm.MethodName)) ∈ lw_all := lw_g (lw_at lw_m2 22 rfl) rfl
theorem q384 : (Jvm.Cond.fieldLink "SoManyStairs" (19 : Nat) "SoManyStairs" "house" "LSoManyStairs$House;") ∈ lw_all := lw_g (lw_at lw_m2 27 rfl) rfl
theorem q385 : (Jvm.Cond.fieldLink "SoManyStairs" (28 : Nat) "SoManyStairs" "now" "LSoManyStairs$State;") ∈ lw_all := lw_g (lw_at lw_m2 28 rfl) rfl
theorem q386 : (Jvm.Cond.fieldLink "SoManyStairs" (32 : Nat) "SoManyStairs" "then" "LSoManyStairs$State;") ∈ lw_all := lw_g (lw_at lw_m2 29 rfl) rfl
theorem q387 : (Jvm.Cond.fieldLink "SoManyStairs" (35 : Nat) "SoManyStairs" "tape" "[B") ∈ lw_all := lw_g (lw_at lw_m2 30 rfl) rfl
theorem q388 : (Jvm.Cond.fieldLink "SoManyStairs" (42 : Nat) "SoManyStairs" "fault" "LSoManyStairs$Wrong;") ∈ lw_all := lw_g (lw_at lw_m2 31 rfl) rfl
theorem q389 : (Jvm.Cond.fieldLink "SoManyStairs" (159 : Nat) "SoManyStairs" "taped" "I") ∈ lw_all := lw_g (lw_at lw_m2 32 rfl) rfl
theorem q391 : (Jvm.Cond.fieldLink "SoManyStairs" (339 : Nat) "SoManyStairs" "time" "I") ∈ lw_all := lw_g (lw_at lw_m2 34 rfl) rfl
theorem q392 : (Jvm.Cond.fieldLink "SoManyStairs" (166 : Nat) "SoManyStairs" "faultKind" "I") ∈ lw_all := lw_g (lw_at lw_m2 35 rfl) rfl
theorem q393 : (Jvm.Cond.fieldLink "SoManyStairs" (46 : Nat) "SoManyStairs" "faultPlace" "I") ∈ lw_all := lw_g (lw_at lw_m2 36 rfl) rfl
theorem q394 : (Jvm.Cond.fieldLink "SoManyStairs" (53 : Nat) "SoManyStairs" "acts" "Ljava/util/ArrayList;") ∈ lw_all := lw_g (lw_at lw_m2 37 rfl) rfl
theorem q395 : (Jvm.Cond.fieldLink "SoManyStairs" (57 : Nat) "SoManyStairs" "undone" "Ljava/util/ArrayList;") ∈ lw_all := lw_g (lw_at lw_m2 38 rfl) rfl
theorem q396 : (Jvm.Cond.fieldLink "SoManyStairs" (60 : Nat) "SoManyStairs" "laidRow" "[I") ∈ lw_all := lw_g (lw_at lw_m2 39 rfl) rfl
theorem q397 : (Jvm.Cond.fieldLink "SoManyStairs" (64 : Nat) "SoManyStairs" "trial" "[I") ∈ lw_all := lw_g (lw_at lw_m2 40 rfl) rfl
theorem q398 : (Jvm.Cond.fieldLink "SoManyStairs" (132 : Nat) "SoManyStairs" "laid" "I") ∈ lw_all := lw_g (lw_at lw_m2 41 rfl) rfl
theorem q399 : (Jvm.Cond.fieldLink "SoManyStairs" (239 : Nat) "SoManyStairs" "fewestStoreys" "I") ∈ lw_all := lw_g (lw_at lw_m2 42 rfl) rfl
theorem q400 : (Jvm.Cond.fieldLink "SoManyStairs" (67 : Nat) "SoManyStairs" "cared" "[I") ∈ lw_all := lw_g (lw_at lw_m2 43 rfl) rfl
theorem q401 : (Jvm.Cond.fieldLink "SoManyStairs" (70 : Nat) "SoManyStairs" "countsOn" "[I") ∈ lw_all := lw_g (lw_at lw_m2 44 rfl) rfl
theorem q402 : (Jvm.Cond.fieldLink "SoManyStairs" (302 : Nat) "SoManyStairs" "leastApart" "I") ∈ lw_all := lw_g (lw_at lw_m2 45 rfl) rfl
theorem q403 : (Jvm.Cond.fieldLink "SoManyStairs" (73 : Nat) "SoManyStairs" "marks" "Ljava/util/ArrayList;") ∈ lw_all := lw_g (lw_at lw_m2 46 rfl) rfl
theorem q404 : (Jvm.Cond.fieldLink "SoManyStairs" (81 : Nat) "SoManyStairs" "boxes" "[LSoManyStairs$Kept;") ∈ lw_all := lw_g (lw_at lw_m2 47 rfl) rfl
theorem q405 : (Jvm.Cond.lays "SoManyStairs" "SoManyStairs" "house" "LSoManyStairs$House;") ∈ lw_all := lw_g (lw_at lw_m2 48 rfl) rfl
theorem q406 : (Jvm.Cond.soleField "SoManyStairs" "house") ∈ lw_all := lw_g (lw_at lw_m2 49 rfl) rfl
theorem q407 : (Jvm.Cond.laysFinal "SoManyStairs" "SoManyStairs" "now" "LSoManyStairs$State;") ∈ lw_all := lw_g (lw_at lw_m2 50 rfl) rfl
theorem q408 : (Jvm.Cond.soleField "SoManyStairs" "now") ∈ lw_all := lw_g (lw_at lw_m2 51 rfl) rfl
theorem q409 : (Jvm.Cond.laysFinal "SoManyStairs" "SoManyStairs" "then" "LSoManyStairs$State;") ∈ lw_all := lw_g (lw_at lw_m2 52 rfl) rfl
theorem q410 : (Jvm.Cond.soleField "SoManyStairs" "then") ∈ lw_all := lw_g (lw_at lw_m2 53 rfl) rfl
theorem q411 : (Jvm.Cond.laysFinal "SoManyStairs" "SoManyStairs" "tape" "[B") ∈ lw_all := lw_g (lw_at lw_m2 54 rfl) rfl
theorem q412 : (Jvm.Cond.soleField "SoManyStairs" "tape") ∈ lw_all := lw_g (lw_at lw_m2 55 rfl) rfl
theorem q413 : (Jvm.Cond.laysFinal "SoManyStairs" "SoManyStairs" "fault" "LSoManyStairs$Wrong;") ∈ lw_all := lw_g (lw_at lw_m2 56 rfl) rfl
theorem q414 : (Jvm.Cond.soleField "SoManyStairs" "fault") ∈ lw_all := lw_g (lw_at lw_m2 57 rfl) rfl
theorem q415 : (Jvm.Cond.lays "SoManyStairs" "SoManyStairs" "taped" "I") ∈ lw_all := lw_g (lw_at lw_m2 58 rfl) rfl
theorem q416 : (Jvm.Cond.soleField "SoManyStairs" "taped") ∈ lw_all := lw_g (lw_at lw_m2 59 rfl) rfl
theorem q417 : (Jvm.Cond.lays "SoManyStairs" "SoManyStairs" "time" "I") ∈ lw_all := lw_g (lw_at lw_m2 60 rfl) rfl
theorem q418 : (Jvm.Cond.soleField "SoManyStairs" "time") ∈ lw_all := lw_g (lw_at lw_m2 61 rfl) rfl
theorem q419 : (Jvm.Cond.lays "SoManyStairs" "SoManyStairs" "faultKind" "I") ∈ lw_all := lw_g (lw_at lw_m2 62 rfl) rfl
theorem q420 : (Jvm.Cond.soleField "SoManyStairs" "faultKind") ∈ lw_all := lw_g (lw_at lw_m2 63 rfl) rfl
theorem q421 : (Jvm.Cond.lays "SoManyStairs" "SoManyStairs" "faultPlace" "I") ∈ lw_all := lw_g (lw_at lw_m2 64 rfl) rfl
theorem q422 : (Jvm.Cond.soleField "SoManyStairs" "faultPlace") ∈ lw_all := lw_g (lw_at lw_m2 65 rfl) rfl
theorem q423 : (Jvm.Cond.laysFinal "SoManyStairs" "SoManyStairs" "acts" "Ljava/util/ArrayList;") ∈ lw_all := lw_g (lw_at lw_m2 66 rfl) rfl
theorem q424 : (Jvm.Cond.soleField "SoManyStairs" "acts") ∈ lw_all := lw_g (lw_at lw_m2 67 rfl) rfl
theorem q425 : (Jvm.Cond.laysFinal "SoManyStairs" "SoManyStairs" "undone" "Ljava/util/ArrayList;") ∈ lw_all := lw_g (lw_at lw_m2 68 rfl) rfl
theorem q426 : (Jvm.Cond.soleField "SoManyStairs" "undone") ∈ lw_all := lw_g (lw_at lw_m2 69 rfl) rfl
theorem q427 : (Jvm.Cond.laysFinal "SoManyStairs" "SoManyStairs" "laidRow" "[I") ∈ lw_all := lw_g (lw_at lw_m2 70 rfl) rfl
theorem q428 : (Jvm.Cond.soleField "SoManyStairs" "laidRow") ∈ lw_all := lw_g (lw_at lw_m2 71 rfl) rfl
theorem q429 : (Jvm.Cond.laysFinal "SoManyStairs" "SoManyStairs" "trial" "[I") ∈ lw_all := lw_g (lw_at lw_m2 72 rfl) rfl
theorem q430 : (Jvm.Cond.soleField "SoManyStairs" "trial") ∈ lw_all := lw_g (lw_at lw_m2 73 rfl) rfl
theorem q431 : (Jvm.Cond.lays "SoManyStairs" "SoManyStairs" "laid" "I") ∈ lw_all := lw_g (lw_at lw_m2 74 rfl) rfl
theorem q432 : (Jvm.Cond.soleField "SoManyStairs" "laid") ∈ lw_all := lw_g (lw_at lw_m2 75 rfl) rfl
theorem q433 : (Jvm.Cond.lays "SoManyStairs" "SoManyStairs" "fewestStoreys" "I") ∈ lw_all := lw_g (lw_at lw_m2 76 rfl) rfl
theorem q434 : (Jvm.Cond.soleField "SoManyStairs" "fewestStoreys") ∈ lw_all := lw_g (lw_at lw_m2 77 rfl) rfl
theorem q435 : (Jvm.Cond.laysFinal "SoManyStairs" "SoManyStairs" "cared" "[I") ∈ lw_all := lw_g (lw_at lw_m2 78 rfl) rfl
theorem q436 : (Jvm.Cond.soleField "SoManyStairs" "cared") ∈ lw_all := lw_g (lw_at lw_m2 79 rfl) rfl
theorem q437 : (Jvm.Cond.laysFinal "SoManyStairs" "SoManyStairs" "countsOn" "[I") ∈ lw_all := lw_g (lw_at lw_m2 80 rfl) rfl
theorem q438 : (Jvm.Cond.soleField "SoManyStairs" "countsOn") ∈ lw_all := lw_g (lw_at lw_m2 81 rfl) rfl
theorem q439 : (Jvm.Cond.lays "SoManyStairs" "SoManyStairs" "leastApart" "I") ∈ lw_all := lw_g (lw_at lw_m2 82 rfl) rfl
theorem q440 : (Jvm.Cond.soleField "SoManyStairs" "leastApart") ∈ lw_all := lw_g (lw_at lw_m2 83 rfl) rfl
theorem q441 : (Jvm.Cond.laysFinal "SoManyStairs" "SoManyStairs" "marks" "Ljava/util/ArrayList;") ∈ lw_all := lw_g (lw_at lw_m2 84 rfl) rfl
theorem q442 : (Jvm.Cond.soleField "SoManyStairs" "marks") ∈ lw_all := lw_g (lw_at lw_m2 85 rfl) rfl
theorem q443 : (Jvm.Cond.laysFinal "SoManyStairs" "SoManyStairs" "boxes" "[LSoManyStairs$Kept;") ∈ lw_all := lw_g (lw_at lw_m2 86 rfl) rfl
theorem q444 : (Jvm.Cond.soleField "SoManyStairs" "boxes") ∈ lw_all := lw_g (lw_at lw_m2 87 rfl) rfl
theorem q445 : (Jvm.Cond.superclass "SoManyStairs" "java/lang/Object") ∈ lw_all := lw_g (lw_at lw_m2 88 rfl) rfl
theorem q447 : (Jvm.Cond.instanceMethod ({ cls := "SoManyStairs", name := "feed", desc := "(IIIII)I" } : Jvm.MethodName)) ∈ lw_all := lw_g (lw_at lw_m2 90 rfl) rfl
theorem q448 : (Jvm.Cond.selects "SoManyStairs" ({ cls := "SoManyStairs", name := "feed", desc := "(IIIII)I" } : Jvm.MethodName) ({ cls := "SoManyStairs", name := "feed", desc := "(IIIII)I" } : Jvm.MethodName)) ∈ lw_all := lw_g (lw_at lw_m2 91 rfl) rfl
theorem q449 : (Jvm.Cond.code ({ cls := "SoManyStairs", name := "feed", desc := "(IIIII)I" } : Jvm.MethodName) prog_1_method_11_code (6 : Nat) (Option.some Jvm.ClassFile.FieldType.int)) ∈ lw_all := lw_g (lw_at lw_m2 92 rfl) rfl
theorem q450 : (Jvm.Cond.methodLink "SoManyStairs" (162 : Nat) ({ cls := "SoManyStairs", name := "bytes", desc := "(I)V" } : Jvm.MethodName)) ∈ lw_all := lw_g (lw_at lw_m2 93 rfl) rfl
theorem q451 : (Jvm.Cond.privateMethod ({ cls := "SoManyStairs", name := "bytes", desc := "(I)V" } : Jvm.MethodName)) ∈ lw_tbl := lw_at lw_m2 94 rfl
theorem q452 : (Jvm.Cond.instanceMethod ({ cls := "SoManyStairs", name := "bytes", desc := "(I)V" } : Jvm.MethodName)) ∈ lw_all := lw_g (lw_at lw_m2 95 rfl) rfl
theorem q453 : (Jvm.Cond.code ({ cls := "SoManyStairs", name := "bytes", desc := "(I)V" } : Jvm.MethodName) prog_1_method_12_code (3 : Nat) (Option.none : Option Jvm.ClassFile.FieldType)) ∈ lw_all := lw_g (lw_at lw_m2 96 rfl) rfl
theorem q455 : (Jvm.Cond.instanceMethod ({ cls := "SoManyStairs", name := "end", desc := "(I)I" } : Jvm.MethodName)) ∈ lw_all := lw_g (lw_at lw_m2 98 rfl) rfl
theorem q456 : (Jvm.Cond.selects "SoManyStairs" ({ cls := "SoManyStairs", name := "end", desc := "(I)I" } : Jvm.MethodName) ({ cls := "SoManyStairs", name := "end", desc := "(I)I" } : Jvm.MethodName)) ∈ lw_all := lw_g (lw_at lw_m2 99 rfl) rfl
theorem q457 : (Jvm.Cond.code ({ cls := "SoManyStairs", name := "end", desc := "(I)I" } : Jvm.MethodName) prog_1_method_13_code (2 : Nat) (Option.some Jvm.ClassFile.FieldType.int)) ∈ lw_all := lw_g (lw_at lw_m2 100 rfl) rfl
theorem q459 : (Jvm.Cond.instanceMethod ({ cls := "SoManyStairs", name := "house", desc := "()I" } : Jvm.MethodName)) ∈ lw_all := lw_g (lw_at lw_m2 102 rfl) rfl
theorem q460 : (Jvm.Cond.selects "SoManyStairs" ({ cls := "SoManyStairs", name := "house", desc := "()I" } : Jvm.MethodName) ({ cls := "SoManyStairs", name := "house", desc := "()I" } : Jvm.MethodName)) ∈ lw_all := lw_g (lw_at lw_m2 103 rfl) rfl
theorem q461 : (Jvm.Cond.codeWith ({ cls := "SoManyStairs", name := "house", desc := "()I" } : Jvm.MethodName) prog_1_method_14_code (3 : Nat) (Option.some Jvm.ClassFile.FieldType.int) [((20 : Nat), (43 : Nat), (46 : Nat), (39 : Nat))]) ∈ lw_all := lw_g (lw_at lw_m2 104 rfl) rfl
theorem q462 : (Jvm.Cond.classLink "SoManyStairs" (169 : Nat) "SoManyStairs$Reader") ∈ lw_all := lw_g (lw_at lw_m2 105 rfl) rfl
theorem q464 : (Jvm.Cond.methodLink "SoManyStairs" (171 : Nat) ({ cls := "SoManyStairs$Reader", name := "<init>", desc := "([BILSoManyStairs$Wrong;)V" } : Jvm.MethodName)) ∈ lw_all := lw_g (lw_at lw_m2 107 rfl) rfl
theorem q504 : (Jvm.Cond.methodLink "SoManyStairs" (174 : Nat) ({ cls := "SoManyStairs$Reader", name := "read", desc := "()LSoManyStairs$House;" } : Jvm.MethodName)) ∈ lw_all := lw_g (lw_at lw_m2 147 rfl) rfl
theorem q682 : (Jvm.Cond.fieldLinkNest "SoManyStairs" (192 : Nat) "SoManyStairs$Tenant" "storey" "I" "SoManyStairs") ∈ lw_tbl := lw_at lw_m3 85 rfl
theorem q684 : (Jvm.Cond.fieldLinkNest "SoManyStairs" (104 : Nat) "SoManyStairs$Tenant" "strong" "I" "SoManyStairs") ∈ lw_tbl := lw_at lw_m3 87 rfl
theorem q688 : (Jvm.Cond.fieldLinkNest "SoManyStairs" (195 : Nat) "SoManyStairs$Tenant" "heavy" "I" "SoManyStairs") ∈ lw_tbl := lw_at lw_m3 91 rfl
theorem q691 : (Jvm.Cond.fieldLinkNest "SoManyStairs" (198 : Nat) "SoManyStairs$Tenant" "owes" "I" "SoManyStairs") ∈ lw_tbl := lw_at lw_m3 94 rfl
theorem q693 : (Jvm.Cond.fieldLinkNest "SoManyStairs" (201 : Nat) "SoManyStairs$Tenant" "fails" "I" "SoManyStairs") ∈ lw_tbl := lw_at lw_m3 96 rfl
theorem q753 : (Jvm.Cond.selects "SoManyStairs" ({ cls := "java/lang/Object", name := "getClass", desc := "()Ljava/lang/Class;" } : Jvm.MethodName) ({ cls := "java/lang/Object", name := "getClass", desc := "()Ljava/lang/Class;" } : Jvm.MethodName)) ∈ lw_all := lw_g (lw_at lw_m3 156 rfl) rfl
theorem q875 : (Jvm.Cond.instanceMethod ({ cls := "SoManyStairs", name := "fault", desc := "(I)I" } : Jvm.MethodName)) ∈ lw_all := lw_g (lw_at lw_m4 38 rfl) rfl
theorem q876 : (Jvm.Cond.selects "SoManyStairs" ({ cls := "SoManyStairs", name := "fault", desc := "(I)I" } : Jvm.MethodName) ({ cls := "SoManyStairs", name := "fault", desc := "(I)I" } : Jvm.MethodName)) ∈ lw_all := lw_g (lw_at lw_m4 39 rfl) rfl
theorem q877 : (Jvm.Cond.code ({ cls := "SoManyStairs", name := "fault", desc := "(I)I" } : Jvm.MethodName) prog_1_method_15_code (2 : Nat) (Option.some Jvm.ClassFile.FieldType.int)) ∈ lw_all := lw_g (lw_at lw_m4 40 rfl) rfl
theorem q879 : (Jvm.Cond.instanceMethod ({ cls := "SoManyStairs", name := "tenant", desc := "(II)I" } : Jvm.MethodName)) ∈ lw_all := lw_g (lw_at lw_m4 42 rfl) rfl
theorem q880 : (Jvm.Cond.selects "SoManyStairs" ({ cls := "SoManyStairs", name := "tenant", desc := "(II)I" } : Jvm.MethodName) ({ cls := "SoManyStairs", name := "tenant", desc := "(II)I" } : Jvm.MethodName)) ∈ lw_all := lw_g (lw_at lw_m4 43 rfl) rfl
theorem q881 : (Jvm.Cond.code ({ cls := "SoManyStairs", name := "tenant", desc := "(II)I" } : Jvm.MethodName) prog_1_method_17_code (4 : Nat) (Option.some Jvm.ClassFile.FieldType.int)) ∈ lw_all := lw_g (lw_at lw_m4 44 rfl) rfl
theorem q882 : (Jvm.Cond.methodLink "SoManyStairs" (188 : Nat) ({ cls := "SoManyStairs", name := "isTenant", desc := "(I)Z" } : Jvm.MethodName)) ∈ lw_all := lw_g (lw_at lw_m4 45 rfl) rfl
theorem q883 : (Jvm.Cond.privateMethod ({ cls := "SoManyStairs", name := "isTenant", desc := "(I)Z" } : Jvm.MethodName)) ∈ lw_tbl := lw_at lw_m4 46 rfl
theorem q884 : (Jvm.Cond.instanceMethod ({ cls := "SoManyStairs", name := "isTenant", desc := "(I)Z" } : Jvm.MethodName)) ∈ lw_all := lw_g (lw_at lw_m4 47 rfl) rfl
theorem q885 : (Jvm.Cond.code ({ cls := "SoManyStairs", name := "isTenant", desc := "(I)Z" } : Jvm.MethodName) prog_1_method_10_code (2 : Nat) (Option.some Jvm.ClassFile.FieldType.boolean)) ∈ lw_all := lw_g (lw_at lw_m4 48 rfl) rfl
theorem q886 : (Jvm.Cond.methodLink "SoManyStairs" (155 : Nat) ({ cls := "SoManyStairs", name := "isIn", desc := "(III)Z" } : Jvm.MethodName)) ∈ lw_all := lw_g (lw_at lw_m4 49 rfl) rfl
theorem q887 : (Jvm.Cond.static ({ cls := "SoManyStairs", name := "isIn", desc := "(III)Z" } : Jvm.MethodName)) ∈ lw_all := lw_g (lw_at lw_m4 50 rfl) rfl
theorem q888 : (Jvm.Cond.code ({ cls := "SoManyStairs", name := "isIn", desc := "(III)Z" } : Jvm.MethodName) prog_1_method_1_code (3 : Nat) (Option.some Jvm.ClassFile.FieldType.boolean)) ∈ lw_all := lw_g (lw_at lw_m4 51 rfl) rfl
theorem q889 : (Jvm.Cond.methodLink "SoManyStairs" (204 : Nat) ({ cls := "SoManyStairs", name := "lackOf", desc := "(I)I" } : Jvm.MethodName)) ∈ lw_all := lw_g (lw_at lw_m4 52 rfl) rfl
theorem q890 : (Jvm.Cond.privateMethod ({ cls := "SoManyStairs", name := "lackOf", desc := "(I)I" } : Jvm.MethodName)) ∈ lw_tbl := lw_at lw_m4 53 rfl
theorem q891 : (Jvm.Cond.instanceMethod ({ cls := "SoManyStairs", name := "lackOf", desc := "(I)I" } : Jvm.MethodName)) ∈ lw_all := lw_g (lw_at lw_m4 54 rfl) rfl
theorem q892 : (Jvm.Cond.code ({ cls := "SoManyStairs", name := "lackOf", desc := "(I)I" } : Jvm.MethodName) prog_1_method_16_code (2 : Nat) (Option.some Jvm.ClassFile.FieldType.int)) ∈ lw_all := lw_g (lw_at lw_m4 55 rfl) rfl
theorem q893 : (Jvm.Cond.methodLink "SoManyStairs" (184 : Nat) ({ cls := "SoManyStairs$State", name := "lack", desc := "(LSoManyStairs$House;II)I" } : Jvm.MethodName)) ∈ lw_all := lw_g (lw_at lw_m4 56 rfl) rfl
theorem q901 : (Jvm.Cond.instanceMethod ({ cls := "SoManyStairs", name := "worth", desc := "(IIIII)I" } : Jvm.MethodName)) ∈ lw_all := lw_g (lw_at lw_m4 64 rfl) rfl
theorem q902 : (Jvm.Cond.selects "SoManyStairs" ({ cls := "SoManyStairs", name := "worth", desc := "(IIIII)I" } : Jvm.MethodName) ({ cls := "SoManyStairs", name := "worth", desc := "(IIIII)I" } : Jvm.MethodName)) ∈ lw_all := lw_g (lw_at lw_m4 65 rfl) rfl
theorem q903 : (Jvm.Cond.code ({ cls := "SoManyStairs", name := "worth", desc := "(IIIII)I" } : Jvm.MethodName) prog_1_method_19_code (6 : Nat) (Option.some Jvm.ClassFile.FieldType.int)) ∈ lw_all := lw_g (lw_at lw_m4 66 rfl) rfl
theorem q904 : (Jvm.Cond.methodLink "SoManyStairs" (213 : Nat) ({ cls := "SoManyStairs", name := "canClimb", desc := "(IIII)Z" } : Jvm.MethodName)) ∈ lw_all := lw_g (lw_at lw_m4 67 rfl) rfl
theorem q905 : (Jvm.Cond.privateMethod ({ cls := "SoManyStairs", name := "canClimb", desc := "(IIII)Z" } : Jvm.MethodName)) ∈ lw_tbl := lw_at lw_m4 68 rfl
theorem q906 : (Jvm.Cond.instanceMethod ({ cls := "SoManyStairs", name := "canClimb", desc := "(IIII)Z" } : Jvm.MethodName)) ∈ lw_all := lw_g (lw_at lw_m4 69 rfl) rfl
theorem q907 : (Jvm.Cond.code ({ cls := "SoManyStairs", name := "canClimb", desc := "(IIII)Z" } : Jvm.MethodName) prog_1_method_18_code (5 : Nat) (Option.some Jvm.ClassFile.FieldType.boolean)) ∈ lw_all := lw_g (lw_at lw_m4 70 rfl) rfl
theorem q908 : (Jvm.Cond.methodLink "SoManyStairs" (211 : Nat) ({ cls := "SoManyStairs$House", name := "breath", desc := "(I)I" } : Jvm.MethodName)) ∈ lw_all := lw_g (lw_at lw_m4 71 rfl) rfl
theorem q918 : (Jvm.Cond.methodLink "SoManyStairs" (217 : Nat) ({ cls := "SoManyStairs$House", name := "heavyOf", desc := "(I)I" } : Jvm.MethodName)) ∈ lw_all := lw_g (lw_at lw_m4 81 rfl) rfl
theorem q919 : (Jvm.Cond.methodLink "SoManyStairs" (220 : Nat) ({ cls := "SoManyStairs$House", name := "counts", desc := "(LSoManyStairs$State;IIII)I" } : Jvm.MethodName)) ∈ lw_all := lw_g (lw_at lw_m4 82 rfl) rfl
theorem q949 : (Jvm.Cond.static ({ cls := "SoManyStairs", name := "within", desc := "(II)I" } : Jvm.MethodName)) ∈ lw_all := lw_g (lw_at lw_m4 112 rfl) rfl
theorem q950 : (Jvm.Cond.code ({ cls := "SoManyStairs", name := "within", desc := "(II)I" } : Jvm.MethodName) prog_1_method_2_code (2 : Nat) (Option.some Jvm.ClassFile.FieldType.int)) ∈ lw_all := lw_g (lw_at lw_m4 113 rfl) rfl
theorem q951 : (Jvm.Cond.methodLink "SoManyStairs" (1 : Nat) ({ cls := "java/lang/Math", name := "min", desc := "(II)I" } : Jvm.MethodName)) ∈ lw_all := lw_g (lw_at lw_m4 114 rfl) rfl
theorem q952 : (Jvm.Cond.methodLink "SoManyStairs" (7 : Nat) ({ cls := "java/lang/Math", name := "max", desc := "(II)I" } : Jvm.MethodName)) ∈ lw_all := lw_g (lw_at lw_m4 115 rfl) rfl
theorem q954 : (Jvm.Cond.instanceMethod ({ cls := "SoManyStairs", name := "climb", desc := "(IIII)I" } : Jvm.MethodName)) ∈ lw_all := lw_g (lw_at lw_m4 117 rfl) rfl
theorem q955 : (Jvm.Cond.selects "SoManyStairs" ({ cls := "SoManyStairs", name := "climb", desc := "(IIII)I" } : Jvm.MethodName) ({ cls := "SoManyStairs", name := "climb", desc := "(IIII)I" } : Jvm.MethodName)) ∈ lw_all := lw_g (lw_at lw_m4 118 rfl) rfl
theorem q956 : (Jvm.Cond.code ({ cls := "SoManyStairs", name := "climb", desc := "(IIII)I" } : Jvm.MethodName) prog_1_method_20_code (6 : Nat) (Option.some Jvm.ClassFile.FieldType.int)) ∈ lw_all := lw_g (lw_at lw_m4 119 rfl) rfl
theorem q957 : (Jvm.Cond.methodLink "SoManyStairs" (224 : Nat) ({ cls := "SoManyStairs", name := "keepAct", desc := "()V" } : Jvm.MethodName)) ∈ lw_all := lw_g (lw_at lw_m4 120 rfl) rfl
theorem q958 : (Jvm.Cond.privateMethod ({ cls := "SoManyStairs", name := "keepAct", desc := "()V" } : Jvm.MethodName)) ∈ lw_tbl := lw_at lw_m4 121 rfl
theorem q959 : (Jvm.Cond.instanceMethod ({ cls := "SoManyStairs", name := "keepAct", desc := "()V" } : Jvm.MethodName)) ∈ lw_all := lw_g (lw_at lw_m4 122 rfl) rfl
theorem q960 : (Jvm.Cond.code ({ cls := "SoManyStairs", name := "keepAct", desc := "()V" } : Jvm.MethodName) prog_1_method_7_code (1 : Nat) (Option.none : Option Jvm.ClassFile.FieldType)) ∈ lw_all := lw_g (lw_at lw_m4 123 rfl) rfl
theorem q961 : (Jvm.Cond.methodLink "SoManyStairs" (144 : Nat) ({ cls := "java/util/ArrayList", name := "remove", desc := "(I)Ljava/lang/Object;" } : Jvm.MethodName)) ∈ lw_all := lw_g (lw_at lw_m4 124 rfl) rfl
theorem q970 : (Jvm.Cond.methodLink "SoManyStairs" (147 : Nat) ({ cls := "SoManyStairs", name := "copy", desc := "(LSoManyStairs$State;)LSoManyStairs$State;" } : Jvm.MethodName)) ∈ lw_all := lw_g (lw_at lw_m4 133 rfl) rfl
theorem q971 : (Jvm.Cond.static ({ cls := "SoManyStairs", name := "copy", desc := "(LSoManyStairs$State;)LSoManyStairs$State;" } : Jvm.MethodName)) ∈ lw_all := lw_g (lw_at lw_m4 134 rfl) rfl
theorem q972 : (Jvm.Cond.code ({ cls := "SoManyStairs", name := "copy", desc := "(LSoManyStairs$State;)LSoManyStairs$State;" } : Jvm.MethodName) prog_1_method_6_code (2 : Nat) (Option.some (Jvm.ClassFile.FieldType.object "SoManyStairs$State"))) ∈ lw_all := lw_g (lw_at lw_m4 135 rfl) rfl
theorem q973 : (Jvm.Cond.methodLink "SoManyStairs" (138 : Nat) ({ cls := "SoManyStairs$State", name := "of", desc := "(LSoManyStairs$State;)V" } : Jvm.MethodName)) ∈ lw_all := lw_g (lw_at lw_m4 136 rfl) rfl
theorem q978 : (Jvm.Cond.methodLink "SoManyStairs" (151 : Nat) ({ cls := "java/util/ArrayList", name := "add", desc := "(Ljava/lang/Object;)Z" } : Jvm.MethodName)) ∈ lw_all := lw_g (lw_at lw_m4 141 rfl) rfl
theorem q980 : (Jvm.Cond.instanceMethod ({ cls := "SoManyStairs", name := "give", desc := "(III)I" } : Jvm.MethodName)) ∈ lw_all := lw_g (lw_at lw_m4 143 rfl) rfl
theorem q981 : (Jvm.Cond.selects "SoManyStairs" ({ cls := "SoManyStairs", name := "give", desc := "(III)I" } : Jvm.MethodName) ({ cls := "SoManyStairs", name := "give", desc := "(III)I" } : Jvm.MethodName)) ∈ lw_all := lw_g (lw_at lw_m4 144 rfl) rfl
theorem q982 : (Jvm.Cond.code ({ cls := "SoManyStairs", name := "give", desc := "(III)I" } : Jvm.MethodName) prog_1_method_21_code (4 : Nat) (Option.some Jvm.ClassFile.FieldType.int)) ∈ lw_all := lw_g (lw_at lw_m4 145 rfl) rfl
theorem q984 : (Jvm.Cond.instanceMethod ({ cls := "SoManyStairs", name := "week", desc := "()I" } : Jvm.MethodName)) ∈ lw_all := lw_g (lw_at lw_m4 147 rfl) rfl
theorem q985 : (Jvm.Cond.selects "SoManyStairs" ({ cls := "SoManyStairs", name := "week", desc := "()I" } : Jvm.MethodName) ({ cls := "SoManyStairs", name := "week", desc := "()I" } : Jvm.MethodName)) ∈ lw_all := lw_g (lw_at lw_m4 148 rfl) rfl
theorem q986 : (Jvm.Cond.code ({ cls := "SoManyStairs", name := "week", desc := "()I" } : Jvm.MethodName) prog_1_method_22_code (1 : Nat) (Option.some Jvm.ClassFile.FieldType.int)) ∈ lw_all := lw_g (lw_at lw_m4 149 rfl) rfl
theorem q987 : (Jvm.Cond.methodLink "SoManyStairs" (227 : Nat) ({ cls := "SoManyStairs$State", name := "goOn", desc := "(LSoManyStairs$House;)V" } : Jvm.MethodName)) ∈ lw_all := lw_g (lw_at lw_m4 150 rfl) rfl
theorem q1012 : (Jvm.Cond.instanceMethod ({ cls := "SoManyStairs", name := "undo", desc := "()Z" } : Jvm.MethodName)) ∈ lw_all := lw_g (lw_at lw_m4 175 rfl) rfl
theorem q1013 : (Jvm.Cond.selects "SoManyStairs" ({ cls := "SoManyStairs", name := "undo", desc := "()Z" } : Jvm.MethodName) ({ cls := "SoManyStairs", name := "undo", desc := "()Z" } : Jvm.MethodName)) ∈ lw_all := lw_g (lw_at lw_m4 176 rfl) rfl
theorem q1014 : (Jvm.Cond.code ({ cls := "SoManyStairs", name := "undo", desc := "()Z" } : Jvm.MethodName) prog_1_method_23_code (1 : Nat) (Option.some Jvm.ClassFile.FieldType.boolean)) ∈ lw_all := lw_g (lw_at lw_m4 177 rfl) rfl
theorem q1015 : (Jvm.Cond.methodLink "SoManyStairs" (231 : Nat) ({ cls := "java/util/ArrayList", name := "isEmpty", desc := "()Z" } : Jvm.MethodName)) ∈ lw_all := lw_g (lw_at lw_m4 178 rfl) rfl
theorem q1019 : (Jvm.Cond.methodLink "SoManyStairs" (235 : Nat) ({ cls := "SoManyStairs", name := "turned", desc := "(LSoManyStairs$Kept;)LSoManyStairs$Kept;" } : Jvm.MethodName)) ∈ lw_all := lw_g (lw_at lw_m4 182 rfl) rfl
theorem q1020 : (Jvm.Cond.privateMethod ({ cls := "SoManyStairs", name := "turned", desc := "(LSoManyStairs$Kept;)LSoManyStairs$Kept;" } : Jvm.MethodName)) ∈ lw_tbl := lw_at lw_m4 183 rfl
theorem q1021 : (Jvm.Cond.instanceMethod ({ cls := "SoManyStairs", name := "turned", desc := "(LSoManyStairs$Kept;)LSoManyStairs$Kept;" } : Jvm.MethodName)) ∈ lw_all := lw_g (lw_at lw_m4 184 rfl) rfl
theorem q1022 : (Jvm.Cond.code ({ cls := "SoManyStairs", name := "turned", desc := "(LSoManyStairs$Kept;)LSoManyStairs$Kept;" } : Jvm.MethodName) prog_1_method_8_code (3 : Nat) (Option.some (Jvm.ClassFile.FieldType.object "SoManyStairs$Kept"))) ∈ lw_all := lw_g (lw_at lw_m4 185 rfl) rfl
theorem q1024 : (Jvm.Cond.instanceMethod ({ cls := "SoManyStairs", name := "redo", desc := "()Z" } : Jvm.MethodName)) ∈ lw_all := lw_g (lw_at lw_m4 187 rfl) rfl
theorem q1025 : (Jvm.Cond.selects "SoManyStairs" ({ cls := "SoManyStairs", name := "redo", desc := "()Z" } : Jvm.MethodName) ({ cls := "SoManyStairs", name := "redo", desc := "()Z" } : Jvm.MethodName)) ∈ lw_all := lw_g (lw_at lw_m4 188 rfl) rfl
theorem q1026 : (Jvm.Cond.code ({ cls := "SoManyStairs", name := "redo", desc := "()Z" } : Jvm.MethodName) prog_1_method_24_code (1 : Nat) (Option.some Jvm.ClassFile.FieldType.boolean)) ∈ lw_all := lw_g (lw_at lw_m4 189 rfl) rfl
theorem q1028 : (Jvm.Cond.instanceMethod ({ cls := "SoManyStairs", name := "lies", desc := "(I)I" } : Jvm.MethodName)) ∈ lw_all := lw_g (lw_at lw_m4 191 rfl) rfl
theorem q1029 : (Jvm.Cond.selects "SoManyStairs" ({ cls := "SoManyStairs", name := "lies", desc := "(I)I" } : Jvm.MethodName) ({ cls := "SoManyStairs", name := "lies", desc := "(I)I" } : Jvm.MethodName)) ∈ lw_all := lw_g (lw_at lw_m4 192 rfl) rfl
theorem q1030 : (Jvm.Cond.code ({ cls := "SoManyStairs", name := "lies", desc := "(I)I" } : Jvm.MethodName) prog_1_method_25_code (2 : Nat) (Option.some Jvm.ClassFile.FieldType.int)) ∈ lw_all := lw_g (lw_at lw_m4 193 rfl) rfl
theorem q1032 : (Jvm.Cond.instanceMethod ({ cls := "SoManyStairs", name := "fewest", desc := "(I)I" } : Jvm.MethodName)) ∈ lw_all := lw_g (lw_at lw_m4 195 rfl) rfl
theorem q1033 : (Jvm.Cond.selects "SoManyStairs" ({ cls := "SoManyStairs", name := "fewest", desc := "(I)I" } : Jvm.MethodName) ({ cls := "SoManyStairs", name := "fewest", desc := "(I)I" } : Jvm.MethodName)) ∈ lw_all := lw_g (lw_at lw_m4 196 rfl) rfl
theorem q1034 : (Jvm.Cond.code ({ cls := "SoManyStairs", name := "fewest", desc := "(I)I" } : Jvm.MethodName) prog_1_method_27_code (3 : Nat) (Option.some Jvm.ClassFile.FieldType.int)) ∈ lw_all := lw_g (lw_at lw_m4 197 rfl) rfl
theorem q1035 : (Jvm.Cond.methodLink "SoManyStairs" (248 : Nat) ({ cls := "SoManyStairs", name := "goClimb", desc := "(IIIIII)V" } : Jvm.MethodName)) ∈ lw_all := lw_g (lw_at lw_m4 198 rfl) rfl
theorem q1036 : (Jvm.Cond.privateMethod ({ cls := "SoManyStairs", name := "goClimb", desc := "(IIIIII)V" } : Jvm.MethodName)) ∈ lw_tbl := lw_at lw_m4 199 rfl
theorem q1037 : (Jvm.Cond.instanceMethod ({ cls := "SoManyStairs", name := "goClimb", desc := "(IIIIII)V" } : Jvm.MethodName)) ∈ lw_all := lw_g (lw_at lw_m4 200 rfl) rfl
theorem q1038 : (Jvm.Cond.code ({ cls := "SoManyStairs", name := "goClimb", desc := "(IIIIII)V" } : Jvm.MethodName) prog_1_method_26_code (8 : Nat) (Option.none : Option Jvm.ClassFile.FieldType)) ∈ lw_all := lw_g (lw_at lw_m4 201 rfl) rfl
theorem q1039 : (Jvm.Cond.methodLink "SoManyStairs" (242 : Nat) ({ cls := "java/lang/System", name := "arraycopy", desc := "(Ljava/lang/Object;ILjava/lang/Object;II)V" } : Jvm.MethodName)) ∈ lw_all := lw_g (lw_at lw_m4 202 rfl) rfl
theorem q1041 : (Jvm.Cond.instanceMethod ({ cls := "SoManyStairs", name := "stride", desc := "(II)I" } : Jvm.MethodName)) ∈ lw_all := lw_g (lw_at lw_m4 204 rfl) rfl
theorem q1042 : (Jvm.Cond.selects "SoManyStairs" ({ cls := "SoManyStairs", name := "stride", desc := "(II)I" } : Jvm.MethodName) ({ cls := "SoManyStairs", name := "stride", desc := "(II)I" } : Jvm.MethodName)) ∈ lw_all := lw_g (lw_at lw_m4 205 rfl) rfl
theorem q1043 : (Jvm.Cond.code ({ cls := "SoManyStairs", name := "stride", desc := "(II)I" } : Jvm.MethodName) prog_1_method_28_code (7 : Nat) (Option.some Jvm.ClassFile.FieldType.int)) ∈ lw_all := lw_g (lw_at lw_m4 206 rfl) rfl
theorem q1045 : (Jvm.Cond.instanceMethod ({ cls := "SoManyStairs", name := "carries", desc := "(II)I" } : Jvm.MethodName)) ∈ lw_all := lw_g (lw_at lw_m4 208 rfl) rfl
theorem q1046 : (Jvm.Cond.selects "SoManyStairs" ({ cls := "SoManyStairs", name := "carries", desc := "(II)I" } : Jvm.MethodName) ({ cls := "SoManyStairs", name := "carries", desc := "(II)I" } : Jvm.MethodName)) ∈ lw_all := lw_g (lw_at lw_m4 209 rfl) rfl
theorem q1047 : (Jvm.Cond.code ({ cls := "SoManyStairs", name := "carries", desc := "(II)I" } : Jvm.MethodName) prog_1_method_29_code (3 : Nat) (Option.some Jvm.ClassFile.FieldType.int)) ∈ lw_all := lw_g (lw_at lw_m4 210 rfl) rfl
theorem q1049 : (Jvm.Cond.instanceMethod ({ cls := "SoManyStairs", name := "care", desc := "()I" } : Jvm.MethodName)) ∈ lw_all := lw_g (lw_at lw_m4 212 rfl) rfl
theorem q1050 : (Jvm.Cond.selects "SoManyStairs" ({ cls := "SoManyStairs", name := "care", desc := "()I" } : Jvm.MethodName) ({ cls := "SoManyStairs", name := "care", desc := "()I" } : Jvm.MethodName)) ∈ lw_all := lw_g (lw_at lw_m4 213 rfl) rfl
theorem q1051 : (Jvm.Cond.code ({ cls := "SoManyStairs", name := "care", desc := "()I" } : Jvm.MethodName) prog_1_method_32_code (6 : Nat) (Option.some Jvm.ClassFile.FieldType.int)) ∈ lw_all := lw_g (lw_at lw_m4 214 rfl) rfl
theorem q1052 : (Jvm.Cond.methodLink "SoManyStairs" (255 : Nat) ({ cls := "SoManyStairs", name := "caredFrom", desc := "(II)I" } : Jvm.MethodName)) ∈ lw_all := lw_g (lw_at lw_m4 215 rfl) rfl
theorem q1053 : (Jvm.Cond.privateMethod ({ cls := "SoManyStairs", name := "caredFrom", desc := "(II)I" } : Jvm.MethodName)) ∈ lw_tbl := lw_at lw_m4 216 rfl
theorem q1054 : (Jvm.Cond.instanceMethod ({ cls := "SoManyStairs", name := "caredFrom", desc := "(II)I" } : Jvm.MethodName)) ∈ lw_all := lw_g (lw_at lw_m4 217 rfl) rfl
theorem q1055 : (Jvm.Cond.code ({ cls := "SoManyStairs", name := "caredFrom", desc := "(II)I" } : Jvm.MethodName) prog_1_method_31_code (3 : Nat) (Option.some Jvm.ClassFile.FieldType.int)) ∈ lw_all := lw_g (lw_at lw_m4 218 rfl) rfl
theorem q1056 : (Jvm.Cond.methodLink "SoManyStairs" (258 : Nat) ({ cls := "SoManyStairs", name := "has", desc := "(II)Z" } : Jvm.MethodName)) ∈ lw_all := lw_g (lw_at lw_m4 219 rfl) rfl
theorem q1057 : (Jvm.Cond.static ({ cls := "SoManyStairs", name := "has", desc := "(II)Z" } : Jvm.MethodName)) ∈ lw_all := lw_g (lw_at lw_m4 220 rfl) rfl
theorem q1058 : (Jvm.Cond.code ({ cls := "SoManyStairs", name := "has", desc := "(II)Z" } : Jvm.MethodName) prog_1_method_3_code (2 : Nat) (Option.some Jvm.ClassFile.FieldType.boolean)) ∈ lw_all := lw_g (lw_at lw_m4 221 rfl) rfl
theorem q1059 : (Jvm.Cond.methodLink "SoManyStairs" (262 : Nat) ({ cls := "SoManyStairs", name := "canCare", desc := "(II)Z" } : Jvm.MethodName)) ∈ lw_all := lw_g (lw_at lw_m4 222 rfl) rfl
theorem q1060 : (Jvm.Cond.privateMethod ({ cls := "SoManyStairs", name := "canCare", desc := "(II)Z" } : Jvm.MethodName)) ∈ lw_tbl := lw_at lw_m4 223 rfl
theorem q1061 : (Jvm.Cond.instanceMethod ({ cls := "SoManyStairs", name := "canCare", desc := "(II)Z" } : Jvm.MethodName)) ∈ lw_all := lw_g (lw_at lw_m4 224 rfl) rfl
theorem q1062 : (Jvm.Cond.code ({ cls := "SoManyStairs", name := "canCare", desc := "(II)Z" } : Jvm.MethodName) prog_1_method_30_code (3 : Nat) (Option.some Jvm.ClassFile.FieldType.boolean)) ∈ lw_all := lw_g (lw_at lw_m4 225 rfl) rfl
theorem q1063 : (Jvm.Cond.methodLink "SoManyStairs" (252 : Nat) ({ cls := "SoManyStairs", name := "carries", desc := "(II)I" } : Jvm.MethodName)) ∈ lw_all := lw_g (lw_at lw_m4 226 rfl) rfl
theorem q1065 : (Jvm.Cond.instanceMethod ({ cls := "SoManyStairs", name := "proxy", desc := "()I" } : Jvm.MethodName)) ∈ lw_all := lw_g (lw_at lw_m4 228 rfl) rfl
theorem q1066 : (Jvm.Cond.selects "SoManyStairs" ({ cls := "SoManyStairs", name := "proxy", desc := "()I" } : Jvm.MethodName) ({ cls := "SoManyStairs", name := "proxy", desc := "()I" } : Jvm.MethodName)) ∈ lw_all := lw_g (lw_at lw_m4 229 rfl) rfl
theorem q1067 : (Jvm.Cond.code ({ cls := "SoManyStairs", name := "proxy", desc := "()I" } : Jvm.MethodName) prog_1_method_36_code (5 : Nat) (Option.some Jvm.ClassFile.FieldType.int)) ∈ lw_all := lw_g (lw_at lw_m4 230 rfl) rfl
theorem q1068 : (Jvm.Cond.methodLink "SoManyStairs" (271 : Nat) ({ cls := "SoManyStairs", name := "layProxy", desc := "()I" } : Jvm.MethodName)) ∈ lw_all := lw_g (lw_at lw_m4 231 rfl) rfl
theorem q1069 : (Jvm.Cond.privateMethod ({ cls := "SoManyStairs", name := "layProxy", desc := "()I" } : Jvm.MethodName)) ∈ lw_tbl := lw_at lw_m4 232 rfl
theorem q1070 : (Jvm.Cond.instanceMethod ({ cls := "SoManyStairs", name := "layProxy", desc := "()I" } : Jvm.MethodName)) ∈ lw_all := lw_g (lw_at lw_m4 233 rfl) rfl
theorem q1071 : (Jvm.Cond.code ({ cls := "SoManyStairs", name := "layProxy", desc := "()I" } : Jvm.MethodName) prog_1_method_35_code (7 : Nat) (Option.some Jvm.ClassFile.FieldType.int)) ∈ lw_all := lw_g (lw_at lw_m4 234 rfl) rfl
theorem q1072 : (Jvm.Cond.methodLink "SoManyStairs" (268 : Nat) ({ cls := "SoManyStairs", name := "climbsFor", desc := "(II)I" } : Jvm.MethodName)) ∈ lw_all := lw_g (lw_at lw_m4 235 rfl) rfl
theorem q1073 : (Jvm.Cond.privateMethod ({ cls := "SoManyStairs", name := "climbsFor", desc := "(II)I" } : Jvm.MethodName)) ∈ lw_tbl := lw_at lw_m4 236 rfl
theorem q1074 : (Jvm.Cond.instanceMethod ({ cls := "SoManyStairs", name := "climbsFor", desc := "(II)I" } : Jvm.MethodName)) ∈ lw_all := lw_g (lw_at lw_m4 237 rfl) rfl
theorem q1075 : (Jvm.Cond.code ({ cls := "SoManyStairs", name := "climbsFor", desc := "(II)I" } : Jvm.MethodName) prog_1_method_34_code (4 : Nat) (Option.some Jvm.ClassFile.FieldType.int)) ∈ lw_all := lw_g (lw_at lw_m4 238 rfl) rfl
theorem q1076 : (Jvm.Cond.methodLink "SoManyStairs" (265 : Nat) ({ cls := "SoManyStairs", name := "enough", desc := "(I)I" } : Jvm.MethodName)) ∈ lw_all := lw_g (lw_at lw_m4 239 rfl) rfl
theorem q1077 : (Jvm.Cond.privateMethod ({ cls := "SoManyStairs", name := "enough", desc := "(I)I" } : Jvm.MethodName)) ∈ lw_tbl := lw_at lw_m5 0 rfl
theorem q1078 : (Jvm.Cond.instanceMethod ({ cls := "SoManyStairs", name := "enough", desc := "(I)I" } : Jvm.MethodName)) ∈ lw_all := lw_g (lw_at lw_m5 1 rfl) rfl
theorem q1079 : (Jvm.Cond.code ({ cls := "SoManyStairs", name := "enough", desc := "(I)I" } : Jvm.MethodName) prog_1_method_33_code (3 : Nat) (Option.some Jvm.ClassFile.FieldType.int)) ∈ lw_all := lw_g (lw_at lw_m5 2 rfl) rfl
theorem q1081 : (Jvm.Cond.instanceMethod ({ cls := "SoManyStairs", name := "toil", desc := "()I" } : Jvm.MethodName)) ∈ lw_all := lw_g (lw_at lw_m5 4 rfl) rfl
theorem q1082 : (Jvm.Cond.selects "SoManyStairs" ({ cls := "SoManyStairs", name := "toil", desc := "()I" } : Jvm.MethodName) ({ cls := "SoManyStairs", name := "toil", desc := "()I" } : Jvm.MethodName)) ∈ lw_all := lw_g (lw_at lw_m5 5 rfl) rfl
theorem q1083 : (Jvm.Cond.code ({ cls := "SoManyStairs", name := "toil", desc := "()I" } : Jvm.MethodName) prog_1_method_37_code (2 : Nat) (Option.some Jvm.ClassFile.FieldType.int)) ∈ lw_all := lw_g (lw_at lw_m5 6 rfl) rfl
theorem q1085 : (Jvm.Cond.instanceMethod ({ cls := "SoManyStairs", name := "settle", desc := "(II)I" } : Jvm.MethodName)) ∈ lw_all := lw_g (lw_at lw_m5 8 rfl) rfl
theorem q1086 : (Jvm.Cond.selects "SoManyStairs" ({ cls := "SoManyStairs", name := "settle", desc := "(II)I" } : Jvm.MethodName) ({ cls := "SoManyStairs", name := "settle", desc := "(II)I" } : Jvm.MethodName)) ∈ lw_all := lw_g (lw_at lw_m5 9 rfl) rfl
theorem q1087 : (Jvm.Cond.code ({ cls := "SoManyStairs", name := "settle", desc := "(II)I" } : Jvm.MethodName) prog_1_method_38_code (4 : Nat) (Option.some Jvm.ClassFile.FieldType.int)) ∈ lw_all := lw_g (lw_at lw_m5 10 rfl) rfl
theorem q1089 : (Jvm.Cond.instanceMethod ({ cls := "SoManyStairs", name := "hover", desc := "(I)I" } : Jvm.MethodName)) ∈ lw_all := lw_g (lw_at lw_m5 12 rfl) rfl
theorem q1090 : (Jvm.Cond.selects "SoManyStairs" ({ cls := "SoManyStairs", name := "hover", desc := "(I)I" } : Jvm.MethodName) ({ cls := "SoManyStairs", name := "hover", desc := "(I)I" } : Jvm.MethodName)) ∈ lw_all := lw_g (lw_at lw_m5 13 rfl) rfl
theorem q1091 : (Jvm.Cond.code ({ cls := "SoManyStairs", name := "hover", desc := "(I)I" } : Jvm.MethodName) prog_1_method_39_code (3 : Nat) (Option.some Jvm.ClassFile.FieldType.int)) ∈ lw_all := lw_g (lw_at lw_m5 14 rfl) rfl
theorem q1093 : (Jvm.Cond.instanceMethod ({ cls := "SoManyStairs", name := "ruin", desc := "(I)I" } : Jvm.MethodName)) ∈ lw_all := lw_g (lw_at lw_m5 16 rfl) rfl
theorem q1094 : (Jvm.Cond.selects "SoManyStairs" ({ cls := "SoManyStairs", name := "ruin", desc := "(I)I" } : Jvm.MethodName) ({ cls := "SoManyStairs", name := "ruin", desc := "(I)I" } : Jvm.MethodName)) ∈ lw_all := lw_g (lw_at lw_m5 17 rfl) rfl
theorem q1095 : (Jvm.Cond.code ({ cls := "SoManyStairs", name := "ruin", desc := "(I)I" } : Jvm.MethodName) prog_1_method_40_code (4 : Nat) (Option.some Jvm.ClassFile.FieldType.int)) ∈ lw_all := lw_g (lw_at lw_m5 18 rfl) rfl
theorem q1097 : (Jvm.Cond.instanceMethod ({ cls := "SoManyStairs", name := "team", desc := "(II)I" } : Jvm.MethodName)) ∈ lw_all := lw_g (lw_at lw_m5 20 rfl) rfl
theorem q1098 : (Jvm.Cond.selects "SoManyStairs" ({ cls := "SoManyStairs", name := "team", desc := "(II)I" } : Jvm.MethodName) ({ cls := "SoManyStairs", name := "team", desc := "(II)I" } : Jvm.MethodName)) ∈ lw_all := lw_g (lw_at lw_m5 21 rfl) rfl
theorem q1099 : (Jvm.Cond.code ({ cls := "SoManyStairs", name := "team", desc := "(II)I" } : Jvm.MethodName) prog_1_method_41_code (7 : Nat) (Option.some Jvm.ClassFile.FieldType.int)) ∈ lw_all := lw_g (lw_at lw_m5 22 rfl) rfl
theorem q1100 : (Jvm.Cond.methodLink "SoManyStairs" (274 : Nat) ({ cls := "java/lang/Integer", name := "bitCount", desc := "(I)I" } : Jvm.MethodName)) ∈ lw_all := lw_g (lw_at lw_m5 23 rfl) rfl
theorem q1107 : (Jvm.Cond.instanceMethod ({ cls := "SoManyStairs", name := "ladder", desc := "(I)I" } : Jvm.MethodName)) ∈ lw_all := lw_g (lw_at lw_m5 30 rfl) rfl
theorem q1108 : (Jvm.Cond.selects "SoManyStairs" ({ cls := "SoManyStairs", name := "ladder", desc := "(I)I" } : Jvm.MethodName) ({ cls := "SoManyStairs", name := "ladder", desc := "(I)I" } : Jvm.MethodName)) ∈ lw_all := lw_g (lw_at lw_m5 31 rfl) rfl
theorem q1109 : (Jvm.Cond.code ({ cls := "SoManyStairs", name := "ladder", desc := "(I)I" } : Jvm.MethodName) prog_1_method_42_code (5 : Nat) (Option.some Jvm.ClassFile.FieldType.int)) ∈ lw_all := lw_g (lw_at lw_m5 32 rfl) rfl
theorem q1111 : (Jvm.Cond.instanceMethod ({ cls := "SoManyStairs", name := "gifts", desc := "(I)I" } : Jvm.MethodName)) ∈ lw_all := lw_g (lw_at lw_m5 34 rfl) rfl
theorem q1112 : (Jvm.Cond.selects "SoManyStairs" ({ cls := "SoManyStairs", name := "gifts", desc := "(I)I" } : Jvm.MethodName) ({ cls := "SoManyStairs", name := "gifts", desc := "(I)I" } : Jvm.MethodName)) ∈ lw_all := lw_g (lw_at lw_m5 35 rfl) rfl
theorem q1113 : (Jvm.Cond.code ({ cls := "SoManyStairs", name := "gifts", desc := "(I)I" } : Jvm.MethodName) prog_1_method_45_code (7 : Nat) (Option.some Jvm.ClassFile.FieldType.int)) ∈ lw_all := lw_g (lw_at lw_m5 36 rfl) rfl
theorem q1114 : (Jvm.Cond.methodLink "SoManyStairs" (283 : Nat) ({ cls := "SoManyStairs", name := "firstOver", desc := "()I" } : Jvm.MethodName)) ∈ lw_all := lw_g (lw_at lw_m5 37 rfl) rfl
theorem q1115 : (Jvm.Cond.privateMethod ({ cls := "SoManyStairs", name := "firstOver", desc := "()I" } : Jvm.MethodName)) ∈ lw_tbl := lw_at lw_m5 38 rfl
theorem q1116 : (Jvm.Cond.instanceMethod ({ cls := "SoManyStairs", name := "firstOver", desc := "()I" } : Jvm.MethodName)) ∈ lw_all := lw_g (lw_at lw_m5 39 rfl) rfl
theorem q1117 : (Jvm.Cond.code ({ cls := "SoManyStairs", name := "firstOver", desc := "()I" } : Jvm.MethodName) prog_1_method_43_code (2 : Nat) (Option.some Jvm.ClassFile.FieldType.int)) ∈ lw_all := lw_g (lw_at lw_m5 40 rfl) rfl
theorem q1118 : (Jvm.Cond.methodLink "SoManyStairs" (279 : Nat) ({ cls := "SoManyStairs$State", name := "over", desc := "(LSoManyStairs$House;I)I" } : Jvm.MethodName)) ∈ lw_all := lw_g (lw_at lw_m5 41 rfl) rfl
theorem q1122 : (Jvm.Cond.methodLink "SoManyStairs" (286 : Nat) ({ cls := "SoManyStairs", name := "firstLack", desc := "()I" } : Jvm.MethodName)) ∈ lw_all := lw_g (lw_at lw_m5 45 rfl) rfl
theorem q1123 : (Jvm.Cond.privateMethod ({ cls := "SoManyStairs", name := "firstLack", desc := "()I" } : Jvm.MethodName)) ∈ lw_tbl := lw_at lw_m5 46 rfl
theorem q1124 : (Jvm.Cond.instanceMethod ({ cls := "SoManyStairs", name := "firstLack", desc := "()I" } : Jvm.MethodName)) ∈ lw_all := lw_g (lw_at lw_m5 47 rfl) rfl
theorem q1125 : (Jvm.Cond.code ({ cls := "SoManyStairs", name := "firstLack", desc := "()I" } : Jvm.MethodName) prog_1_method_44_code (2 : Nat) (Option.some Jvm.ClassFile.FieldType.int)) ∈ lw_all := lw_g (lw_at lw_m5 48 rfl) rfl
theorem q1127 : (Jvm.Cond.instanceMethod ({ cls := "SoManyStairs", name := "envies", desc := "(I)I" } : Jvm.MethodName)) ∈ lw_all := lw_g (lw_at lw_m5 50 rfl) rfl
theorem q1128 : (Jvm.Cond.selects "SoManyStairs" ({ cls := "SoManyStairs", name := "envies", desc := "(I)I" } : Jvm.MethodName) ({ cls := "SoManyStairs", name := "envies", desc := "(I)I" } : Jvm.MethodName)) ∈ lw_all := lw_g (lw_at lw_m5 51 rfl) rfl
theorem q1129 : (Jvm.Cond.code ({ cls := "SoManyStairs", name := "envies", desc := "(I)I" } : Jvm.MethodName) prog_1_method_46_code (5 : Nat) (Option.some Jvm.ClassFile.FieldType.int)) ∈ lw_all := lw_g (lw_at lw_m5 52 rfl) rfl
theorem q1131 : (Jvm.Cond.instanceMethod ({ cls := "SoManyStairs", name := "quarrel", desc := "()I" } : Jvm.MethodName)) ∈ lw_all := lw_g (lw_at lw_m5 54 rfl) rfl
theorem q1132 : (Jvm.Cond.selects "SoManyStairs" ({ cls := "SoManyStairs", name := "quarrel", desc := "()I" } : Jvm.MethodName) ({ cls := "SoManyStairs", name := "quarrel", desc := "()I" } : Jvm.MethodName)) ∈ lw_all := lw_g (lw_at lw_m5 55 rfl) rfl
theorem q1133 : (Jvm.Cond.code ({ cls := "SoManyStairs", name := "quarrel", desc := "()I" } : Jvm.MethodName) prog_1_method_49_code (1 : Nat) (Option.some Jvm.ClassFile.FieldType.int)) ∈ lw_all := lw_g (lw_at lw_m5 56 rfl) rfl
theorem q1134 : (Jvm.Cond.methodLink "SoManyStairs" (289 : Nat) ({ cls := "SoManyStairs", name := "layLives", desc := "()V" } : Jvm.MethodName)) ∈ lw_all := lw_g (lw_at lw_m5 57 rfl) rfl
theorem q1135 : (Jvm.Cond.privateMethod ({ cls := "SoManyStairs", name := "layLives", desc := "()V" } : Jvm.MethodName)) ∈ lw_tbl := lw_at lw_m5 58 rfl
theorem q1136 : (Jvm.Cond.instanceMethod ({ cls := "SoManyStairs", name := "layLives", desc := "()V" } : Jvm.MethodName)) ∈ lw_all := lw_g (lw_at lw_m5 59 rfl) rfl
theorem q1137 : (Jvm.Cond.code ({ cls := "SoManyStairs", name := "layLives", desc := "()V" } : Jvm.MethodName) prog_1_method_48_code (2 : Nat) (Option.none : Option Jvm.ClassFile.FieldType)) ∈ lw_all := lw_g (lw_at lw_m5 60 rfl) rfl
theorem q1138 : (Jvm.Cond.methodLink "SoManyStairs" (292 : Nat) ({ cls := "SoManyStairs", name := "enviesBy", desc := "([I)I" } : Jvm.MethodName)) ∈ lw_all := lw_g (lw_at lw_m5 61 rfl) rfl
theorem q1139 : (Jvm.Cond.privateMethod ({ cls := "SoManyStairs", name := "enviesBy", desc := "([I)I" } : Jvm.MethodName)) ∈ lw_tbl := lw_at lw_m5 62 rfl
theorem q1140 : (Jvm.Cond.instanceMethod ({ cls := "SoManyStairs", name := "enviesBy", desc := "([I)I" } : Jvm.MethodName)) ∈ lw_all := lw_g (lw_at lw_m5 63 rfl) rfl
theorem q1141 : (Jvm.Cond.code ({ cls := "SoManyStairs", name := "enviesBy", desc := "([I)I" } : Jvm.MethodName) prog_1_method_47_code (5 : Nat) (Option.some Jvm.ClassFile.FieldType.int)) ∈ lw_all := lw_g (lw_at lw_m5 64 rfl) rfl
theorem q1143 : (Jvm.Cond.instanceMethod ({ cls := "SoManyStairs", name := "calm", desc := "(I)I" } : Jvm.MethodName)) ∈ lw_all := lw_g (lw_at lw_m5 66 rfl) rfl
theorem q1144 : (Jvm.Cond.selects "SoManyStairs" ({ cls := "SoManyStairs", name := "calm", desc := "(I)I" } : Jvm.MethodName) ({ cls := "SoManyStairs", name := "calm", desc := "(I)I" } : Jvm.MethodName)) ∈ lw_all := lw_g (lw_at lw_m5 67 rfl) rfl
theorem q1145 : (Jvm.Cond.code ({ cls := "SoManyStairs", name := "calm", desc := "(I)I" } : Jvm.MethodName) prog_1_method_50_code (7 : Nat) (Option.some Jvm.ClassFile.FieldType.int)) ∈ lw_all := lw_g (lw_at lw_m5 68 rfl) rfl
theorem q1146 : (Jvm.Cond.methodLink "SoManyStairs" (296 : Nat) ({ cls := "SoManyStairs", name := "quarrel", desc := "()I" } : Jvm.MethodName)) ∈ lw_all := lw_g (lw_at lw_m5 69 rfl) rfl
theorem q1148 : (Jvm.Cond.instanceMethod ({ cls := "SoManyStairs", name := "live", desc := "(I)I" } : Jvm.MethodName)) ∈ lw_all := lw_g (lw_at lw_m5 71 rfl) rfl
theorem q1149 : (Jvm.Cond.selects "SoManyStairs" ({ cls := "SoManyStairs", name := "live", desc := "(I)I" } : Jvm.MethodName) ({ cls := "SoManyStairs", name := "live", desc := "(I)I" } : Jvm.MethodName)) ∈ lw_all := lw_g (lw_at lw_m5 72 rfl) rfl
theorem q1150 : (Jvm.Cond.code ({ cls := "SoManyStairs", name := "live", desc := "(I)I" } : Jvm.MethodName) prog_1_method_51_code (4 : Nat) (Option.some Jvm.ClassFile.FieldType.int)) ∈ lw_all := lw_g (lw_at lw_m5 73 rfl) rfl
theorem q1152 : (Jvm.Cond.instanceMethod ({ cls := "SoManyStairs", name := "spread", desc := "()I" } : Jvm.MethodName)) ∈ lw_all := lw_g (lw_at lw_m5 75 rfl) rfl
theorem q1153 : (Jvm.Cond.selects "SoManyStairs" ({ cls := "SoManyStairs", name := "spread", desc := "()I" } : Jvm.MethodName) ({ cls := "SoManyStairs", name := "spread", desc := "()I" } : Jvm.MethodName)) ∈ lw_all := lw_g (lw_at lw_m5 76 rfl) rfl
theorem q1154 : (Jvm.Cond.code ({ cls := "SoManyStairs", name := "spread", desc := "()I" } : Jvm.MethodName) prog_1_method_52_code (4 : Nat) (Option.some Jvm.ClassFile.FieldType.int)) ∈ lw_all := lw_g (lw_at lw_m5 77 rfl) rfl
theorem q1155 : (Jvm.Cond.methodLink "SoManyStairs" (299 : Nat) ({ cls := "SoManyStairs", name := "month", desc := "(I)I" } : Jvm.MethodName)) ∈ lw_all := lw_g (lw_at lw_m5 78 rfl) rfl
theorem q1156 : (Jvm.Cond.instanceMethod ({ cls := "SoManyStairs", name := "month", desc := "(I)I" } : Jvm.MethodName)) ∈ lw_all := lw_g (lw_at lw_m5 79 rfl) rfl
theorem q1157 : (Jvm.Cond.selects "SoManyStairs" ({ cls := "SoManyStairs", name := "month", desc := "(I)I" } : Jvm.MethodName) ({ cls := "SoManyStairs", name := "month", desc := "(I)I" } : Jvm.MethodName)) ∈ lw_all := lw_g (lw_at lw_m5 80 rfl) rfl
theorem q1158 : (Jvm.Cond.code ({ cls := "SoManyStairs", name := "month", desc := "(I)I" } : Jvm.MethodName) prog_1_method_56_code (2 : Nat) (Option.some Jvm.ClassFile.FieldType.int)) ∈ lw_all := lw_g (lw_at lw_m5 81 rfl) rfl
theorem q1159 : (Jvm.Cond.methodLink "SoManyStairs" (305 : Nat) ({ cls := "SoManyStairs", name := "costs", desc := "(II)I" } : Jvm.MethodName)) ∈ lw_all := lw_g (lw_at lw_m5 82 rfl) rfl
theorem q1160 : (Jvm.Cond.privateMethod ({ cls := "SoManyStairs", name := "costs", desc := "(II)I" } : Jvm.MethodName)) ∈ lw_tbl := lw_at lw_m5 83 rfl
theorem q1161 : (Jvm.Cond.instanceMethod ({ cls := "SoManyStairs", name := "costs", desc := "(II)I" } : Jvm.MethodName)) ∈ lw_all := lw_g (lw_at lw_m5 84 rfl) rfl
theorem q1162 : (Jvm.Cond.code ({ cls := "SoManyStairs", name := "costs", desc := "(II)I" } : Jvm.MethodName) prog_1_method_53_code (3 : Nat) (Option.some Jvm.ClassFile.FieldType.int)) ∈ lw_all := lw_g (lw_at lw_m5 85 rfl) rfl
theorem q1164 : (Jvm.Cond.instanceMethod ({ cls := "SoManyStairs", name := "let", desc := "()I" } : Jvm.MethodName)) ∈ lw_all := lw_g (lw_at lw_m5 87 rfl) rfl
theorem q1165 : (Jvm.Cond.selects "SoManyStairs" ({ cls := "SoManyStairs", name := "let", desc := "()I" } : Jvm.MethodName) ({ cls := "SoManyStairs", name := "let", desc := "()I" } : Jvm.MethodName)) ∈ lw_all := lw_g (lw_at lw_m5 88 rfl) rfl
theorem q1166 : (Jvm.Cond.code ({ cls := "SoManyStairs", name := "let", desc := "()I" } : Jvm.MethodName) prog_1_method_55_code (1 : Nat) (Option.some Jvm.ClassFile.FieldType.int)) ∈ lw_all := lw_g (lw_at lw_m5 89 rfl) rfl
theorem q1167 : (Jvm.Cond.methodLink "SoManyStairs" (308 : Nat) ({ cls := "SoManyStairs", name := "goLet", desc := "(IIII)V" } : Jvm.MethodName)) ∈ lw_all := lw_g (lw_at lw_m5 90 rfl) rfl
theorem q1168 : (Jvm.Cond.privateMethod ({ cls := "SoManyStairs", name := "goLet", desc := "(IIII)V" } : Jvm.MethodName)) ∈ lw_tbl := lw_at lw_m5 91 rfl
theorem q1169 : (Jvm.Cond.instanceMethod ({ cls := "SoManyStairs", name := "goLet", desc := "(IIII)V" } : Jvm.MethodName)) ∈ lw_all := lw_g (lw_at lw_m5 92 rfl) rfl
theorem q1170 : (Jvm.Cond.code ({ cls := "SoManyStairs", name := "goLet", desc := "(IIII)V" } : Jvm.MethodName) prog_1_method_54_code (8 : Nat) (Option.none : Option Jvm.ClassFile.FieldType)) ∈ lw_all := lw_g (lw_at lw_m5 93 rfl) rfl
theorem q1173 : (Jvm.Cond.instanceMethod ({ cls := "SoManyStairs", name := "rest", desc := "()I" } : Jvm.MethodName)) ∈ lw_all := lw_g (lw_at lw_m5 96 rfl) rfl
theorem q1174 : (Jvm.Cond.selects "SoManyStairs" ({ cls := "SoManyStairs", name := "rest", desc := "()I" } : Jvm.MethodName) ({ cls := "SoManyStairs", name := "rest", desc := "()I" } : Jvm.MethodName)) ∈ lw_all := lw_g (lw_at lw_m5 97 rfl) rfl
theorem q1175 : (Jvm.Cond.code ({ cls := "SoManyStairs", name := "rest", desc := "()I" } : Jvm.MethodName) prog_1_method_57_code (3 : Nat) (Option.some Jvm.ClassFile.FieldType.int)) ∈ lw_all := lw_g (lw_at lw_m5 98 rfl) rfl
theorem q1177 : (Jvm.Cond.instanceMethod ({ cls := "SoManyStairs", name := "will", desc := "(I)I" } : Jvm.MethodName)) ∈ lw_all := lw_g (lw_at lw_m5 100 rfl) rfl
theorem q1178 : (Jvm.Cond.selects "SoManyStairs" ({ cls := "SoManyStairs", name := "will", desc := "(I)I" } : Jvm.MethodName) ({ cls := "SoManyStairs", name := "will", desc := "(I)I" } : Jvm.MethodName)) ∈ lw_all := lw_g (lw_at lw_m5 101 rfl) rfl
theorem q1179 : (Jvm.Cond.code ({ cls := "SoManyStairs", name := "will", desc := "(I)I" } : Jvm.MethodName) prog_1_method_58_code (3 : Nat) (Option.some Jvm.ClassFile.FieldType.int)) ∈ lw_all := lw_g (lw_at lw_m5 102 rfl) rfl
theorem q1181 : (Jvm.Cond.instanceMethod ({ cls := "SoManyStairs", name := "pull", desc := "()I" } : Jvm.MethodName)) ∈ lw_all := lw_g (lw_at lw_m5 104 rfl) rfl
theorem q1182 : (Jvm.Cond.selects "SoManyStairs" ({ cls := "SoManyStairs", name := "pull", desc := "()I" } : Jvm.MethodName) ({ cls := "SoManyStairs", name := "pull", desc := "()I" } : Jvm.MethodName)) ∈ lw_all := lw_g (lw_at lw_m5 105 rfl) rfl
theorem q1183 : (Jvm.Cond.code ({ cls := "SoManyStairs", name := "pull", desc := "()I" } : Jvm.MethodName) prog_1_method_59_code (1 : Nat) (Option.some Jvm.ClassFile.FieldType.int)) ∈ lw_all := lw_g (lw_at lw_m5 106 rfl) rfl
theorem q1184 : (Jvm.Cond.methodLink "SoManyStairs" (312 : Nat) ({ cls := "SoManyStairs$House", name := "pull", desc := "(LSoManyStairs$State;I)I" } : Jvm.MethodName)) ∈ lw_all := lw_g (lw_at lw_m5 107 rfl) rfl
theorem q1186 : (Jvm.Cond.instanceMethod ({ cls := "SoManyStairs", name := "lever", desc := "()I" } : Jvm.MethodName)) ∈ lw_all := lw_g (lw_at lw_m5 109 rfl) rfl
theorem q1187 : (Jvm.Cond.selects "SoManyStairs" ({ cls := "SoManyStairs", name := "lever", desc := "()I" } : Jvm.MethodName) ({ cls := "SoManyStairs", name := "lever", desc := "()I" } : Jvm.MethodName)) ∈ lw_all := lw_g (lw_at lw_m5 110 rfl) rfl
theorem q1188 : (Jvm.Cond.code ({ cls := "SoManyStairs", name := "lever", desc := "()I" } : Jvm.MethodName) prog_1_method_60_code (2 : Nat) (Option.some Jvm.ClassFile.FieldType.int)) ∈ lw_all := lw_g (lw_at lw_m5 111 rfl) rfl
theorem q1189 : (Jvm.Cond.methodLink "SoManyStairs" (316 : Nat) ({ cls := "SoManyStairs$State", name := "liftThen", desc := "(LSoManyStairs$House;I)I" } : Jvm.MethodName)) ∈ lw_all := lw_g (lw_at lw_m5 112 rfl) rfl
theorem q1191 : (Jvm.Cond.instanceMethod ({ cls := "SoManyStairs", name := "odds", desc := "(IIII)I" } : Jvm.MethodName)) ∈ lw_all := lw_g (lw_at lw_m5 114 rfl) rfl
theorem q1192 : (Jvm.Cond.selects "SoManyStairs" ({ cls := "SoManyStairs", name := "odds", desc := "(IIII)I" } : Jvm.MethodName) ({ cls := "SoManyStairs", name := "odds", desc := "(IIII)I" } : Jvm.MethodName)) ∈ lw_all := lw_g (lw_at lw_m5 115 rfl) rfl
theorem q1193 : (Jvm.Cond.code ({ cls := "SoManyStairs", name := "odds", desc := "(IIII)I" } : Jvm.MethodName) prog_1_method_62_code (11 : Nat) (Option.some Jvm.ClassFile.FieldType.int)) ∈ lw_all := lw_g (lw_at lw_m5 116 rfl) rfl
theorem q1194 : (Jvm.Cond.methodLink "SoManyStairs" (319 : Nat) ({ cls := "SoManyStairs", name := "common", desc := "(II)I" } : Jvm.MethodName)) ∈ lw_all := lw_g (lw_at lw_m5 117 rfl) rfl
theorem q1195 : (Jvm.Cond.static ({ cls := "SoManyStairs", name := "common", desc := "(II)I" } : Jvm.MethodName)) ∈ lw_all := lw_g (lw_at lw_m5 118 rfl) rfl
theorem q1196 : (Jvm.Cond.code ({ cls := "SoManyStairs", name := "common", desc := "(II)I" } : Jvm.MethodName) prog_1_method_61_code (2 : Nat) (Option.some Jvm.ClassFile.FieldType.int)) ∈ lw_all := lw_g (lw_at lw_m5 119 rfl) rfl
theorem q1198 : (Jvm.Cond.instanceMethod ({ cls := "SoManyStairs", name := "poorest", desc := "()I" } : Jvm.MethodName)) ∈ lw_all := lw_g (lw_at lw_m5 121 rfl) rfl
theorem q1199 : (Jvm.Cond.selects "SoManyStairs" ({ cls := "SoManyStairs", name := "poorest", desc := "()I" } : Jvm.MethodName) ({ cls := "SoManyStairs", name := "poorest", desc := "()I" } : Jvm.MethodName)) ∈ lw_all := lw_g (lw_at lw_m5 122 rfl) rfl
theorem q1200 : (Jvm.Cond.code ({ cls := "SoManyStairs", name := "poorest", desc := "()I" } : Jvm.MethodName) prog_1_method_63_code (3 : Nat) (Option.some Jvm.ClassFile.FieldType.int)) ∈ lw_all := lw_g (lw_at lw_m5 123 rfl) rfl
theorem q1202 : (Jvm.Cond.instanceMethod ({ cls := "SoManyStairs", name := "owing", desc := "()I" } : Jvm.MethodName)) ∈ lw_all := lw_g (lw_at lw_m5 125 rfl) rfl
theorem q1203 : (Jvm.Cond.selects "SoManyStairs" ({ cls := "SoManyStairs", name := "owing", desc := "()I" } : Jvm.MethodName) ({ cls := "SoManyStairs", name := "owing", desc := "()I" } : Jvm.MethodName)) ∈ lw_all := lw_g (lw_at lw_m5 126 rfl) rfl
theorem q1204 : (Jvm.Cond.code ({ cls := "SoManyStairs", name := "owing", desc := "()I" } : Jvm.MethodName) prog_1_method_64_code (3 : Nat) (Option.some Jvm.ClassFile.FieldType.int)) ∈ lw_all := lw_g (lw_at lw_m5 127 rfl) rfl
theorem q1206 : (Jvm.Cond.instanceMethod ({ cls := "SoManyStairs", name := "law", desc := "(I)I" } : Jvm.MethodName)) ∈ lw_all := lw_g (lw_at lw_m5 129 rfl) rfl
theorem q1207 : (Jvm.Cond.selects "SoManyStairs" ({ cls := "SoManyStairs", name := "law", desc := "(I)I" } : Jvm.MethodName) ({ cls := "SoManyStairs", name := "law", desc := "(I)I" } : Jvm.MethodName)) ∈ lw_all := lw_g (lw_at lw_m5 130 rfl) rfl
theorem q1208 : (Jvm.Cond.code ({ cls := "SoManyStairs", name := "law", desc := "(I)I" } : Jvm.MethodName) prog_1_method_65_code (4 : Nat) (Option.some Jvm.ClassFile.FieldType.int)) ∈ lw_all := lw_g (lw_at lw_m5 131 rfl) rfl
theorem q1210 : (Jvm.Cond.instanceMethod ({ cls := "SoManyStairs", name := "chalk", desc := "(IZ)I" } : Jvm.MethodName)) ∈ lw_all := lw_g (lw_at lw_m5 133 rfl) rfl
theorem q1211 : (Jvm.Cond.selects "SoManyStairs" ({ cls := "SoManyStairs", name := "chalk", desc := "(IZ)I" } : Jvm.MethodName) ({ cls := "SoManyStairs", name := "chalk", desc := "(IZ)I" } : Jvm.MethodName)) ∈ lw_all := lw_g (lw_at lw_m5 134 rfl) rfl
theorem q1212 : (Jvm.Cond.code ({ cls := "SoManyStairs", name := "chalk", desc := "(IZ)I" } : Jvm.MethodName) prog_1_method_67_code (3 : Nat) (Option.some Jvm.ClassFile.FieldType.int)) ∈ lw_all := lw_g (lw_at lw_m5 135 rfl) rfl
theorem q1213 : (Jvm.Cond.classLink "SoManyStairs" (322 : Nat) "SoManyStairs$Chalk") ∈ lw_all := lw_g (lw_at lw_m5 136 rfl) rfl
theorem q1215 : (Jvm.Cond.methodLink "SoManyStairs" (324 : Nat) ({ cls := "SoManyStairs$Chalk", name := "<init>", desc := "(LSoManyStairs;IZ)V" } : Jvm.MethodName)) ∈ lw_all := lw_g (lw_at lw_m5 138 rfl) rfl
theorem q1227 : (Jvm.Cond.fieldLink "SoManyStairs" (336 : Nat) "SoManyStairs$Mark" "untold" "I") ∈ lw_all := lw_g (lw_at lw_m5 150 rfl) rfl
theorem q1242 : (Jvm.Cond.methodLink "SoManyStairs" (327 : Nat) ({ cls := "SoManyStairs", name := "tell", desc := "(LSoManyStairs$Mark;)I" } : Jvm.MethodName)) ∈ lw_all := lw_g (lw_at lw_m5 165 rfl) rfl
theorem q1243 : (Jvm.Cond.privateMethod ({ cls := "SoManyStairs", name := "tell", desc := "(LSoManyStairs$Mark;)I" } : Jvm.MethodName)) ∈ lw_tbl := lw_at lw_m5 166 rfl
theorem q1244 : (Jvm.Cond.instanceMethod ({ cls := "SoManyStairs", name := "tell", desc := "(LSoManyStairs$Mark;)I" } : Jvm.MethodName)) ∈ lw_all := lw_g (lw_at lw_m5 167 rfl) rfl
theorem q1245 : (Jvm.Cond.code ({ cls := "SoManyStairs", name := "tell", desc := "(LSoManyStairs$Mark;)I" } : Jvm.MethodName) prog_1_method_66_code (2 : Nat) (Option.some Jvm.ClassFile.FieldType.int)) ∈ lw_all := lw_g (lw_at lw_m5 168 rfl) rfl
theorem q1247 : (Jvm.Cond.instanceMethod ({ cls := "SoManyStairs", name := "tread", desc := "(IZ)I" } : Jvm.MethodName)) ∈ lw_all := lw_g (lw_at lw_m5 170 rfl) rfl
theorem q1248 : (Jvm.Cond.selects "SoManyStairs" ({ cls := "SoManyStairs", name := "tread", desc := "(IZ)I" } : Jvm.MethodName) ({ cls := "SoManyStairs", name := "tread", desc := "(IZ)I" } : Jvm.MethodName)) ∈ lw_all := lw_g (lw_at lw_m5 171 rfl) rfl
theorem q1249 : (Jvm.Cond.code ({ cls := "SoManyStairs", name := "tread", desc := "(IZ)I" } : Jvm.MethodName) prog_1_method_68_code (3 : Nat) (Option.some Jvm.ClassFile.FieldType.int)) ∈ lw_all := lw_g (lw_at lw_m5 172 rfl) rfl
theorem q1250 : (Jvm.Cond.classLink "SoManyStairs" (331 : Nat) "SoManyStairs$Tread") ∈ lw_all := lw_g (lw_at lw_m5 173 rfl) rfl
theorem q1252 : (Jvm.Cond.methodLink "SoManyStairs" (333 : Nat) ({ cls := "SoManyStairs$Tread", name := "<init>", desc := "(LSoManyStairs;IZ)V" } : Jvm.MethodName)) ∈ lw_all := lw_g (lw_at lw_m5 175 rfl) rfl
theorem q1268 : (Jvm.Cond.instanceMethod ({ cls := "SoManyStairs", name := "untell", desc := "(I)Z" } : Jvm.MethodName)) ∈ lw_all := lw_g (lw_at lw_m5 191 rfl) rfl
theorem q1269 : (Jvm.Cond.selects "SoManyStairs" ({ cls := "SoManyStairs", name := "untell", desc := "(I)Z" } : Jvm.MethodName) ({ cls := "SoManyStairs", name := "untell", desc := "(I)Z" } : Jvm.MethodName)) ∈ lw_all := lw_g (lw_at lw_m5 192 rfl) rfl
theorem q1270 : (Jvm.Cond.code ({ cls := "SoManyStairs", name := "untell", desc := "(I)Z" } : Jvm.MethodName) prog_1_method_69_code (2 : Nat) (Option.some Jvm.ClassFile.FieldType.boolean)) ∈ lw_all := lw_g (lw_at lw_m5 193 rfl) rfl
theorem q1271 : (Jvm.Cond.classLink "SoManyStairs" (334 : Nat) "SoManyStairs$Mark") ∈ lw_all := lw_g (lw_at lw_m5 194 rfl) rfl
theorem q1273 : (Jvm.Cond.instanceMethod ({ cls := "SoManyStairs", name := "later", desc := "(I)I" } : Jvm.MethodName)) ∈ lw_all := lw_g (lw_at lw_m5 196 rfl) rfl
theorem q1274 : (Jvm.Cond.selects "SoManyStairs" ({ cls := "SoManyStairs", name := "later", desc := "(I)I" } : Jvm.MethodName) ({ cls := "SoManyStairs", name := "later", desc := "(I)I" } : Jvm.MethodName)) ∈ lw_all := lw_g (lw_at lw_m5 197 rfl) rfl
theorem q1275 : (Jvm.Cond.code ({ cls := "SoManyStairs", name := "later", desc := "(I)I" } : Jvm.MethodName) prog_1_method_70_code (2 : Nat) (Option.some Jvm.ClassFile.FieldType.int)) ∈ lw_all := lw_g (lw_at lw_m5 198 rfl) rfl
theorem q1276 : (Jvm.Cond.constant "SoManyStairs" (342 : Nat) (100000 : Int32)) ∈ lw_all := lw_g (lw_at lw_m5 199 rfl) rfl
theorem q1278 : (Jvm.Cond.instanceMethod ({ cls := "SoManyStairs", name := "runs", desc := "(I)I" } : Jvm.MethodName)) ∈ lw_all := lw_g (lw_at lw_m5 201 rfl) rfl
theorem q1279 : (Jvm.Cond.selects "SoManyStairs" ({ cls := "SoManyStairs", name := "runs", desc := "(I)I" } : Jvm.MethodName) ({ cls := "SoManyStairs", name := "runs", desc := "(I)I" } : Jvm.MethodName)) ∈ lw_all := lw_g (lw_at lw_m5 202 rfl) rfl
theorem q1280 : (Jvm.Cond.code ({ cls := "SoManyStairs", name := "runs", desc := "(I)I" } : Jvm.MethodName) prog_1_method_74_code (2 : Nat) (Option.some Jvm.ClassFile.FieldType.int)) ∈ lw_all := lw_g (lw_at lw_m5 203 rfl) rfl
theorem q1281 : (Jvm.Cond.methodLink "SoManyStairs" (353 : Nat) ({ cls := "SoManyStairs", name := "allRuns", desc := "(II)I" } : Jvm.MethodName)) ∈ lw_all := lw_g (lw_at lw_m5 204 rfl) rfl
theorem q1282 : (Jvm.Cond.privateMethod ({ cls := "SoManyStairs", name := "allRuns", desc := "(II)I" } : Jvm.MethodName)) ∈ lw_tbl := lw_at lw_m5 205 rfl
theorem q1283 : (Jvm.Cond.instanceMethod ({ cls := "SoManyStairs", name := "allRuns", desc := "(II)I" } : Jvm.MethodName)) ∈ lw_all := lw_g (lw_at lw_m5 206 rfl) rfl
theorem q1284 : (Jvm.Cond.code ({ cls := "SoManyStairs", name := "allRuns", desc := "(II)I" } : Jvm.MethodName) prog_1_method_73_code (5 : Nat) (Option.some Jvm.ClassFile.FieldType.int)) ∈ lw_all := lw_g (lw_at lw_m5 207 rfl) rfl
theorem q1285 : (Jvm.Cond.methodLink "SoManyStairs" (349 : Nat) ({ cls := "SoManyStairs", name := "runsOf", desc := "(III)I" } : Jvm.MethodName)) ∈ lw_all := lw_g (lw_at lw_m5 208 rfl) rfl
theorem q1286 : (Jvm.Cond.privateMethod ({ cls := "SoManyStairs", name := "runsOf", desc := "(III)I" } : Jvm.MethodName)) ∈ lw_tbl := lw_at lw_m5 209 rfl
theorem q1287 : (Jvm.Cond.instanceMethod ({ cls := "SoManyStairs", name := "runsOf", desc := "(III)I" } : Jvm.MethodName)) ∈ lw_all := lw_g (lw_at lw_m5 210 rfl) rfl
theorem q1288 : (Jvm.Cond.code ({ cls := "SoManyStairs", name := "runsOf", desc := "(III)I" } : Jvm.MethodName) prog_1_method_72_code (7 : Nat) (Option.some Jvm.ClassFile.FieldType.int)) ∈ lw_all := lw_g (lw_at lw_m5 211 rfl) rfl
theorem q1289 : (Jvm.Cond.methodLink "SoManyStairs" (346 : Nat) ({ cls := "SoManyStairs", name := "doesFit", desc := "(IIII)Z" } : Jvm.MethodName)) ∈ lw_all := lw_g (lw_at lw_m5 212 rfl) rfl
theorem q1290 : (Jvm.Cond.privateMethod ({ cls := "SoManyStairs", name := "doesFit", desc := "(IIII)Z" } : Jvm.MethodName)) ∈ lw_tbl := lw_at lw_m5 213 rfl
theorem q1291 : (Jvm.Cond.instanceMethod ({ cls := "SoManyStairs", name := "doesFit", desc := "(IIII)Z" } : Jvm.MethodName)) ∈ lw_all := lw_g (lw_at lw_m5 214 rfl) rfl
theorem q1292 : (Jvm.Cond.code ({ cls := "SoManyStairs", name := "doesFit", desc := "(IIII)Z" } : Jvm.MethodName) prog_1_method_71_code (6 : Nat) (Option.some Jvm.ClassFile.FieldType.boolean)) ∈ lw_all := lw_g (lw_at lw_m5 215 rfl) rfl
theorem q1293 : (Jvm.Cond.methodLink "SoManyStairs" (343 : Nat) ({ cls := "SoManyStairs$Mark", name := "fits", desc := "(IIII)Z" } : Jvm.MethodName)) ∈ lw_all := lw_g (lw_at lw_m5 216 rfl) rfl
theorem q1311 : (Jvm.Cond.instanceMethod ({ cls := "SoManyStairs", name := "who", desc := "(I)I" } : Jvm.MethodName)) ∈ lw_all := lw_g (lw_at lw_m5 234 rfl) rfl
theorem q1312 : (Jvm.Cond.selects "SoManyStairs" ({ cls := "SoManyStairs", name := "who", desc := "(I)I" } : Jvm.MethodName) ({ cls := "SoManyStairs", name := "who", desc := "(I)I" } : Jvm.MethodName)) ∈ lw_all := lw_g (lw_at lw_m5 235 rfl) rfl
theorem q1313 : (Jvm.Cond.code ({ cls := "SoManyStairs", name := "who", desc := "(I)I" } : Jvm.MethodName) prog_1_method_75_code (4 : Nat) (Option.some Jvm.ClassFile.FieldType.int)) ∈ lw_all := lw_g (lw_at lw_m5 236 rfl) rfl
theorem q1315 : (Jvm.Cond.instanceMethod ({ cls := "SoManyStairs", name := "ask", desc := "(II)I" } : Jvm.MethodName)) ∈ lw_all := lw_g (lw_at lw_m5 238 rfl) rfl
theorem q1316 : (Jvm.Cond.selects "SoManyStairs" ({ cls := "SoManyStairs", name := "ask", desc := "(II)I" } : Jvm.MethodName) ({ cls := "SoManyStairs", name := "ask", desc := "(II)I" } : Jvm.MethodName)) ∈ lw_all := lw_g (lw_at lw_m5 239 rfl) rfl
theorem q1317 : (Jvm.Cond.code ({ cls := "SoManyStairs", name := "ask", desc := "(II)I" } : Jvm.MethodName) prog_1_method_76_code (9 : Nat) (Option.some Jvm.ClassFile.FieldType.int)) ∈ lw_all := lw_g (lw_at lw_m6 0 rfl) rfl
theorem q1318 : (Jvm.Cond.methodLink "SoManyStairs" (356 : Nat) ({ cls := "SoManyStairs", name := "runs", desc := "(I)I" } : Jvm.MethodName)) ∈ lw_all := lw_g (lw_at lw_m6 1 rfl) rfl
theorem q1320 : (Jvm.Cond.instanceMethod ({ cls := "SoManyStairs", name := "image", desc := "(I)I" } : Jvm.MethodName)) ∈ lw_all := lw_g (lw_at lw_m6 3 rfl) rfl
theorem q1321 : (Jvm.Cond.selects "SoManyStairs" ({ cls := "SoManyStairs", name := "image", desc := "(I)I" } : Jvm.MethodName) ({ cls := "SoManyStairs", name := "image", desc := "(I)I" } : Jvm.MethodName)) ∈ lw_all := lw_g (lw_at lw_m6 4 rfl) rfl
theorem q1322 : (Jvm.Cond.code ({ cls := "SoManyStairs", name := "image", desc := "(I)I" } : Jvm.MethodName) prog_1_method_77_code (2 : Nat) (Option.some Jvm.ClassFile.FieldType.int)) ∈ lw_all := lw_g (lw_at lw_m6 5 rfl) rfl
theorem q1324 : (Jvm.Cond.instanceMethod ({ cls := "SoManyStairs", name := "back", desc := "(I)I" } : Jvm.MethodName)) ∈ lw_all := lw_g (lw_at lw_m6 7 rfl) rfl
theorem q1325 : (Jvm.Cond.selects "SoManyStairs" ({ cls := "SoManyStairs", name := "back", desc := "(I)I" } : Jvm.MethodName) ({ cls := "SoManyStairs", name := "back", desc := "(I)I" } : Jvm.MethodName)) ∈ lw_all := lw_g (lw_at lw_m6 8 rfl) rfl
theorem q1326 : (Jvm.Cond.code ({ cls := "SoManyStairs", name := "back", desc := "(I)I" } : Jvm.MethodName) prog_1_method_78_code (2 : Nat) (Option.some Jvm.ClassFile.FieldType.int)) ∈ lw_all := lw_g (lw_at lw_m6 9 rfl) rfl
theorem q1328 : (Jvm.Cond.instanceMethod ({ cls := "SoManyStairs", name := "about", desc := "(I)I" } : Jvm.MethodName)) ∈ lw_all := lw_g (lw_at lw_m6 11 rfl) rfl
theorem q1329 : (Jvm.Cond.selects "SoManyStairs" ({ cls := "SoManyStairs", name := "about", desc := "(I)I" } : Jvm.MethodName) ({ cls := "SoManyStairs", name := "about", desc := "(I)I" } : Jvm.MethodName)) ∈ lw_all := lw_g (lw_at lw_m6 12 rfl) rfl
theorem q1330 : (Jvm.Cond.code ({ cls := "SoManyStairs", name := "about", desc := "(I)I" } : Jvm.MethodName) prog_1_method_79_code (2 : Nat) (Option.some Jvm.ClassFile.FieldType.int)) ∈ lw_all := lw_g (lw_at lw_m6 13 rfl) rfl
theorem q2055 : (Jvm.Cond.castable "SoManyStairs" "java/lang/Object") ∈ lw_tbl := lw_at lw_m9 18 rfl
theorem in_X0 : ∀ w ∈ wsX00, w ∈ lw_all := lw_in wsX00 [405, 407, 409, 411, 413, 415, 417, 419, 421, 423, 425, 427, 429, 431, 433, 435, 437, 439, 441, 443] (by decide +kernel) (by decide +kernel)
