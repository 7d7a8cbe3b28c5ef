/-! SoManyStairs$Reader -/
set_option maxRecDepth 100000
def RX6 : String := "SoManyStairs$Reader"
def TX6 : u_T := fun k => match k with
  | 0 => ("SoManyStairs$Reader", "text", "[B", true)
  | 1 => ("SoManyStairs$Reader", "size", "I", true)
  | 2 => ("SoManyStairs$Reader", "fault", "LSoManyStairs$Wrong;", true)
  | 3 => ("SoManyStairs$Reader", "h", "LSoManyStairs$House;", true)
  | 4 => ("SoManyStairs$Reader", "at", "I", false)
  | 5 => ("SoManyStairs$Reader", "end", "I", false)
  | 6 => ("SoManyStairs$Reader", "token", "I", false)
  | 7 => ("SoManyStairs$Reader", "number", "I", false)
  | 8 => ("SoManyStairs$Reader", "name", "J", false)
  | 9 => ("SoManyStairs$Reader", "deep", "I", false)
  | _ => ("SoManyStairs$Reader", "mine", "I", false)
def tyX6 : Nat → FieldType := fun k => match k with
  | 0 => .array .byte
  | 1 => .int
  | 2 => .object "SoManyStairs$Wrong"
  | 3 => .object "SoManyStairs$House"
  | 4 => .int
  | 5 => .int
  | 6 => .int
  | 7 => .int
  | 8 => .long
  | 9 => .int
  | _ => .int
abbrev wsX60 : List Cond := u_ws RX6 TX6 11
theorem nmX6 : ∀ a, a < 11 → ∀ b, b < 11 → a ≠ b → (TX6 a).2.1 ≠ (TX6 b).2.1 := by decide +kernel
theorem tyX6_ok : ∀ k, k < 11 → parseFieldDescriptor (TX6 k).2.2.1 = some (tyX6 k) := by decide +kernel
abbrev cX6_init : ByteArray := prog_10_method_1_code
def yX6_init : MethodName := ⟨RX6, "<init>", "([BILSoManyStairs$Wrong;)V"⟩
def dkwX6_init_1 : List UInt8 := [181, 0, 22, 42, 45, 181, 0, 26, 177]
abbrev dktX6_init_1 : List UInt8 := dkwX6_init_1 ++ []
def dkwX6_init_0 : List UInt8 := [42, 183, 0, 3, 42, 187, 0, 9, 89, 183, 0, 11, 181, 0, 12, 42, 43, 181, 0, 18, 42, 28]
abbrev dktX6_init_0 : List UInt8 := dkwX6_init_0 ++ dktX6_init_1
theorem dksX6_init_0 : cX6_init.data.toList.drop 0 = dktX6_init_0 := by decide +kernel
theorem dksX6_init_1 : cX6_init.data.toList.drop 22 = dktX6_init_1 := dk_seg dksX6_init_0 22 rfl rfl
theorem dX6_init_0 : decode cX6_init 0 = .ok (.aload_n 0, 1) := dk_42 (dk_at dksX6_init_0 0 rfl rfl)
theorem dX6_init_1 : decode cX6_init 1 = .ok (.invokespecial 3, 3) := dk_183 0 3 (dk_at dksX6_init_0 1 rfl rfl)
theorem dX6_init_4 : decode cX6_init 4 = .ok (.aload_n 0, 1) := dk_42 (dk_at dksX6_init_0 4 rfl rfl)
theorem dX6_init_5 : decode cX6_init 5 = .ok (.new 9, 3) := dk_187 0 9 (dk_at dksX6_init_0 5 rfl rfl)
theorem dX6_init_8 : decode cX6_init 8 = .ok (.dup, 1) := dk_89 (dk_at dksX6_init_0 8 rfl rfl)
theorem dX6_init_9 : decode cX6_init 9 = .ok (.invokespecial 11, 3) := dk_183 0 11 (dk_at dksX6_init_0 9 rfl rfl)
theorem dX6_init_12 : decode cX6_init 12 = .ok (.putfield 12, 3) := dk_181 0 12 (dk_at dksX6_init_0 12 rfl rfl)
theorem dX6_init_15 : decode cX6_init 15 = .ok (.aload_n 0, 1) := dk_42 (dk_at dksX6_init_0 15 rfl rfl)
theorem dX6_init_16 : decode cX6_init 16 = .ok (.aload_n 1, 1) := dk_43 (dk_at dksX6_init_0 16 rfl rfl)
theorem dX6_init_17 : decode cX6_init 17 = .ok (.putfield 18, 3) := dk_181 0 18 (dk_at dksX6_init_0 17 rfl rfl)
theorem dX6_init_20 : decode cX6_init 20 = .ok (.aload_n 0, 1) := dk_42 (dk_at dksX6_init_0 20 rfl rfl)
theorem dX6_init_21 : decode cX6_init 21 = .ok (.iload_n 2, 1) := dk_28 (dk_at dksX6_init_0 21 rfl rfl)
theorem dX6_init_22 : decode cX6_init 22 = .ok (.putfield 22, 3) := dk_181 0 22 (dk_at dksX6_init_1 0 rfl rfl)
theorem dX6_init_25 : decode cX6_init 25 = .ok (.aload_n 0, 1) := dk_42 (dk_at dksX6_init_1 3 rfl rfl)
theorem dX6_init_26 : decode cX6_init 26 = .ok (.aload_n 3, 1) := dk_45 (dk_at dksX6_init_1 4 rfl rfl)
theorem dX6_init_27 : decode cX6_init 27 = .ok (.putfield 26, 3) := dk_181 0 26 (dk_at dksX6_init_1 5 rfl rfl)
theorem dX6_init_30 : decode cX6_init 30 = .ok (.return_, 1) := dk_177 (dk_at dksX6_init_1 8 rfl rfl)
abbrev cX6_read : ByteArray := prog_10_method_29_code
def yX6_read : MethodName := ⟨RX6, "read", "()LSoManyStairs$House;"⟩
def dkwX6_read_1 : List UInt8 := [182, 0, 93, 167, 255, 235, 42, 180, 0, 12, 176]
abbrev dktX6_read_1 : List UInt8 := dkwX6_read_1 ++ []
def dkwX6_read_0 : List UInt8 := [42, 182, 0, 90, 42, 180, 0, 40, 153, 0, 20, 42, 182, 1, 12, 42, 42, 16, 59, 182, 0, 210]
abbrev dktX6_read_0 : List UInt8 := dkwX6_read_0 ++ dktX6_read_1
theorem dksX6_read_0 : cX6_read.data.toList.drop 0 = dktX6_read_0 := by decide +kernel
theorem dksX6_read_1 : cX6_read.data.toList.drop 22 = dktX6_read_1 := dk_seg dksX6_read_0 22 rfl rfl
theorem dX6_read_0 : decode cX6_read 0 = .ok (.aload_n 0, 1) := dk_42 (dk_at dksX6_read_0 0 rfl rfl)
theorem dX6_read_1 : decode cX6_read 1 = .ok (.invokevirtual 90, 3) := dk_182 0 90 (dk_at dksX6_read_0 1 rfl rfl)
theorem dX6_read_4 : decode cX6_read 4 = .ok (.aload_n 0, 1) := dk_42 (dk_at dksX6_read_0 4 rfl rfl)
theorem dX6_read_5 : decode cX6_read 5 = .ok (.getfield 40, 3) := dk_180 0 40 (dk_at dksX6_read_0 5 rfl rfl)
theorem dX6_read_8 : decode cX6_read 8 = .ok (.ifCond .eq 20, 3) := dk_153 0 20 (dk_at dksX6_read_0 8 rfl rfl)
theorem dX6_read_11 : decode cX6_read 11 = .ok (.aload_n 0, 1) := dk_42 (dk_at dksX6_read_0 11 rfl rfl)
theorem dX6_read_12 : decode cX6_read 12 = .ok (.invokevirtual 268, 3) := dk_182 1 12 (dk_at dksX6_read_0 12 rfl rfl)
theorem dX6_read_15 : decode cX6_read 15 = .ok (.aload_n 0, 1) := dk_42 (dk_at dksX6_read_0 15 rfl rfl)
theorem dX6_read_16 : decode cX6_read 16 = .ok (.aload_n 0, 1) := dk_42 (dk_at dksX6_read_0 16 rfl rfl)
theorem dX6_read_17 : decode cX6_read 17 = .ok (.bipush 59, 2) := dk_16 59 (dk_at dksX6_read_0 17 rfl rfl)
theorem dX6_read_19 : decode cX6_read 19 = .ok (.invokevirtual 210, 3) := dk_182 0 210 (dk_at dksX6_read_0 19 rfl rfl)
theorem dX6_read_22 : decode cX6_read 22 = .ok (.invokevirtual 93, 3) := dk_182 0 93 (dk_at dksX6_read_1 0 rfl rfl)
theorem dX6_read_25 : decode cX6_read 25 = .ok (.goto (-21), 3) := dk_167 255 235 (dk_at dksX6_read_1 3 rfl rfl)
theorem dX6_read_28 : decode cX6_read 28 = .ok (.aload_n 0, 1) := dk_42 (dk_at dksX6_read_1 6 rfl rfl)
theorem dX6_read_29 : decode cX6_read 29 = .ok (.getfield 12, 3) := dk_180 0 12 (dk_at dksX6_read_1 7 rfl rfl)
theorem dX6_read_32 : decode cX6_read 32 = .ok (.areturn, 1) := dk_176 (dk_at dksX6_read_1 10 rfl rfl)
abbrev cX6_next : ByteArray := prog_10_method_6_code
def yX6_next : MethodName := ⟨RX6, "next", "()V"⟩
def dkwX6_next_6 : List UInt8 := [167, 0, 19, 42, 27, 184, 0, 56, 153, 0, 7, 6, 167, 0, 4, 7, 181, 0, 40, 177]
abbrev dktX6_next_6 : List UInt8 := dkwX6_next_6 ++ []
def dkwX6_next_5 : List UInt8 := [184, 0, 43, 153, 0, 10, 42, 182, 0, 47, 167, 0, 33, 27, 184, 0, 50, 153, 0, 10, 42, 182, 0, 53]
abbrev dktX6_next_5 : List UInt8 := dkwX6_next_5 ++ dktX6_next_6
def dkwX6_next_4 : List UInt8 := [181, 0, 30, 42, 180, 0, 33, 42, 180, 0, 22, 161, 0, 11, 42, 3, 181, 0, 40, 167, 0, 47, 27]
abbrev dktX6_next_4 : List UInt8 := dkwX6_next_4 ++ dktX6_next_5
def dkwX6_next_3 : List UInt8 := [180, 0, 33, 42, 180, 0, 22, 162, 0, 12, 42, 180, 0, 33, 4, 96, 167, 0, 7, 42, 180, 0, 33]
abbrev dktX6_next_3 : List UInt8 := dkwX6_next_3 ++ dktX6_next_4
def dkwX6_next_2 : List UInt8 := [180, 0, 33, 4, 96, 181, 0, 33, 167, 255, 209, 42, 42, 180, 0, 33, 182, 0, 36, 60, 42, 42]
abbrev dktX6_next_2 : List UInt8 := dkwX6_next_2 ++ dktX6_next_3
def dkwX6_next_1 : List UInt8 := [182, 0, 36, 16, 32, 159, 0, 16, 42, 42, 180, 0, 33, 182, 0, 36, 16, 10, 160, 0, 16, 42, 89]
abbrev dktX6_next_1 : List UInt8 := dkwX6_next_1 ++ dktX6_next_2
def dkwX6_next_0 : List UInt8 := [42, 42, 180, 0, 30, 181, 0, 33, 42, 180, 0, 33, 42, 180, 0, 22, 162, 0, 42, 42, 42, 180, 0, 33]
abbrev dktX6_next_0 : List UInt8 := dkwX6_next_0 ++ dktX6_next_1
theorem dksX6_next_0 : cX6_next.data.toList.drop 0 = dktX6_next_0 := by decide +kernel
theorem dksX6_next_1 : cX6_next.data.toList.drop 24 = dktX6_next_1 := dk_seg dksX6_next_0 24 rfl rfl
theorem dksX6_next_2 : cX6_next.data.toList.drop 47 = dktX6_next_2 := dk_seg dksX6_next_1 23 rfl rfl
theorem dksX6_next_3 : cX6_next.data.toList.drop 69 = dktX6_next_3 := dk_seg dksX6_next_2 22 rfl rfl
theorem dksX6_next_4 : cX6_next.data.toList.drop 92 = dktX6_next_4 := dk_seg dksX6_next_3 23 rfl rfl
theorem dksX6_next_5 : cX6_next.data.toList.drop 115 = dktX6_next_5 := dk_seg dksX6_next_4 23 rfl rfl
theorem dksX6_next_6 : cX6_next.data.toList.drop 139 = dktX6_next_6 := dk_seg dksX6_next_5 24 rfl rfl
theorem dX6_next_0 : decode cX6_next 0 = .ok (.aload_n 0, 1) := dk_42 (dk_at dksX6_next_0 0 rfl rfl)
theorem dX6_next_1 : decode cX6_next 1 = .ok (.aload_n 0, 1) := dk_42 (dk_at dksX6_next_0 1 rfl rfl)
theorem dX6_next_2 : decode cX6_next 2 = .ok (.getfield 30, 3) := dk_180 0 30 (dk_at dksX6_next_0 2 rfl rfl)
theorem dX6_next_5 : decode cX6_next 5 = .ok (.putfield 33, 3) := dk_181 0 33 (dk_at dksX6_next_0 5 rfl rfl)
theorem dX6_next_8 : decode cX6_next 8 = .ok (.aload_n 0, 1) := dk_42 (dk_at dksX6_next_0 8 rfl rfl)
theorem dX6_next_9 : decode cX6_next 9 = .ok (.getfield 33, 3) := dk_180 0 33 (dk_at dksX6_next_0 9 rfl rfl)
theorem dX6_next_12 : decode cX6_next 12 = .ok (.aload_n 0, 1) := dk_42 (dk_at dksX6_next_0 12 rfl rfl)
theorem dX6_next_13 : decode cX6_next 13 = .ok (.getfield 22, 3) := dk_180 0 22 (dk_at dksX6_next_0 13 rfl rfl)
theorem dX6_next_16 : decode cX6_next 16 = .ok (.if_icmp .ge 42, 3) := dk_162 0 42 (dk_at dksX6_next_0 16 rfl rfl)
theorem dX6_next_19 : decode cX6_next 19 = .ok (.aload_n 0, 1) := dk_42 (dk_at dksX6_next_0 19 rfl rfl)
theorem dX6_next_20 : decode cX6_next 20 = .ok (.aload_n 0, 1) := dk_42 (dk_at dksX6_next_0 20 rfl rfl)
theorem dX6_next_21 : decode cX6_next 21 = .ok (.getfield 33, 3) := dk_180 0 33 (dk_at dksX6_next_0 21 rfl rfl)
theorem dX6_next_24 : decode cX6_next 24 = .ok (.invokevirtual 36, 3) := dk_182 0 36 (dk_at dksX6_next_1 0 rfl rfl)
theorem dX6_next_27 : decode cX6_next 27 = .ok (.bipush 32, 2) := dk_16 32 (dk_at dksX6_next_1 3 rfl rfl)
theorem dX6_next_29 : decode cX6_next 29 = .ok (.if_icmp .eq 16, 3) := dk_159 0 16 (dk_at dksX6_next_1 5 rfl rfl)
theorem dX6_next_32 : decode cX6_next 32 = .ok (.aload_n 0, 1) := dk_42 (dk_at dksX6_next_1 8 rfl rfl)
theorem dX6_next_33 : decode cX6_next 33 = .ok (.aload_n 0, 1) := dk_42 (dk_at dksX6_next_1 9 rfl rfl)
theorem dX6_next_34 : decode cX6_next 34 = .ok (.getfield 33, 3) := dk_180 0 33 (dk_at dksX6_next_1 10 rfl rfl)
theorem dX6_next_37 : decode cX6_next 37 = .ok (.invokevirtual 36, 3) := dk_182 0 36 (dk_at dksX6_next_1 13 rfl rfl)
theorem dX6_next_40 : decode cX6_next 40 = .ok (.bipush 10, 2) := dk_16 10 (dk_at dksX6_next_1 16 rfl rfl)
theorem dX6_next_42 : decode cX6_next 42 = .ok (.if_icmp .ne 16, 3) := dk_160 0 16 (dk_at dksX6_next_1 18 rfl rfl)
theorem dX6_next_45 : decode cX6_next 45 = .ok (.aload_n 0, 1) := dk_42 (dk_at dksX6_next_1 21 rfl rfl)
theorem dX6_next_46 : decode cX6_next 46 = .ok (.dup, 1) := dk_89 (dk_at dksX6_next_1 22 rfl rfl)
theorem dX6_next_47 : decode cX6_next 47 = .ok (.getfield 33, 3) := dk_180 0 33 (dk_at dksX6_next_2 0 rfl rfl)
theorem dX6_next_50 : decode cX6_next 50 = .ok (.iconst 1, 1) := dk_4 (dk_at dksX6_next_2 3 rfl rfl)
theorem dX6_next_51 : decode cX6_next 51 = .ok (.iadd, 1) := dk_96 (dk_at dksX6_next_2 4 rfl rfl)
theorem dX6_next_52 : decode cX6_next 52 = .ok (.putfield 33, 3) := dk_181 0 33 (dk_at dksX6_next_2 5 rfl rfl)
theorem dX6_next_55 : decode cX6_next 55 = .ok (.goto (-47), 3) := dk_167 255 209 (dk_at dksX6_next_2 8 rfl rfl)
theorem dX6_next_58 : decode cX6_next 58 = .ok (.aload_n 0, 1) := dk_42 (dk_at dksX6_next_2 11 rfl rfl)
theorem dX6_next_59 : decode cX6_next 59 = .ok (.aload_n 0, 1) := dk_42 (dk_at dksX6_next_2 12 rfl rfl)
theorem dX6_next_60 : decode cX6_next 60 = .ok (.getfield 33, 3) := dk_180 0 33 (dk_at dksX6_next_2 13 rfl rfl)
theorem dX6_next_63 : decode cX6_next 63 = .ok (.invokevirtual 36, 3) := dk_182 0 36 (dk_at dksX6_next_2 16 rfl rfl)
theorem dX6_next_66 : decode cX6_next 66 = .ok (.istore_n 1, 1) := dk_60 (dk_at dksX6_next_2 19 rfl rfl)
theorem dX6_next_67 : decode cX6_next 67 = .ok (.aload_n 0, 1) := dk_42 (dk_at dksX6_next_2 20 rfl rfl)
theorem dX6_next_68 : decode cX6_next 68 = .ok (.aload_n 0, 1) := dk_42 (dk_at dksX6_next_2 21 rfl rfl)
theorem dX6_next_69 : decode cX6_next 69 = .ok (.getfield 33, 3) := dk_180 0 33 (dk_at dksX6_next_3 0 rfl rfl)
theorem dX6_next_72 : decode cX6_next 72 = .ok (.aload_n 0, 1) := dk_42 (dk_at dksX6_next_3 3 rfl rfl)
theorem dX6_next_73 : decode cX6_next 73 = .ok (.getfield 22, 3) := dk_180 0 22 (dk_at dksX6_next_3 4 rfl rfl)
theorem dX6_next_76 : decode cX6_next 76 = .ok (.if_icmp .ge 12, 3) := dk_162 0 12 (dk_at dksX6_next_3 7 rfl rfl)
theorem dX6_next_79 : decode cX6_next 79 = .ok (.aload_n 0, 1) := dk_42 (dk_at dksX6_next_3 10 rfl rfl)
theorem dX6_next_80 : decode cX6_next 80 = .ok (.getfield 33, 3) := dk_180 0 33 (dk_at dksX6_next_3 11 rfl rfl)
theorem dX6_next_83 : decode cX6_next 83 = .ok (.iconst 1, 1) := dk_4 (dk_at dksX6_next_3 14 rfl rfl)
theorem dX6_next_84 : decode cX6_next 84 = .ok (.iadd, 1) := dk_96 (dk_at dksX6_next_3 15 rfl rfl)
theorem dX6_next_85 : decode cX6_next 85 = .ok (.goto 7, 3) := dk_167 0 7 (dk_at dksX6_next_3 16 rfl rfl)
theorem dX6_next_88 : decode cX6_next 88 = .ok (.aload_n 0, 1) := dk_42 (dk_at dksX6_next_3 19 rfl rfl)
theorem dX6_next_89 : decode cX6_next 89 = .ok (.getfield 33, 3) := dk_180 0 33 (dk_at dksX6_next_3 20 rfl rfl)
theorem dX6_next_92 : decode cX6_next 92 = .ok (.putfield 30, 3) := dk_181 0 30 (dk_at dksX6_next_4 0 rfl rfl)
theorem dX6_next_95 : decode cX6_next 95 = .ok (.aload_n 0, 1) := dk_42 (dk_at dksX6_next_4 3 rfl rfl)
theorem dX6_next_96 : decode cX6_next 96 = .ok (.getfield 33, 3) := dk_180 0 33 (dk_at dksX6_next_4 4 rfl rfl)
theorem dX6_next_99 : decode cX6_next 99 = .ok (.aload_n 0, 1) := dk_42 (dk_at dksX6_next_4 7 rfl rfl)
theorem dX6_next_100 : decode cX6_next 100 = .ok (.getfield 22, 3) := dk_180 0 22 (dk_at dksX6_next_4 8 rfl rfl)
theorem dX6_next_103 : decode cX6_next 103 = .ok (.if_icmp .lt 11, 3) := dk_161 0 11 (dk_at dksX6_next_4 11 rfl rfl)
theorem dX6_next_106 : decode cX6_next 106 = .ok (.aload_n 0, 1) := dk_42 (dk_at dksX6_next_4 14 rfl rfl)
theorem dX6_next_107 : decode cX6_next 107 = .ok (.iconst 0, 1) := dk_3 (dk_at dksX6_next_4 15 rfl rfl)
theorem dX6_next_108 : decode cX6_next 108 = .ok (.putfield 40, 3) := dk_181 0 40 (dk_at dksX6_next_4 16 rfl rfl)
theorem dX6_next_111 : decode cX6_next 111 = .ok (.goto 47, 3) := dk_167 0 47 (dk_at dksX6_next_4 19 rfl rfl)
theorem dX6_next_114 : decode cX6_next 114 = .ok (.iload_n 1, 1) := dk_27 (dk_at dksX6_next_4 22 rfl rfl)
theorem dX6_next_115 : decode cX6_next 115 = .ok (.invokestatic 43, 3) := dk_184 0 43 (dk_at dksX6_next_5 0 rfl rfl)
theorem dX6_next_118 : decode cX6_next 118 = .ok (.ifCond .eq 10, 3) := dk_153 0 10 (dk_at dksX6_next_5 3 rfl rfl)
theorem dX6_next_121 : decode cX6_next 121 = .ok (.aload_n 0, 1) := dk_42 (dk_at dksX6_next_5 6 rfl rfl)
theorem dX6_next_122 : decode cX6_next 122 = .ok (.invokevirtual 47, 3) := dk_182 0 47 (dk_at dksX6_next_5 7 rfl rfl)
theorem dX6_next_125 : decode cX6_next 125 = .ok (.goto 33, 3) := dk_167 0 33 (dk_at dksX6_next_5 10 rfl rfl)
theorem dX6_next_128 : decode cX6_next 128 = .ok (.iload_n 1, 1) := dk_27 (dk_at dksX6_next_5 13 rfl rfl)
theorem dX6_next_129 : decode cX6_next 129 = .ok (.invokestatic 50, 3) := dk_184 0 50 (dk_at dksX6_next_5 14 rfl rfl)
theorem dX6_next_132 : decode cX6_next 132 = .ok (.ifCond .eq 10, 3) := dk_153 0 10 (dk_at dksX6_next_5 17 rfl rfl)
theorem dX6_next_135 : decode cX6_next 135 = .ok (.aload_n 0, 1) := dk_42 (dk_at dksX6_next_5 20 rfl rfl)
theorem dX6_next_136 : decode cX6_next 136 = .ok (.invokevirtual 53, 3) := dk_182 0 53 (dk_at dksX6_next_5 21 rfl rfl)
theorem dX6_next_139 : decode cX6_next 139 = .ok (.goto 19, 3) := dk_167 0 19 (dk_at dksX6_next_6 0 rfl rfl)
theorem dX6_next_142 : decode cX6_next 142 = .ok (.aload_n 0, 1) := dk_42 (dk_at dksX6_next_6 3 rfl rfl)
theorem dX6_next_143 : decode cX6_next 143 = .ok (.iload_n 1, 1) := dk_27 (dk_at dksX6_next_6 4 rfl rfl)
theorem dX6_next_144 : decode cX6_next 144 = .ok (.invokestatic 56, 3) := dk_184 0 56 (dk_at dksX6_next_6 5 rfl rfl)
theorem dX6_next_147 : decode cX6_next 147 = .ok (.ifCond .eq 7, 3) := dk_153 0 7 (dk_at dksX6_next_6 8 rfl rfl)
theorem dX6_next_150 : decode cX6_next 150 = .ok (.iconst 3, 1) := dk_6 (dk_at dksX6_next_6 11 rfl rfl)
theorem dX6_next_151 : decode cX6_next 151 = .ok (.goto 4, 3) := dk_167 0 4 (dk_at dksX6_next_6 12 rfl rfl)
theorem dX6_next_154 : decode cX6_next 154 = .ok (.iconst 4, 1) := dk_7 (dk_at dksX6_next_6 15 rfl rfl)
theorem dX6_next_155 : decode cX6_next 155 = .ok (.putfield 40, 3) := dk_181 0 40 (dk_at dksX6_next_6 16 rfl rfl)
theorem dX6_next_158 : decode cX6_next 158 = .ok (.return_, 1) := dk_177 (dk_at dksX6_next_6 19 rfl rfl)
abbrev cX6_sign : ByteArray := prog_10_method_2_code
def yX6_sign : MethodName := ⟨RX6, "sign", "(I)I"⟩
def dkwX6_sign_0 : List UInt8 := [27, 42, 180, 0, 22, 162, 0, 16, 42, 180, 0, 18, 27, 51, 17, 0, 255, 126, 167, 0, 4, 3, 172]
abbrev dktX6_sign_0 : List UInt8 := dkwX6_sign_0 ++ []
theorem dksX6_sign_0 : cX6_sign.data.toList.drop 0 = dktX6_sign_0 := by decide +kernel
theorem dX6_sign_0 : decode cX6_sign 0 = .ok (.iload_n 1, 1) := dk_27 (dk_at dksX6_sign_0 0 rfl rfl)
theorem dX6_sign_1 : decode cX6_sign 1 = .ok (.aload_n 0, 1) := dk_42 (dk_at dksX6_sign_0 1 rfl rfl)
theorem dX6_sign_2 : decode cX6_sign 2 = .ok (.getfield 22, 3) := dk_180 0 22 (dk_at dksX6_sign_0 2 rfl rfl)
theorem dX6_sign_5 : decode cX6_sign 5 = .ok (.if_icmp .ge 16, 3) := dk_162 0 16 (dk_at dksX6_sign_0 5 rfl rfl)
theorem dX6_sign_8 : decode cX6_sign 8 = .ok (.aload_n 0, 1) := dk_42 (dk_at dksX6_sign_0 8 rfl rfl)
theorem dX6_sign_9 : decode cX6_sign 9 = .ok (.getfield 18, 3) := dk_180 0 18 (dk_at dksX6_sign_0 9 rfl rfl)
theorem dX6_sign_12 : decode cX6_sign 12 = .ok (.iload_n 1, 1) := dk_27 (dk_at dksX6_sign_0 12 rfl rfl)
theorem dX6_sign_13 : decode cX6_sign 13 = .ok (.baload, 1) := dk_51 (dk_at dksX6_sign_0 13 rfl rfl)
theorem dX6_sign_14 : decode cX6_sign 14 = .ok (.sipush 255, 3) := dk_17 0 255 (dk_at dksX6_sign_0 14 rfl rfl)
theorem dX6_sign_17 : decode cX6_sign 17 = .ok (.iand, 1) := dk_126 (dk_at dksX6_sign_0 17 rfl rfl)
theorem dX6_sign_18 : decode cX6_sign 18 = .ok (.goto 4, 3) := dk_167 0 4 (dk_at dksX6_sign_0 18 rfl rfl)
theorem dX6_sign_21 : decode cX6_sign 21 = .ok (.iconst 0, 1) := dk_3 (dk_at dksX6_sign_0 21 rfl rfl)
theorem dX6_sign_22 : decode cX6_sign 22 = .ok (.ireturn, 1) := dk_172 (dk_at dksX6_sign_0 22 rfl rfl)
abbrev cX6_isLetter : ByteArray := prog_10_method_3_code
def yX6_isLetter : MethodName := ⟨RX6, "isLetter", "(I)Z"⟩
def dkwX6_isLetter_0 : List UInt8 := [26, 16, 97, 161, 0, 13, 26, 16, 122, 163, 0, 7, 4, 167, 0, 4, 3, 172]
abbrev dktX6_isLetter_0 : List UInt8 := dkwX6_isLetter_0 ++ []
theorem dksX6_isLetter_0 : cX6_isLetter.data.toList.drop 0 = dktX6_isLetter_0 := by decide +kernel
theorem dX6_isLetter_0 : decode cX6_isLetter 0 = .ok (.iload_n 0, 1) := dk_26 (dk_at dksX6_isLetter_0 0 rfl rfl)
theorem dX6_isLetter_1 : decode cX6_isLetter 1 = .ok (.bipush 97, 2) := dk_16 97 (dk_at dksX6_isLetter_0 1 rfl rfl)
theorem dX6_isLetter_3 : decode cX6_isLetter 3 = .ok (.if_icmp .lt 13, 3) := dk_161 0 13 (dk_at dksX6_isLetter_0 3 rfl rfl)
theorem dX6_isLetter_6 : decode cX6_isLetter 6 = .ok (.iload_n 0, 1) := dk_26 (dk_at dksX6_isLetter_0 6 rfl rfl)
theorem dX6_isLetter_7 : decode cX6_isLetter 7 = .ok (.bipush 122, 2) := dk_16 122 (dk_at dksX6_isLetter_0 7 rfl rfl)
theorem dX6_isLetter_9 : decode cX6_isLetter 9 = .ok (.if_icmp .gt 7, 3) := dk_163 0 7 (dk_at dksX6_isLetter_0 9 rfl rfl)
theorem dX6_isLetter_12 : decode cX6_isLetter 12 = .ok (.iconst 1, 1) := dk_4 (dk_at dksX6_isLetter_0 12 rfl rfl)
theorem dX6_isLetter_13 : decode cX6_isLetter 13 = .ok (.goto 4, 3) := dk_167 0 4 (dk_at dksX6_isLetter_0 13 rfl rfl)
theorem dX6_isLetter_16 : decode cX6_isLetter 16 = .ok (.iconst 0, 1) := dk_3 (dk_at dksX6_isLetter_0 16 rfl rfl)
theorem dX6_isLetter_17 : decode cX6_isLetter 17 = .ok (.ireturn, 1) := dk_172 (dk_at dksX6_isLetter_0 17 rfl rfl)
abbrev cX6_readWord : ByteArray := prog_10_method_7_code
def yX6_readWord : MethodName := ⟨RX6, "readWord", "()V"⟩
def dkwX6_readWord_4 : List UInt8 := [100, 16, 8, 164, 0, 8, 42, 7, 181, 0, 40, 177]
abbrev dktX6_readWord_4 : List UInt8 := dkwX6_readWord_4 ++ []
def dkwX6_readWord_3 : List UInt8 := [181, 0, 59, 42, 89, 180, 0, 30, 4, 96, 181, 0, 30, 167, 255, 190, 42, 180, 0, 30, 42, 180, 0, 33]
abbrev dktX6_readWord_3 : List UInt8 := dkwX6_readWord_3 ++ dktX6_readWord_4
def dkwX6_readWord_2 : List UInt8 := [42, 180, 0, 59, 16, 8, 121, 42, 42, 180, 0, 30, 182, 0, 36, 133, 129, 167, 0, 7, 42, 180, 0, 59]
abbrev dktX6_readWord_2 : List UInt8 := dkwX6_readWord_2 ++ dktX6_readWord_3
def dkwX6_readWord_1 : List UInt8 := [182, 0, 36, 184, 0, 43, 153, 0, 58, 42, 42, 180, 0, 30, 42, 180, 0, 33, 100, 16, 8, 162, 0, 23]
abbrev dktX6_readWord_1 : List UInt8 := dkwX6_readWord_1 ++ dktX6_readWord_2
def dkwX6_readWord_0 : List UInt8 := [42, 4, 181, 0, 40, 42, 9, 181, 0, 59, 42, 42, 180, 0, 33, 181, 0, 30, 42, 42, 180, 0, 30]
abbrev dktX6_readWord_0 : List UInt8 := dkwX6_readWord_0 ++ dktX6_readWord_1
theorem dksX6_readWord_0 : cX6_readWord.data.toList.drop 0 = dktX6_readWord_0 := by decide +kernel
theorem dksX6_readWord_1 : cX6_readWord.data.toList.drop 23 = dktX6_readWord_1 := dk_seg dksX6_readWord_0 23 rfl rfl
theorem dksX6_readWord_2 : cX6_readWord.data.toList.drop 47 = dktX6_readWord_2 := dk_seg dksX6_readWord_1 24 rfl rfl
theorem dksX6_readWord_3 : cX6_readWord.data.toList.drop 71 = dktX6_readWord_3 := dk_seg dksX6_readWord_2 24 rfl rfl
theorem dksX6_readWord_4 : cX6_readWord.data.toList.drop 95 = dktX6_readWord_4 := dk_seg dksX6_readWord_3 24 rfl rfl
theorem dX6_readWord_0 : decode cX6_readWord 0 = .ok (.aload_n 0, 1) := dk_42 (dk_at dksX6_readWord_0 0 rfl rfl)
theorem dX6_readWord_1 : decode cX6_readWord 1 = .ok (.iconst 1, 1) := dk_4 (dk_at dksX6_readWord_0 1 rfl rfl)
theorem dX6_readWord_2 : decode cX6_readWord 2 = .ok (.putfield 40, 3) := dk_181 0 40 (dk_at dksX6_readWord_0 2 rfl rfl)
theorem dX6_readWord_5 : decode cX6_readWord 5 = .ok (.aload_n 0, 1) := dk_42 (dk_at dksX6_readWord_0 5 rfl rfl)
theorem dX6_readWord_6 : decode cX6_readWord 6 = .ok (.lconst 0, 1) := dk_9 (dk_at dksX6_readWord_0 6 rfl rfl)
theorem dX6_readWord_7 : decode cX6_readWord 7 = .ok (.putfield 59, 3) := dk_181 0 59 (dk_at dksX6_readWord_0 7 rfl rfl)
theorem dX6_readWord_10 : decode cX6_readWord 10 = .ok (.aload_n 0, 1) := dk_42 (dk_at dksX6_readWord_0 10 rfl rfl)
theorem dX6_readWord_11 : decode cX6_readWord 11 = .ok (.aload_n 0, 1) := dk_42 (dk_at dksX6_readWord_0 11 rfl rfl)
theorem dX6_readWord_12 : decode cX6_readWord 12 = .ok (.getfield 33, 3) := dk_180 0 33 (dk_at dksX6_readWord_0 12 rfl rfl)
theorem dX6_readWord_15 : decode cX6_readWord 15 = .ok (.putfield 30, 3) := dk_181 0 30 (dk_at dksX6_readWord_0 15 rfl rfl)
theorem dX6_readWord_18 : decode cX6_readWord 18 = .ok (.aload_n 0, 1) := dk_42 (dk_at dksX6_readWord_0 18 rfl rfl)
theorem dX6_readWord_19 : decode cX6_readWord 19 = .ok (.aload_n 0, 1) := dk_42 (dk_at dksX6_readWord_0 19 rfl rfl)
theorem dX6_readWord_20 : decode cX6_readWord 20 = .ok (.getfield 30, 3) := dk_180 0 30 (dk_at dksX6_readWord_0 20 rfl rfl)
theorem dX6_readWord_23 : decode cX6_readWord 23 = .ok (.invokevirtual 36, 3) := dk_182 0 36 (dk_at dksX6_readWord_1 0 rfl rfl)
theorem dX6_readWord_26 : decode cX6_readWord 26 = .ok (.invokestatic 43, 3) := dk_184 0 43 (dk_at dksX6_readWord_1 3 rfl rfl)
theorem dX6_readWord_29 : decode cX6_readWord 29 = .ok (.ifCond .eq 58, 3) := dk_153 0 58 (dk_at dksX6_readWord_1 6 rfl rfl)
theorem dX6_readWord_32 : decode cX6_readWord 32 = .ok (.aload_n 0, 1) := dk_42 (dk_at dksX6_readWord_1 9 rfl rfl)
theorem dX6_readWord_33 : decode cX6_readWord 33 = .ok (.aload_n 0, 1) := dk_42 (dk_at dksX6_readWord_1 10 rfl rfl)
theorem dX6_readWord_34 : decode cX6_readWord 34 = .ok (.getfield 30, 3) := dk_180 0 30 (dk_at dksX6_readWord_1 11 rfl rfl)
theorem dX6_readWord_37 : decode cX6_readWord 37 = .ok (.aload_n 0, 1) := dk_42 (dk_at dksX6_readWord_1 14 rfl rfl)
theorem dX6_readWord_38 : decode cX6_readWord 38 = .ok (.getfield 33, 3) := dk_180 0 33 (dk_at dksX6_readWord_1 15 rfl rfl)
theorem dX6_readWord_41 : decode cX6_readWord 41 = .ok (.isub, 1) := dk_100 (dk_at dksX6_readWord_1 18 rfl rfl)
theorem dX6_readWord_42 : decode cX6_readWord 42 = .ok (.bipush 8, 2) := dk_16 8 (dk_at dksX6_readWord_1 19 rfl rfl)
theorem dX6_readWord_44 : decode cX6_readWord 44 = .ok (.if_icmp .ge 23, 3) := dk_162 0 23 (dk_at dksX6_readWord_1 21 rfl rfl)
theorem dX6_readWord_47 : decode cX6_readWord 47 = .ok (.aload_n 0, 1) := dk_42 (dk_at dksX6_readWord_2 0 rfl rfl)
theorem dX6_readWord_48 : decode cX6_readWord 48 = .ok (.getfield 59, 3) := dk_180 0 59 (dk_at dksX6_readWord_2 1 rfl rfl)
theorem dX6_readWord_51 : decode cX6_readWord 51 = .ok (.bipush 8, 2) := dk_16 8 (dk_at dksX6_readWord_2 4 rfl rfl)
theorem dX6_readWord_53 : decode cX6_readWord 53 = .ok (.lshl, 1) := dk_121 (dk_at dksX6_readWord_2 6 rfl rfl)
theorem dX6_readWord_54 : decode cX6_readWord 54 = .ok (.aload_n 0, 1) := dk_42 (dk_at dksX6_readWord_2 7 rfl rfl)
theorem dX6_readWord_55 : decode cX6_readWord 55 = .ok (.aload_n 0, 1) := dk_42 (dk_at dksX6_readWord_2 8 rfl rfl)
theorem dX6_readWord_56 : decode cX6_readWord 56 = .ok (.getfield 30, 3) := dk_180 0 30 (dk_at dksX6_readWord_2 9 rfl rfl)
theorem dX6_readWord_59 : decode cX6_readWord 59 = .ok (.invokevirtual 36, 3) := dk_182 0 36 (dk_at dksX6_readWord_2 12 rfl rfl)
theorem dX6_readWord_62 : decode cX6_readWord 62 = .ok (.i2l, 1) := dk_133 (dk_at dksX6_readWord_2 15 rfl rfl)
theorem dX6_readWord_63 : decode cX6_readWord 63 = .ok (.lor, 1) := dk_129 (dk_at dksX6_readWord_2 16 rfl rfl)
theorem dX6_readWord_64 : decode cX6_readWord 64 = .ok (.goto 7, 3) := dk_167 0 7 (dk_at dksX6_readWord_2 17 rfl rfl)
theorem dX6_readWord_67 : decode cX6_readWord 67 = .ok (.aload_n 0, 1) := dk_42 (dk_at dksX6_readWord_2 20 rfl rfl)
theorem dX6_readWord_68 : decode cX6_readWord 68 = .ok (.getfield 59, 3) := dk_180 0 59 (dk_at dksX6_readWord_2 21 rfl rfl)
theorem dX6_readWord_71 : decode cX6_readWord 71 = .ok (.putfield 59, 3) := dk_181 0 59 (dk_at dksX6_readWord_3 0 rfl rfl)
theorem dX6_readWord_74 : decode cX6_readWord 74 = .ok (.aload_n 0, 1) := dk_42 (dk_at dksX6_readWord_3 3 rfl rfl)
theorem dX6_readWord_75 : decode cX6_readWord 75 = .ok (.dup, 1) := dk_89 (dk_at dksX6_readWord_3 4 rfl rfl)
theorem dX6_readWord_76 : decode cX6_readWord 76 = .ok (.getfield 30, 3) := dk_180 0 30 (dk_at dksX6_readWord_3 5 rfl rfl)
theorem dX6_readWord_79 : decode cX6_readWord 79 = .ok (.iconst 1, 1) := dk_4 (dk_at dksX6_readWord_3 8 rfl rfl)
theorem dX6_readWord_80 : decode cX6_readWord 80 = .ok (.iadd, 1) := dk_96 (dk_at dksX6_readWord_3 9 rfl rfl)
theorem dX6_readWord_81 : decode cX6_readWord 81 = .ok (.putfield 30, 3) := dk_181 0 30 (dk_at dksX6_readWord_3 10 rfl rfl)
theorem dX6_readWord_84 : decode cX6_readWord 84 = .ok (.goto (-66), 3) := dk_167 255 190 (dk_at dksX6_readWord_3 13 rfl rfl)
theorem dX6_readWord_87 : decode cX6_readWord 87 = .ok (.aload_n 0, 1) := dk_42 (dk_at dksX6_readWord_3 16 rfl rfl)
theorem dX6_readWord_88 : decode cX6_readWord 88 = .ok (.getfield 30, 3) := dk_180 0 30 (dk_at dksX6_readWord_3 17 rfl rfl)
theorem dX6_readWord_91 : decode cX6_readWord 91 = .ok (.aload_n 0, 1) := dk_42 (dk_at dksX6_readWord_3 20 rfl rfl)
theorem dX6_readWord_92 : decode cX6_readWord 92 = .ok (.getfield 33, 3) := dk_180 0 33 (dk_at dksX6_readWord_3 21 rfl rfl)
theorem dX6_readWord_95 : decode cX6_readWord 95 = .ok (.isub, 1) := dk_100 (dk_at dksX6_readWord_4 0 rfl rfl)
theorem dX6_readWord_96 : decode cX6_readWord 96 = .ok (.bipush 8, 2) := dk_16 8 (dk_at dksX6_readWord_4 1 rfl rfl)
theorem dX6_readWord_98 : decode cX6_readWord 98 = .ok (.if_icmp .le 8, 3) := dk_164 0 8 (dk_at dksX6_readWord_4 3 rfl rfl)
theorem dX6_readWord_101 : decode cX6_readWord 101 = .ok (.aload_n 0, 1) := dk_42 (dk_at dksX6_readWord_4 6 rfl rfl)
theorem dX6_readWord_102 : decode cX6_readWord 102 = .ok (.iconst 4, 1) := dk_7 (dk_at dksX6_readWord_4 7 rfl rfl)
theorem dX6_readWord_103 : decode cX6_readWord 103 = .ok (.putfield 40, 3) := dk_181 0 40 (dk_at dksX6_readWord_4 8 rfl rfl)
theorem dX6_readWord_106 : decode cX6_readWord 106 = .ok (.return_, 1) := dk_177 (dk_at dksX6_readWord_4 11 rfl rfl)
abbrev cX6_isDigit : ByteArray := prog_10_method_4_code
def yX6_isDigit : MethodName := ⟨RX6, "isDigit", "(I)Z"⟩
def dkwX6_isDigit_0 : List UInt8 := [26, 16, 48, 161, 0, 13, 26, 16, 57, 163, 0, 7, 4, 167, 0, 4, 3, 172]
abbrev dktX6_isDigit_0 : List UInt8 := dkwX6_isDigit_0 ++ []
theorem dksX6_isDigit_0 : cX6_isDigit.data.toList.drop 0 = dktX6_isDigit_0 := by decide +kernel
theorem dX6_isDigit_0 : decode cX6_isDigit 0 = .ok (.iload_n 0, 1) := dk_26 (dk_at dksX6_isDigit_0 0 rfl rfl)
theorem dX6_isDigit_1 : decode cX6_isDigit 1 = .ok (.bipush 48, 2) := dk_16 48 (dk_at dksX6_isDigit_0 1 rfl rfl)
theorem dX6_isDigit_3 : decode cX6_isDigit 3 = .ok (.if_icmp .lt 13, 3) := dk_161 0 13 (dk_at dksX6_isDigit_0 3 rfl rfl)
theorem dX6_isDigit_6 : decode cX6_isDigit 6 = .ok (.iload_n 0, 1) := dk_26 (dk_at dksX6_isDigit_0 6 rfl rfl)
theorem dX6_isDigit_7 : decode cX6_isDigit 7 = .ok (.bipush 57, 2) := dk_16 57 (dk_at dksX6_isDigit_0 7 rfl rfl)
theorem dX6_isDigit_9 : decode cX6_isDigit 9 = .ok (.if_icmp .gt 7, 3) := dk_163 0 7 (dk_at dksX6_isDigit_0 9 rfl rfl)
theorem dX6_isDigit_12 : decode cX6_isDigit 12 = .ok (.iconst 1, 1) := dk_4 (dk_at dksX6_isDigit_0 12 rfl rfl)
theorem dX6_isDigit_13 : decode cX6_isDigit 13 = .ok (.goto 4, 3) := dk_167 0 4 (dk_at dksX6_isDigit_0 13 rfl rfl)
theorem dX6_isDigit_16 : decode cX6_isDigit 16 = .ok (.iconst 0, 1) := dk_3 (dk_at dksX6_isDigit_0 16 rfl rfl)
theorem dX6_isDigit_17 : decode cX6_isDigit 17 = .ok (.ireturn, 1) := dk_172 (dk_at dksX6_isDigit_0 17 rfl rfl)
abbrev cX6_readNumber : ByteArray := prog_10_method_8_code
def yX6_readNumber : MethodName := ⟨RX6, "readNumber", "()V"⟩
def dkwX6_readNumber_5 : List UInt8 := [181, 0, 40, 177]
abbrev dktX6_readNumber_5 : List UInt8 := dkwX6_readNumber_5 ++ []
def dkwX6_readNumber_4 : List UInt8 := [180, 0, 33, 100, 7, 163, 0, 17, 42, 42, 180, 0, 30, 182, 0, 36, 184, 0, 43, 153, 0, 8, 42, 7]
abbrev dktX6_readNumber_4 : List UInt8 := dkwX6_readNumber_4 ++ dktX6_readNumber_5
def dkwX6_readNumber_3 : List UInt8 := [180, 0, 63, 181, 0, 63, 42, 89, 180, 0, 30, 4, 96, 181, 0, 30, 167, 255, 189, 42, 180, 0, 30, 42]
abbrev dktX6_readNumber_3 : List UInt8 := dkwX6_readNumber_3 ++ dktX6_readNumber_4
def dkwX6_readNumber_2 : List UInt8 := [16, 10, 42, 180, 0, 63, 104, 42, 42, 180, 0, 30, 182, 0, 36, 96, 16, 48, 100, 167, 0, 7, 42]
abbrev dktX6_readNumber_2 : List UInt8 := dkwX6_readNumber_2 ++ dktX6_readNumber_3
def dkwX6_readNumber_1 : List UInt8 := [182, 0, 36, 184, 0, 50, 153, 0, 59, 42, 42, 180, 0, 30, 42, 180, 0, 33, 100, 7, 162, 0, 25]
abbrev dktX6_readNumber_1 : List UInt8 := dkwX6_readNumber_1 ++ dktX6_readNumber_2
def dkwX6_readNumber_0 : List UInt8 := [42, 5, 181, 0, 40, 42, 3, 181, 0, 63, 42, 42, 180, 0, 33, 181, 0, 30, 42, 42, 180, 0, 30]
abbrev dktX6_readNumber_0 : List UInt8 := dkwX6_readNumber_0 ++ dktX6_readNumber_1
theorem dksX6_readNumber_0 : cX6_readNumber.data.toList.drop 0 = dktX6_readNumber_0 := by decide +kernel
theorem dksX6_readNumber_1 : cX6_readNumber.data.toList.drop 23 = dktX6_readNumber_1 := dk_seg dksX6_readNumber_0 23 rfl rfl
theorem dksX6_readNumber_2 : cX6_readNumber.data.toList.drop 46 = dktX6_readNumber_2 := dk_seg dksX6_readNumber_1 23 rfl rfl
theorem dksX6_readNumber_3 : cX6_readNumber.data.toList.drop 69 = dktX6_readNumber_3 := dk_seg dksX6_readNumber_2 23 rfl rfl
theorem dksX6_readNumber_4 : cX6_readNumber.data.toList.drop 93 = dktX6_readNumber_4 := dk_seg dksX6_readNumber_3 24 rfl rfl
theorem dksX6_readNumber_5 : cX6_readNumber.data.toList.drop 117 = dktX6_readNumber_5 := dk_seg dksX6_readNumber_4 24 rfl rfl
theorem dX6_readNumber_0 : decode cX6_readNumber 0 = .ok (.aload_n 0, 1) := dk_42 (dk_at dksX6_readNumber_0 0 rfl rfl)
theorem dX6_readNumber_1 : decode cX6_readNumber 1 = .ok (.iconst 2, 1) := dk_5 (dk_at dksX6_readNumber_0 1 rfl rfl)
theorem dX6_readNumber_2 : decode cX6_readNumber 2 = .ok (.putfield 40, 3) := dk_181 0 40 (dk_at dksX6_readNumber_0 2 rfl rfl)
theorem dX6_readNumber_5 : decode cX6_readNumber 5 = .ok (.aload_n 0, 1) := dk_42 (dk_at dksX6_readNumber_0 5 rfl rfl)
theorem dX6_readNumber_6 : decode cX6_readNumber 6 = .ok (.iconst 0, 1) := dk_3 (dk_at dksX6_readNumber_0 6 rfl rfl)
theorem dX6_readNumber_7 : decode cX6_readNumber 7 = .ok (.putfield 63, 3) := dk_181 0 63 (dk_at dksX6_readNumber_0 7 rfl rfl)
theorem dX6_readNumber_10 : decode cX6_readNumber 10 = .ok (.aload_n 0, 1) := dk_42 (dk_at dksX6_readNumber_0 10 rfl rfl)
theorem dX6_readNumber_11 : decode cX6_readNumber 11 = .ok (.aload_n 0, 1) := dk_42 (dk_at dksX6_readNumber_0 11 rfl rfl)
theorem dX6_readNumber_12 : decode cX6_readNumber 12 = .ok (.getfield 33, 3) := dk_180 0 33 (dk_at dksX6_readNumber_0 12 rfl rfl)
theorem dX6_readNumber_15 : decode cX6_readNumber 15 = .ok (.putfield 30, 3) := dk_181 0 30 (dk_at dksX6_readNumber_0 15 rfl rfl)
theorem dX6_readNumber_18 : decode cX6_readNumber 18 = .ok (.aload_n 0, 1) := dk_42 (dk_at dksX6_readNumber_0 18 rfl rfl)
theorem dX6_readNumber_19 : decode cX6_readNumber 19 = .ok (.aload_n 0, 1) := dk_42 (dk_at dksX6_readNumber_0 19 rfl rfl)
theorem dX6_readNumber_20 : decode cX6_readNumber 20 = .ok (.getfield 30, 3) := dk_180 0 30 (dk_at dksX6_readNumber_0 20 rfl rfl)
theorem dX6_readNumber_23 : decode cX6_readNumber 23 = .ok (.invokevirtual 36, 3) := dk_182 0 36 (dk_at dksX6_readNumber_1 0 rfl rfl)
theorem dX6_readNumber_26 : decode cX6_readNumber 26 = .ok (.invokestatic 50, 3) := dk_184 0 50 (dk_at dksX6_readNumber_1 3 rfl rfl)
theorem dX6_readNumber_29 : decode cX6_readNumber 29 = .ok (.ifCond .eq 59, 3) := dk_153 0 59 (dk_at dksX6_readNumber_1 6 rfl rfl)
theorem dX6_readNumber_32 : decode cX6_readNumber 32 = .ok (.aload_n 0, 1) := dk_42 (dk_at dksX6_readNumber_1 9 rfl rfl)
theorem dX6_readNumber_33 : decode cX6_readNumber 33 = .ok (.aload_n 0, 1) := dk_42 (dk_at dksX6_readNumber_1 10 rfl rfl)
theorem dX6_readNumber_34 : decode cX6_readNumber 34 = .ok (.getfield 30, 3) := dk_180 0 30 (dk_at dksX6_readNumber_1 11 rfl rfl)
theorem dX6_readNumber_37 : decode cX6_readNumber 37 = .ok (.aload_n 0, 1) := dk_42 (dk_at dksX6_readNumber_1 14 rfl rfl)
theorem dX6_readNumber_38 : decode cX6_readNumber 38 = .ok (.getfield 33, 3) := dk_180 0 33 (dk_at dksX6_readNumber_1 15 rfl rfl)
theorem dX6_readNumber_41 : decode cX6_readNumber 41 = .ok (.isub, 1) := dk_100 (dk_at dksX6_readNumber_1 18 rfl rfl)
theorem dX6_readNumber_42 : decode cX6_readNumber 42 = .ok (.iconst 4, 1) := dk_7 (dk_at dksX6_readNumber_1 19 rfl rfl)
theorem dX6_readNumber_43 : decode cX6_readNumber 43 = .ok (.if_icmp .ge 25, 3) := dk_162 0 25 (dk_at dksX6_readNumber_1 20 rfl rfl)
theorem dX6_readNumber_46 : decode cX6_readNumber 46 = .ok (.bipush 10, 2) := dk_16 10 (dk_at dksX6_readNumber_2 0 rfl rfl)
theorem dX6_readNumber_48 : decode cX6_readNumber 48 = .ok (.aload_n 0, 1) := dk_42 (dk_at dksX6_readNumber_2 2 rfl rfl)
theorem dX6_readNumber_49 : decode cX6_readNumber 49 = .ok (.getfield 63, 3) := dk_180 0 63 (dk_at dksX6_readNumber_2 3 rfl rfl)
theorem dX6_readNumber_52 : decode cX6_readNumber 52 = .ok (.imul, 1) := dk_104 (dk_at dksX6_readNumber_2 6 rfl rfl)
theorem dX6_readNumber_53 : decode cX6_readNumber 53 = .ok (.aload_n 0, 1) := dk_42 (dk_at dksX6_readNumber_2 7 rfl rfl)
theorem dX6_readNumber_54 : decode cX6_readNumber 54 = .ok (.aload_n 0, 1) := dk_42 (dk_at dksX6_readNumber_2 8 rfl rfl)
theorem dX6_readNumber_55 : decode cX6_readNumber 55 = .ok (.getfield 30, 3) := dk_180 0 30 (dk_at dksX6_readNumber_2 9 rfl rfl)
theorem dX6_readNumber_58 : decode cX6_readNumber 58 = .ok (.invokevirtual 36, 3) := dk_182 0 36 (dk_at dksX6_readNumber_2 12 rfl rfl)
theorem dX6_readNumber_61 : decode cX6_readNumber 61 = .ok (.iadd, 1) := dk_96 (dk_at dksX6_readNumber_2 15 rfl rfl)
theorem dX6_readNumber_62 : decode cX6_readNumber 62 = .ok (.bipush 48, 2) := dk_16 48 (dk_at dksX6_readNumber_2 16 rfl rfl)
theorem dX6_readNumber_64 : decode cX6_readNumber 64 = .ok (.isub, 1) := dk_100 (dk_at dksX6_readNumber_2 18 rfl rfl)
theorem dX6_readNumber_65 : decode cX6_readNumber 65 = .ok (.goto 7, 3) := dk_167 0 7 (dk_at dksX6_readNumber_2 19 rfl rfl)
theorem dX6_readNumber_68 : decode cX6_readNumber 68 = .ok (.aload_n 0, 1) := dk_42 (dk_at dksX6_readNumber_2 22 rfl rfl)
theorem dX6_readNumber_69 : decode cX6_readNumber 69 = .ok (.getfield 63, 3) := dk_180 0 63 (dk_at dksX6_readNumber_3 0 rfl rfl)
theorem dX6_readNumber_72 : decode cX6_readNumber 72 = .ok (.putfield 63, 3) := dk_181 0 63 (dk_at dksX6_readNumber_3 3 rfl rfl)
theorem dX6_readNumber_75 : decode cX6_readNumber 75 = .ok (.aload_n 0, 1) := dk_42 (dk_at dksX6_readNumber_3 6 rfl rfl)
theorem dX6_readNumber_76 : decode cX6_readNumber 76 = .ok (.dup, 1) := dk_89 (dk_at dksX6_readNumber_3 7 rfl rfl)
theorem dX6_readNumber_77 : decode cX6_readNumber 77 = .ok (.getfield 30, 3) := dk_180 0 30 (dk_at dksX6_readNumber_3 8 rfl rfl)
theorem dX6_readNumber_80 : decode cX6_readNumber 80 = .ok (.iconst 1, 1) := dk_4 (dk_at dksX6_readNumber_3 11 rfl rfl)
theorem dX6_readNumber_81 : decode cX6_readNumber 81 = .ok (.iadd, 1) := dk_96 (dk_at dksX6_readNumber_3 12 rfl rfl)
theorem dX6_readNumber_82 : decode cX6_readNumber 82 = .ok (.putfield 30, 3) := dk_181 0 30 (dk_at dksX6_readNumber_3 13 rfl rfl)
theorem dX6_readNumber_85 : decode cX6_readNumber 85 = .ok (.goto (-67), 3) := dk_167 255 189 (dk_at dksX6_readNumber_3 16 rfl rfl)
theorem dX6_readNumber_88 : decode cX6_readNumber 88 = .ok (.aload_n 0, 1) := dk_42 (dk_at dksX6_readNumber_3 19 rfl rfl)
theorem dX6_readNumber_89 : decode cX6_readNumber 89 = .ok (.getfield 30, 3) := dk_180 0 30 (dk_at dksX6_readNumber_3 20 rfl rfl)
theorem dX6_readNumber_92 : decode cX6_readNumber 92 = .ok (.aload_n 0, 1) := dk_42 (dk_at dksX6_readNumber_3 23 rfl rfl)
theorem dX6_readNumber_93 : decode cX6_readNumber 93 = .ok (.getfield 33, 3) := dk_180 0 33 (dk_at dksX6_readNumber_4 0 rfl rfl)
theorem dX6_readNumber_96 : decode cX6_readNumber 96 = .ok (.isub, 1) := dk_100 (dk_at dksX6_readNumber_4 3 rfl rfl)
theorem dX6_readNumber_97 : decode cX6_readNumber 97 = .ok (.iconst 4, 1) := dk_7 (dk_at dksX6_readNumber_4 4 rfl rfl)
theorem dX6_readNumber_98 : decode cX6_readNumber 98 = .ok (.if_icmp .gt 17, 3) := dk_163 0 17 (dk_at dksX6_readNumber_4 5 rfl rfl)
theorem dX6_readNumber_101 : decode cX6_readNumber 101 = .ok (.aload_n 0, 1) := dk_42 (dk_at dksX6_readNumber_4 8 rfl rfl)
theorem dX6_readNumber_102 : decode cX6_readNumber 102 = .ok (.aload_n 0, 1) := dk_42 (dk_at dksX6_readNumber_4 9 rfl rfl)
theorem dX6_readNumber_103 : decode cX6_readNumber 103 = .ok (.getfield 30, 3) := dk_180 0 30 (dk_at dksX6_readNumber_4 10 rfl rfl)
theorem dX6_readNumber_106 : decode cX6_readNumber 106 = .ok (.invokevirtual 36, 3) := dk_182 0 36 (dk_at dksX6_readNumber_4 13 rfl rfl)
theorem dX6_readNumber_109 : decode cX6_readNumber 109 = .ok (.invokestatic 43, 3) := dk_184 0 43 (dk_at dksX6_readNumber_4 16 rfl rfl)
theorem dX6_readNumber_112 : decode cX6_readNumber 112 = .ok (.ifCond .eq 8, 3) := dk_153 0 8 (dk_at dksX6_readNumber_4 19 rfl rfl)
theorem dX6_readNumber_115 : decode cX6_readNumber 115 = .ok (.aload_n 0, 1) := dk_42 (dk_at dksX6_readNumber_4 22 rfl rfl)
theorem dX6_readNumber_116 : decode cX6_readNumber 116 = .ok (.iconst 4, 1) := dk_7 (dk_at dksX6_readNumber_4 23 rfl rfl)
theorem dX6_readNumber_117 : decode cX6_readNumber 117 = .ok (.putfield 40, 3) := dk_181 0 40 (dk_at dksX6_readNumber_5 0 rfl rfl)
theorem dX6_readNumber_120 : decode cX6_readNumber 120 = .ok (.return_, 1) := dk_177 (dk_at dksX6_readNumber_5 3 rfl rfl)
abbrev cX6_isSign : ByteArray := prog_10_method_5_code
def yX6_isSign : MethodName := ⟨RX6, "isSign", "(I)Z"⟩
def dkwX6_isSign_2 : List UInt8 := [26, 16, 42, 159, 0, 15, 26, 16, 47, 159, 0, 9, 26, 16, 37, 160, 0, 7, 4, 167, 0, 4, 3, 172]
abbrev dktX6_isSign_2 : List UInt8 := dkwX6_isSign_2 ++ []
def dkwX6_isSign_1 : List UInt8 := [26, 16, 62, 159, 0, 39, 26, 16, 61, 159, 0, 33, 26, 16, 43, 159, 0, 27, 26, 16, 45, 159, 0, 21]
abbrev dktX6_isSign_1 : List UInt8 := dkwX6_isSign_1 ++ dktX6_isSign_2
def dkwX6_isSign_0 : List UInt8 := [26, 16, 59, 159, 0, 63, 26, 16, 40, 159, 0, 57, 26, 16, 41, 159, 0, 51, 26, 16, 60, 159, 0, 45]
abbrev dktX6_isSign_0 : List UInt8 := dkwX6_isSign_0 ++ dktX6_isSign_1
theorem dksX6_isSign_0 : cX6_isSign.data.toList.drop 0 = dktX6_isSign_0 := by decide +kernel
theorem dksX6_isSign_1 : cX6_isSign.data.toList.drop 24 = dktX6_isSign_1 := dk_seg dksX6_isSign_0 24 rfl rfl
theorem dksX6_isSign_2 : cX6_isSign.data.toList.drop 48 = dktX6_isSign_2 := dk_seg dksX6_isSign_1 24 rfl rfl
theorem dX6_isSign_0 : decode cX6_isSign 0 = .ok (.iload_n 0, 1) := dk_26 (dk_at dksX6_isSign_0 0 rfl rfl)
theorem dX6_isSign_1 : decode cX6_isSign 1 = .ok (.bipush 59, 2) := dk_16 59 (dk_at dksX6_isSign_0 1 rfl rfl)
theorem dX6_isSign_3 : decode cX6_isSign 3 = .ok (.if_icmp .eq 63, 3) := dk_159 0 63 (dk_at dksX6_isSign_0 3 rfl rfl)
theorem dX6_isSign_6 : decode cX6_isSign 6 = .ok (.iload_n 0, 1) := dk_26 (dk_at dksX6_isSign_0 6 rfl rfl)
theorem dX6_isSign_7 : decode cX6_isSign 7 = .ok (.bipush 40, 2) := dk_16 40 (dk_at dksX6_isSign_0 7 rfl rfl)
theorem dX6_isSign_9 : decode cX6_isSign 9 = .ok (.if_icmp .eq 57, 3) := dk_159 0 57 (dk_at dksX6_isSign_0 9 rfl rfl)
theorem dX6_isSign_12 : decode cX6_isSign 12 = .ok (.iload_n 0, 1) := dk_26 (dk_at dksX6_isSign_0 12 rfl rfl)
theorem dX6_isSign_13 : decode cX6_isSign 13 = .ok (.bipush 41, 2) := dk_16 41 (dk_at dksX6_isSign_0 13 rfl rfl)
theorem dX6_isSign_15 : decode cX6_isSign 15 = .ok (.if_icmp .eq 51, 3) := dk_159 0 51 (dk_at dksX6_isSign_0 15 rfl rfl)
theorem dX6_isSign_18 : decode cX6_isSign 18 = .ok (.iload_n 0, 1) := dk_26 (dk_at dksX6_isSign_0 18 rfl rfl)
theorem dX6_isSign_19 : decode cX6_isSign 19 = .ok (.bipush 60, 2) := dk_16 60 (dk_at dksX6_isSign_0 19 rfl rfl)
theorem dX6_isSign_21 : decode cX6_isSign 21 = .ok (.if_icmp .eq 45, 3) := dk_159 0 45 (dk_at dksX6_isSign_0 21 rfl rfl)
theorem dX6_isSign_24 : decode cX6_isSign 24 = .ok (.iload_n 0, 1) := dk_26 (dk_at dksX6_isSign_1 0 rfl rfl)
theorem dX6_isSign_25 : decode cX6_isSign 25 = .ok (.bipush 62, 2) := dk_16 62 (dk_at dksX6_isSign_1 1 rfl rfl)
theorem dX6_isSign_27 : decode cX6_isSign 27 = .ok (.if_icmp .eq 39, 3) := dk_159 0 39 (dk_at dksX6_isSign_1 3 rfl rfl)
theorem dX6_isSign_30 : decode cX6_isSign 30 = .ok (.iload_n 0, 1) := dk_26 (dk_at dksX6_isSign_1 6 rfl rfl)
theorem dX6_isSign_31 : decode cX6_isSign 31 = .ok (.bipush 61, 2) := dk_16 61 (dk_at dksX6_isSign_1 7 rfl rfl)
theorem dX6_isSign_33 : decode cX6_isSign 33 = .ok (.if_icmp .eq 33, 3) := dk_159 0 33 (dk_at dksX6_isSign_1 9 rfl rfl)
theorem dX6_isSign_36 : decode cX6_isSign 36 = .ok (.iload_n 0, 1) := dk_26 (dk_at dksX6_isSign_1 12 rfl rfl)
theorem dX6_isSign_37 : decode cX6_isSign 37 = .ok (.bipush 43, 2) := dk_16 43 (dk_at dksX6_isSign_1 13 rfl rfl)
theorem dX6_isSign_39 : decode cX6_isSign 39 = .ok (.if_icmp .eq 27, 3) := dk_159 0 27 (dk_at dksX6_isSign_1 15 rfl rfl)
theorem dX6_isSign_42 : decode cX6_isSign 42 = .ok (.iload_n 0, 1) := dk_26 (dk_at dksX6_isSign_1 18 rfl rfl)
theorem dX6_isSign_43 : decode cX6_isSign 43 = .ok (.bipush 45, 2) := dk_16 45 (dk_at dksX6_isSign_1 19 rfl rfl)
theorem dX6_isSign_45 : decode cX6_isSign 45 = .ok (.if_icmp .eq 21, 3) := dk_159 0 21 (dk_at dksX6_isSign_1 21 rfl rfl)
theorem dX6_isSign_48 : decode cX6_isSign 48 = .ok (.iload_n 0, 1) := dk_26 (dk_at dksX6_isSign_2 0 rfl rfl)
theorem dX6_isSign_49 : decode cX6_isSign 49 = .ok (.bipush 42, 2) := dk_16 42 (dk_at dksX6_isSign_2 1 rfl rfl)
theorem dX6_isSign_51 : decode cX6_isSign 51 = .ok (.if_icmp .eq 15, 3) := dk_159 0 15 (dk_at dksX6_isSign_2 3 rfl rfl)
theorem dX6_isSign_54 : decode cX6_isSign 54 = .ok (.iload_n 0, 1) := dk_26 (dk_at dksX6_isSign_2 6 rfl rfl)
theorem dX6_isSign_55 : decode cX6_isSign 55 = .ok (.bipush 47, 2) := dk_16 47 (dk_at dksX6_isSign_2 7 rfl rfl)
theorem dX6_isSign_57 : decode cX6_isSign 57 = .ok (.if_icmp .eq 9, 3) := dk_159 0 9 (dk_at dksX6_isSign_2 9 rfl rfl)
theorem dX6_isSign_60 : decode cX6_isSign 60 = .ok (.iload_n 0, 1) := dk_26 (dk_at dksX6_isSign_2 12 rfl rfl)
theorem dX6_isSign_61 : decode cX6_isSign 61 = .ok (.bipush 37, 2) := dk_16 37 (dk_at dksX6_isSign_2 13 rfl rfl)
theorem dX6_isSign_63 : decode cX6_isSign 63 = .ok (.if_icmp .ne 7, 3) := dk_160 0 7 (dk_at dksX6_isSign_2 15 rfl rfl)
theorem dX6_isSign_66 : decode cX6_isSign 66 = .ok (.iconst 1, 1) := dk_4 (dk_at dksX6_isSign_2 18 rfl rfl)
theorem dX6_isSign_67 : decode cX6_isSign 67 = .ok (.goto 4, 3) := dk_167 0 4 (dk_at dksX6_isSign_2 19 rfl rfl)
theorem dX6_isSign_70 : decode cX6_isSign 70 = .ok (.iconst 0, 1) := dk_3 (dk_at dksX6_isSign_2 22 rfl rfl)
theorem dX6_isSign_71 : decode cX6_isSign 71 = .ok (.ireturn, 1) := dk_172 (dk_at dksX6_isSign_2 23 rfl rfl)
abbrev cX6_line : ByteArray := prog_10_method_28_code
def yX6_line : MethodName := ⟨RX6, "line", "()V"⟩
def dkwX6_line_5 : List UInt8 := [181, 0, 252, 42, 180, 0, 12, 42, 3, 17, 3, 231, 182, 0, 97, 181, 1, 10, 177]
abbrev dktX6_line_5 : List UInt8 := dkwX6_line_5 ++ []
def dkwX6_line_4 : List UInt8 := [180, 0, 12, 42, 182, 1, 7, 181, 0, 248, 167, 0, 30, 42, 182, 0, 90, 42, 180, 0, 12, 4]
abbrev dktX6_line_4 : List UInt8 := dkwX6_line_4 ++ dktX6_line_5
def dkwX6_line_3 : List UInt8 := [180, 0, 12, 42, 182, 1, 7, 181, 0, 243, 167, 0, 53, 42, 18, 246, 182, 0, 105, 153, 0, 17, 42]
abbrev dktX6_line_3 : List UInt8 := dkwX6_line_3 ++ dktX6_line_4
def dkwX6_line_2 : List UInt8 := [182, 0, 105, 153, 0, 10, 42, 182, 1, 5, 167, 0, 76, 42, 18, 241, 182, 0, 105, 153, 0, 17, 42]
abbrev dktX6_line_2 : List UInt8 := dkwX6_line_2 ++ dktX6_line_3
def dkwX6_line_1 : List UInt8 := [181, 0, 234, 42, 18, 233, 182, 0, 105, 153, 0, 10, 42, 182, 1, 3, 167, 0, 92, 42, 18, 237]
abbrev dktX6_line_1 : List UInt8 := dkwX6_line_1 ++ dktX6_line_2
def dkwX6_line_0 : List UInt8 := [42, 182, 1, 0, 154, 0, 8, 42, 182, 0, 86, 191, 42, 180, 0, 12, 89, 180, 0, 234, 4, 96]
abbrev dktX6_line_0 : List UInt8 := dkwX6_line_0 ++ dktX6_line_1
theorem dksX6_line_0 : cX6_line.data.toList.drop 0 = dktX6_line_0 := by decide +kernel
theorem dksX6_line_1 : cX6_line.data.toList.drop 22 = dktX6_line_1 := dk_seg dksX6_line_0 22 rfl rfl
theorem dksX6_line_2 : cX6_line.data.toList.drop 44 = dktX6_line_2 := dk_seg dksX6_line_1 22 rfl rfl
theorem dksX6_line_3 : cX6_line.data.toList.drop 67 = dktX6_line_3 := dk_seg dksX6_line_2 23 rfl rfl
theorem dksX6_line_4 : cX6_line.data.toList.drop 90 = dktX6_line_4 := dk_seg dksX6_line_3 23 rfl rfl
theorem dksX6_line_5 : cX6_line.data.toList.drop 112 = dktX6_line_5 := dk_seg dksX6_line_4 22 rfl rfl
theorem dX6_line_0 : decode cX6_line 0 = .ok (.aload_n 0, 1) := dk_42 (dk_at dksX6_line_0 0 rfl rfl)
theorem dX6_line_1 : decode cX6_line 1 = .ok (.invokevirtual 256, 3) := dk_182 1 0 (dk_at dksX6_line_0 1 rfl rfl)
theorem dX6_line_4 : decode cX6_line 4 = .ok (.ifCond .ne 8, 3) := dk_154 0 8 (dk_at dksX6_line_0 4 rfl rfl)
theorem dX6_line_7 : decode cX6_line 7 = .ok (.aload_n 0, 1) := dk_42 (dk_at dksX6_line_0 7 rfl rfl)
theorem dX6_line_8 : decode cX6_line 8 = .ok (.invokevirtual 86, 3) := dk_182 0 86 (dk_at dksX6_line_0 8 rfl rfl)
theorem dX6_line_11 : decode cX6_line 11 = .ok (.athrow, 1) := dk_191 (dk_at dksX6_line_0 11 rfl rfl)
theorem dX6_line_12 : decode cX6_line 12 = .ok (.aload_n 0, 1) := dk_42 (dk_at dksX6_line_0 12 rfl rfl)
theorem dX6_line_13 : decode cX6_line 13 = .ok (.getfield 12, 3) := dk_180 0 12 (dk_at dksX6_line_0 13 rfl rfl)
theorem dX6_line_16 : decode cX6_line 16 = .ok (.dup, 1) := dk_89 (dk_at dksX6_line_0 16 rfl rfl)
theorem dX6_line_17 : decode cX6_line 17 = .ok (.getfield 234, 3) := dk_180 0 234 (dk_at dksX6_line_0 17 rfl rfl)
theorem dX6_line_20 : decode cX6_line 20 = .ok (.iconst 1, 1) := dk_4 (dk_at dksX6_line_0 20 rfl rfl)
theorem dX6_line_21 : decode cX6_line 21 = .ok (.iadd, 1) := dk_96 (dk_at dksX6_line_0 21 rfl rfl)
theorem dX6_line_22 : decode cX6_line 22 = .ok (.putfield 234, 3) := dk_181 0 234 (dk_at dksX6_line_1 0 rfl rfl)
theorem dX6_line_25 : decode cX6_line 25 = .ok (.aload_n 0, 1) := dk_42 (dk_at dksX6_line_1 3 rfl rfl)
theorem dX6_line_26 : decode cX6_line 26 = .ok (.ldc 233, 2) := dk_18 233 (dk_at dksX6_line_1 4 rfl rfl)
theorem dX6_line_28 : decode cX6_line 28 = .ok (.invokevirtual 105, 3) := dk_182 0 105 (dk_at dksX6_line_1 6 rfl rfl)
theorem dX6_line_31 : decode cX6_line 31 = .ok (.ifCond .eq 10, 3) := dk_153 0 10 (dk_at dksX6_line_1 9 rfl rfl)
theorem dX6_line_34 : decode cX6_line 34 = .ok (.aload_n 0, 1) := dk_42 (dk_at dksX6_line_1 12 rfl rfl)
theorem dX6_line_35 : decode cX6_line 35 = .ok (.invokevirtual 259, 3) := dk_182 1 3 (dk_at dksX6_line_1 13 rfl rfl)
theorem dX6_line_38 : decode cX6_line 38 = .ok (.goto 92, 3) := dk_167 0 92 (dk_at dksX6_line_1 16 rfl rfl)
theorem dX6_line_41 : decode cX6_line 41 = .ok (.aload_n 0, 1) := dk_42 (dk_at dksX6_line_1 19 rfl rfl)
theorem dX6_line_42 : decode cX6_line 42 = .ok (.ldc 237, 2) := dk_18 237 (dk_at dksX6_line_1 20 rfl rfl)
theorem dX6_line_44 : decode cX6_line 44 = .ok (.invokevirtual 105, 3) := dk_182 0 105 (dk_at dksX6_line_2 0 rfl rfl)
theorem dX6_line_47 : decode cX6_line 47 = .ok (.ifCond .eq 10, 3) := dk_153 0 10 (dk_at dksX6_line_2 3 rfl rfl)
theorem dX6_line_50 : decode cX6_line 50 = .ok (.aload_n 0, 1) := dk_42 (dk_at dksX6_line_2 6 rfl rfl)
theorem dX6_line_51 : decode cX6_line 51 = .ok (.invokevirtual 261, 3) := dk_182 1 5 (dk_at dksX6_line_2 7 rfl rfl)
theorem dX6_line_54 : decode cX6_line 54 = .ok (.goto 76, 3) := dk_167 0 76 (dk_at dksX6_line_2 10 rfl rfl)
theorem dX6_line_57 : decode cX6_line 57 = .ok (.aload_n 0, 1) := dk_42 (dk_at dksX6_line_2 13 rfl rfl)
theorem dX6_line_58 : decode cX6_line 58 = .ok (.ldc 241, 2) := dk_18 241 (dk_at dksX6_line_2 14 rfl rfl)
theorem dX6_line_60 : decode cX6_line 60 = .ok (.invokevirtual 105, 3) := dk_182 0 105 (dk_at dksX6_line_2 16 rfl rfl)
theorem dX6_line_63 : decode cX6_line 63 = .ok (.ifCond .eq 17, 3) := dk_153 0 17 (dk_at dksX6_line_2 19 rfl rfl)
theorem dX6_line_66 : decode cX6_line 66 = .ok (.aload_n 0, 1) := dk_42 (dk_at dksX6_line_2 22 rfl rfl)
theorem dX6_line_67 : decode cX6_line 67 = .ok (.getfield 12, 3) := dk_180 0 12 (dk_at dksX6_line_3 0 rfl rfl)
theorem dX6_line_70 : decode cX6_line 70 = .ok (.aload_n 0, 1) := dk_42 (dk_at dksX6_line_3 3 rfl rfl)
theorem dX6_line_71 : decode cX6_line 71 = .ok (.invokevirtual 263, 3) := dk_182 1 7 (dk_at dksX6_line_3 4 rfl rfl)
theorem dX6_line_74 : decode cX6_line 74 = .ok (.putfield 243, 3) := dk_181 0 243 (dk_at dksX6_line_3 7 rfl rfl)
theorem dX6_line_77 : decode cX6_line 77 = .ok (.goto 53, 3) := dk_167 0 53 (dk_at dksX6_line_3 10 rfl rfl)
theorem dX6_line_80 : decode cX6_line 80 = .ok (.aload_n 0, 1) := dk_42 (dk_at dksX6_line_3 13 rfl rfl)
theorem dX6_line_81 : decode cX6_line 81 = .ok (.ldc 246, 2) := dk_18 246 (dk_at dksX6_line_3 14 rfl rfl)
theorem dX6_line_83 : decode cX6_line 83 = .ok (.invokevirtual 105, 3) := dk_182 0 105 (dk_at dksX6_line_3 16 rfl rfl)
theorem dX6_line_86 : decode cX6_line 86 = .ok (.ifCond .eq 17, 3) := dk_153 0 17 (dk_at dksX6_line_3 19 rfl rfl)
theorem dX6_line_89 : decode cX6_line 89 = .ok (.aload_n 0, 1) := dk_42 (dk_at dksX6_line_3 22 rfl rfl)
theorem dX6_line_90 : decode cX6_line 90 = .ok (.getfield 12, 3) := dk_180 0 12 (dk_at dksX6_line_4 0 rfl rfl)
theorem dX6_line_93 : decode cX6_line 93 = .ok (.aload_n 0, 1) := dk_42 (dk_at dksX6_line_4 3 rfl rfl)
theorem dX6_line_94 : decode cX6_line 94 = .ok (.invokevirtual 263, 3) := dk_182 1 7 (dk_at dksX6_line_4 4 rfl rfl)
theorem dX6_line_97 : decode cX6_line 97 = .ok (.putfield 248, 3) := dk_181 0 248 (dk_at dksX6_line_4 7 rfl rfl)
theorem dX6_line_100 : decode cX6_line 100 = .ok (.goto 30, 3) := dk_167 0 30 (dk_at dksX6_line_4 10 rfl rfl)
theorem dX6_line_103 : decode cX6_line 103 = .ok (.aload_n 0, 1) := dk_42 (dk_at dksX6_line_4 13 rfl rfl)
theorem dX6_line_104 : decode cX6_line 104 = .ok (.invokevirtual 90, 3) := dk_182 0 90 (dk_at dksX6_line_4 14 rfl rfl)
theorem dX6_line_107 : decode cX6_line 107 = .ok (.aload_n 0, 1) := dk_42 (dk_at dksX6_line_4 17 rfl rfl)
theorem dX6_line_108 : decode cX6_line 108 = .ok (.getfield 12, 3) := dk_180 0 12 (dk_at dksX6_line_4 18 rfl rfl)
theorem dX6_line_111 : decode cX6_line 111 = .ok (.iconst 1, 1) := dk_4 (dk_at dksX6_line_4 21 rfl rfl)
theorem dX6_line_112 : decode cX6_line 112 = .ok (.putfield 252, 3) := dk_181 0 252 (dk_at dksX6_line_5 0 rfl rfl)
theorem dX6_line_115 : decode cX6_line 115 = .ok (.aload_n 0, 1) := dk_42 (dk_at dksX6_line_5 3 rfl rfl)
theorem dX6_line_116 : decode cX6_line 116 = .ok (.getfield 12, 3) := dk_180 0 12 (dk_at dksX6_line_5 4 rfl rfl)
theorem dX6_line_119 : decode cX6_line 119 = .ok (.aload_n 0, 1) := dk_42 (dk_at dksX6_line_5 7 rfl rfl)
theorem dX6_line_120 : decode cX6_line 120 = .ok (.iconst 0, 1) := dk_3 (dk_at dksX6_line_5 8 rfl rfl)
theorem dX6_line_121 : decode cX6_line 121 = .ok (.sipush 999, 3) := dk_17 3 231 (dk_at dksX6_line_5 9 rfl rfl)
theorem dX6_line_124 : decode cX6_line 124 = .ok (.invokevirtual 97, 3) := dk_182 0 97 (dk_at dksX6_line_5 12 rfl rfl)
theorem dX6_line_127 : decode cX6_line 127 = .ok (.putfield 266, 3) := dk_181 1 10 (dk_at dksX6_line_5 15 rfl rfl)
theorem dX6_line_130 : decode cX6_line 130 = .ok (.return_, 1) := dk_177 (dk_at dksX6_line_5 18 rfl rfl)
abbrev cX6_canLine : ByteArray := prog_10_method_27_code
def yX6_canLine : MethodName := ⟨RX6, "canLine", "()Z"⟩
def dkwX6_canLine_5 : List UInt8 := [42, 180, 0, 12, 180, 0, 252, 154, 0, 7, 4, 167, 0, 4, 3, 172]
abbrev dktX6_canLine_5 : List UInt8 := dkwX6_canLine_5 ++ []
def dkwX6_canLine_4 : List UInt8 := [180, 0, 12, 180, 0, 248, 199, 0, 7, 4, 167, 0, 4, 3, 172, 42, 18, 250, 182, 0, 76, 153, 0, 17]
abbrev dktX6_canLine_4 : List UInt8 := dkwX6_canLine_4 ++ dktX6_canLine_5
def dkwX6_canLine_3 : List UInt8 := [180, 0, 243, 199, 0, 7, 4, 167, 0, 4, 3, 172, 42, 18, 246, 182, 0, 76, 153, 0, 19, 42]
abbrev dktX6_canLine_3 : List UInt8 := dkwX6_canLine_3 ++ dktX6_canLine_4
def dkwX6_canLine_2 : List UInt8 := [162, 0, 7, 4, 167, 0, 4, 3, 172, 42, 18, 241, 182, 0, 76, 153, 0, 19, 42, 180, 0, 12]
abbrev dktX6_canLine_2 : List UInt8 := dkwX6_canLine_2 ++ dktX6_canLine_3
def dkwX6_canLine_1 : List UInt8 := [172, 42, 18, 237, 182, 0, 76, 153, 0, 24, 42, 180, 0, 12, 180, 0, 118, 182, 0, 239, 16, 8]
abbrev dktX6_canLine_1 : List UInt8 := dkwX6_canLine_1 ++ dktX6_canLine_2
def dkwX6_canLine_0 : List UInt8 := [42, 18, 233, 182, 0, 76, 153, 0, 19, 42, 180, 0, 12, 180, 0, 234, 154, 0, 7, 4, 167, 0, 4, 3]
abbrev dktX6_canLine_0 : List UInt8 := dkwX6_canLine_0 ++ dktX6_canLine_1
theorem dksX6_canLine_0 : cX6_canLine.data.toList.drop 0 = dktX6_canLine_0 := by decide +kernel
theorem dksX6_canLine_1 : cX6_canLine.data.toList.drop 24 = dktX6_canLine_1 := dk_seg dksX6_canLine_0 24 rfl rfl
theorem dksX6_canLine_2 : cX6_canLine.data.toList.drop 46 = dktX6_canLine_2 := dk_seg dksX6_canLine_1 22 rfl rfl
theorem dksX6_canLine_3 : cX6_canLine.data.toList.drop 68 = dktX6_canLine_3 := dk_seg dksX6_canLine_2 22 rfl rfl
theorem dksX6_canLine_4 : cX6_canLine.data.toList.drop 90 = dktX6_canLine_4 := dk_seg dksX6_canLine_3 22 rfl rfl
theorem dksX6_canLine_5 : cX6_canLine.data.toList.drop 114 = dktX6_canLine_5 := dk_seg dksX6_canLine_4 24 rfl rfl
theorem dX6_canLine_0 : decode cX6_canLine 0 = .ok (.aload_n 0, 1) := dk_42 (dk_at dksX6_canLine_0 0 rfl rfl)
theorem dX6_canLine_1 : decode cX6_canLine 1 = .ok (.ldc 233, 2) := dk_18 233 (dk_at dksX6_canLine_0 1 rfl rfl)
theorem dX6_canLine_3 : decode cX6_canLine 3 = .ok (.invokevirtual 76, 3) := dk_182 0 76 (dk_at dksX6_canLine_0 3 rfl rfl)
theorem dX6_canLine_6 : decode cX6_canLine 6 = .ok (.ifCond .eq 19, 3) := dk_153 0 19 (dk_at dksX6_canLine_0 6 rfl rfl)
theorem dX6_canLine_9 : decode cX6_canLine 9 = .ok (.aload_n 0, 1) := dk_42 (dk_at dksX6_canLine_0 9 rfl rfl)
theorem dX6_canLine_10 : decode cX6_canLine 10 = .ok (.getfield 12, 3) := dk_180 0 12 (dk_at dksX6_canLine_0 10 rfl rfl)
theorem dX6_canLine_13 : decode cX6_canLine 13 = .ok (.getfield 234, 3) := dk_180 0 234 (dk_at dksX6_canLine_0 13 rfl rfl)
theorem dX6_canLine_16 : decode cX6_canLine 16 = .ok (.ifCond .ne 7, 3) := dk_154 0 7 (dk_at dksX6_canLine_0 16 rfl rfl)
theorem dX6_canLine_19 : decode cX6_canLine 19 = .ok (.iconst 1, 1) := dk_4 (dk_at dksX6_canLine_0 19 rfl rfl)
theorem dX6_canLine_20 : decode cX6_canLine 20 = .ok (.goto 4, 3) := dk_167 0 4 (dk_at dksX6_canLine_0 20 rfl rfl)
theorem dX6_canLine_23 : decode cX6_canLine 23 = .ok (.iconst 0, 1) := dk_3 (dk_at dksX6_canLine_0 23 rfl rfl)
theorem dX6_canLine_24 : decode cX6_canLine 24 = .ok (.ireturn, 1) := dk_172 (dk_at dksX6_canLine_1 0 rfl rfl)
theorem dX6_canLine_25 : decode cX6_canLine 25 = .ok (.aload_n 0, 1) := dk_42 (dk_at dksX6_canLine_1 1 rfl rfl)
theorem dX6_canLine_26 : decode cX6_canLine 26 = .ok (.ldc 237, 2) := dk_18 237 (dk_at dksX6_canLine_1 2 rfl rfl)
theorem dX6_canLine_28 : decode cX6_canLine 28 = .ok (.invokevirtual 76, 3) := dk_182 0 76 (dk_at dksX6_canLine_1 4 rfl rfl)
theorem dX6_canLine_31 : decode cX6_canLine 31 = .ok (.ifCond .eq 24, 3) := dk_153 0 24 (dk_at dksX6_canLine_1 7 rfl rfl)
theorem dX6_canLine_34 : decode cX6_canLine 34 = .ok (.aload_n 0, 1) := dk_42 (dk_at dksX6_canLine_1 10 rfl rfl)
theorem dX6_canLine_35 : decode cX6_canLine 35 = .ok (.getfield 12, 3) := dk_180 0 12 (dk_at dksX6_canLine_1 11 rfl rfl)
theorem dX6_canLine_38 : decode cX6_canLine 38 = .ok (.getfield 118, 3) := dk_180 0 118 (dk_at dksX6_canLine_1 14 rfl rfl)
theorem dX6_canLine_41 : decode cX6_canLine 41 = .ok (.invokevirtual 239, 3) := dk_182 0 239 (dk_at dksX6_canLine_1 17 rfl rfl)
theorem dX6_canLine_44 : decode cX6_canLine 44 = .ok (.bipush 8, 2) := dk_16 8 (dk_at dksX6_canLine_1 20 rfl rfl)
theorem dX6_canLine_46 : decode cX6_canLine 46 = .ok (.if_icmp .ge 7, 3) := dk_162 0 7 (dk_at dksX6_canLine_2 0 rfl rfl)
theorem dX6_canLine_49 : decode cX6_canLine 49 = .ok (.iconst 1, 1) := dk_4 (dk_at dksX6_canLine_2 3 rfl rfl)
theorem dX6_canLine_50 : decode cX6_canLine 50 = .ok (.goto 4, 3) := dk_167 0 4 (dk_at dksX6_canLine_2 4 rfl rfl)
theorem dX6_canLine_53 : decode cX6_canLine 53 = .ok (.iconst 0, 1) := dk_3 (dk_at dksX6_canLine_2 7 rfl rfl)
theorem dX6_canLine_54 : decode cX6_canLine 54 = .ok (.ireturn, 1) := dk_172 (dk_at dksX6_canLine_2 8 rfl rfl)
theorem dX6_canLine_55 : decode cX6_canLine 55 = .ok (.aload_n 0, 1) := dk_42 (dk_at dksX6_canLine_2 9 rfl rfl)
theorem dX6_canLine_56 : decode cX6_canLine 56 = .ok (.ldc 241, 2) := dk_18 241 (dk_at dksX6_canLine_2 10 rfl rfl)
theorem dX6_canLine_58 : decode cX6_canLine 58 = .ok (.invokevirtual 76, 3) := dk_182 0 76 (dk_at dksX6_canLine_2 12 rfl rfl)
theorem dX6_canLine_61 : decode cX6_canLine 61 = .ok (.ifCond .eq 19, 3) := dk_153 0 19 (dk_at dksX6_canLine_2 15 rfl rfl)
theorem dX6_canLine_64 : decode cX6_canLine 64 = .ok (.aload_n 0, 1) := dk_42 (dk_at dksX6_canLine_2 18 rfl rfl)
theorem dX6_canLine_65 : decode cX6_canLine 65 = .ok (.getfield 12, 3) := dk_180 0 12 (dk_at dksX6_canLine_2 19 rfl rfl)
theorem dX6_canLine_68 : decode cX6_canLine 68 = .ok (.getfield 243, 3) := dk_180 0 243 (dk_at dksX6_canLine_3 0 rfl rfl)
theorem dX6_canLine_71 : decode cX6_canLine 71 = .ok (.ifnonnull 7, 3) := dk_199 0 7 (dk_at dksX6_canLine_3 3 rfl rfl)
theorem dX6_canLine_74 : decode cX6_canLine 74 = .ok (.iconst 1, 1) := dk_4 (dk_at dksX6_canLine_3 6 rfl rfl)
theorem dX6_canLine_75 : decode cX6_canLine 75 = .ok (.goto 4, 3) := dk_167 0 4 (dk_at dksX6_canLine_3 7 rfl rfl)
theorem dX6_canLine_78 : decode cX6_canLine 78 = .ok (.iconst 0, 1) := dk_3 (dk_at dksX6_canLine_3 10 rfl rfl)
theorem dX6_canLine_79 : decode cX6_canLine 79 = .ok (.ireturn, 1) := dk_172 (dk_at dksX6_canLine_3 11 rfl rfl)
theorem dX6_canLine_80 : decode cX6_canLine 80 = .ok (.aload_n 0, 1) := dk_42 (dk_at dksX6_canLine_3 12 rfl rfl)
theorem dX6_canLine_81 : decode cX6_canLine 81 = .ok (.ldc 246, 2) := dk_18 246 (dk_at dksX6_canLine_3 13 rfl rfl)
theorem dX6_canLine_83 : decode cX6_canLine 83 = .ok (.invokevirtual 76, 3) := dk_182 0 76 (dk_at dksX6_canLine_3 15 rfl rfl)
theorem dX6_canLine_86 : decode cX6_canLine 86 = .ok (.ifCond .eq 19, 3) := dk_153 0 19 (dk_at dksX6_canLine_3 18 rfl rfl)
theorem dX6_canLine_89 : decode cX6_canLine 89 = .ok (.aload_n 0, 1) := dk_42 (dk_at dksX6_canLine_3 21 rfl rfl)
theorem dX6_canLine_90 : decode cX6_canLine 90 = .ok (.getfield 12, 3) := dk_180 0 12 (dk_at dksX6_canLine_4 0 rfl rfl)
theorem dX6_canLine_93 : decode cX6_canLine 93 = .ok (.getfield 248, 3) := dk_180 0 248 (dk_at dksX6_canLine_4 3 rfl rfl)
theorem dX6_canLine_96 : decode cX6_canLine 96 = .ok (.ifnonnull 7, 3) := dk_199 0 7 (dk_at dksX6_canLine_4 6 rfl rfl)
theorem dX6_canLine_99 : decode cX6_canLine 99 = .ok (.iconst 1, 1) := dk_4 (dk_at dksX6_canLine_4 9 rfl rfl)
theorem dX6_canLine_100 : decode cX6_canLine 100 = .ok (.goto 4, 3) := dk_167 0 4 (dk_at dksX6_canLine_4 10 rfl rfl)
theorem dX6_canLine_103 : decode cX6_canLine 103 = .ok (.iconst 0, 1) := dk_3 (dk_at dksX6_canLine_4 13 rfl rfl)
theorem dX6_canLine_104 : decode cX6_canLine 104 = .ok (.ireturn, 1) := dk_172 (dk_at dksX6_canLine_4 14 rfl rfl)
theorem dX6_canLine_105 : decode cX6_canLine 105 = .ok (.aload_n 0, 1) := dk_42 (dk_at dksX6_canLine_4 15 rfl rfl)
theorem dX6_canLine_106 : decode cX6_canLine 106 = .ok (.ldc 250, 2) := dk_18 250 (dk_at dksX6_canLine_4 16 rfl rfl)
theorem dX6_canLine_108 : decode cX6_canLine 108 = .ok (.invokevirtual 76, 3) := dk_182 0 76 (dk_at dksX6_canLine_4 18 rfl rfl)
theorem dX6_canLine_111 : decode cX6_canLine 111 = .ok (.ifCond .eq 17, 3) := dk_153 0 17 (dk_at dksX6_canLine_4 21 rfl rfl)
theorem dX6_canLine_114 : decode cX6_canLine 114 = .ok (.aload_n 0, 1) := dk_42 (dk_at dksX6_canLine_5 0 rfl rfl)
theorem dX6_canLine_115 : decode cX6_canLine 115 = .ok (.getfield 12, 3) := dk_180 0 12 (dk_at dksX6_canLine_5 1 rfl rfl)
theorem dX6_canLine_118 : decode cX6_canLine 118 = .ok (.getfield 252, 3) := dk_180 0 252 (dk_at dksX6_canLine_5 4 rfl rfl)
theorem dX6_canLine_121 : decode cX6_canLine 121 = .ok (.ifCond .ne 7, 3) := dk_154 0 7 (dk_at dksX6_canLine_5 7 rfl rfl)
theorem dX6_canLine_124 : decode cX6_canLine 124 = .ok (.iconst 1, 1) := dk_4 (dk_at dksX6_canLine_5 10 rfl rfl)
theorem dX6_canLine_125 : decode cX6_canLine 125 = .ok (.goto 4, 3) := dk_167 0 4 (dk_at dksX6_canLine_5 11 rfl rfl)
theorem dX6_canLine_128 : decode cX6_canLine 128 = .ok (.iconst 0, 1) := dk_3 (dk_at dksX6_canLine_5 14 rfl rfl)
theorem dX6_canLine_129 : decode cX6_canLine 129 = .ok (.ireturn, 1) := dk_172 (dk_at dksX6_canLine_5 15 rfl rfl)
abbrev cX6_isWord : ByteArray := prog_10_method_9_code
def yX6_isWord : MethodName := ⟨RX6, "isWord", "(Ljava/lang/String;)Z"⟩
def dkwX6_isWord_3 : List UInt8 := [3, 172]
abbrev dktX6_isWord_3 : List UInt8 := dkwX6_isWord_3 ++ []
def dkwX6_isWord_2 : List UInt8 := [182, 0, 72, 160, 0, 9, 132, 2, 1, 167, 255, 227, 28, 43, 182, 0, 66, 160, 0, 7, 4, 167, 0, 4]
abbrev dktX6_isWord_2 : List UInt8 := dkwX6_isWord_2 ++ dktX6_isWord_3
def dkwX6_isWord_1 : List UInt8 := [3, 172, 3, 61, 28, 43, 182, 0, 66, 162, 0, 27, 42, 42, 180, 0, 33, 28, 96, 182, 0, 36, 43, 28]
abbrev dktX6_isWord_1 : List UInt8 := dkwX6_isWord_1 ++ dktX6_isWord_2
def dkwX6_isWord_0 : List UInt8 := [42, 180, 0, 40, 4, 160, 0, 19, 42, 180, 0, 30, 42, 180, 0, 33, 100, 43, 182, 0, 66, 159, 0, 5]
abbrev dktX6_isWord_0 : List UInt8 := dkwX6_isWord_0 ++ dktX6_isWord_1
theorem dksX6_isWord_0 : cX6_isWord.data.toList.drop 0 = dktX6_isWord_0 := by decide +kernel
theorem dksX6_isWord_1 : cX6_isWord.data.toList.drop 24 = dktX6_isWord_1 := dk_seg dksX6_isWord_0 24 rfl rfl
theorem dksX6_isWord_2 : cX6_isWord.data.toList.drop 48 = dktX6_isWord_2 := dk_seg dksX6_isWord_1 24 rfl rfl
theorem dksX6_isWord_3 : cX6_isWord.data.toList.drop 72 = dktX6_isWord_3 := dk_seg dksX6_isWord_2 24 rfl rfl
theorem dX6_isWord_0 : decode cX6_isWord 0 = .ok (.aload_n 0, 1) := dk_42 (dk_at dksX6_isWord_0 0 rfl rfl)
theorem dX6_isWord_1 : decode cX6_isWord 1 = .ok (.getfield 40, 3) := dk_180 0 40 (dk_at dksX6_isWord_0 1 rfl rfl)
theorem dX6_isWord_4 : decode cX6_isWord 4 = .ok (.iconst 1, 1) := dk_4 (dk_at dksX6_isWord_0 4 rfl rfl)
theorem dX6_isWord_5 : decode cX6_isWord 5 = .ok (.if_icmp .ne 19, 3) := dk_160 0 19 (dk_at dksX6_isWord_0 5 rfl rfl)
theorem dX6_isWord_8 : decode cX6_isWord 8 = .ok (.aload_n 0, 1) := dk_42 (dk_at dksX6_isWord_0 8 rfl rfl)
theorem dX6_isWord_9 : decode cX6_isWord 9 = .ok (.getfield 30, 3) := dk_180 0 30 (dk_at dksX6_isWord_0 9 rfl rfl)
theorem dX6_isWord_12 : decode cX6_isWord 12 = .ok (.aload_n 0, 1) := dk_42 (dk_at dksX6_isWord_0 12 rfl rfl)
theorem dX6_isWord_13 : decode cX6_isWord 13 = .ok (.getfield 33, 3) := dk_180 0 33 (dk_at dksX6_isWord_0 13 rfl rfl)
theorem dX6_isWord_16 : decode cX6_isWord 16 = .ok (.isub, 1) := dk_100 (dk_at dksX6_isWord_0 16 rfl rfl)
theorem dX6_isWord_17 : decode cX6_isWord 17 = .ok (.aload_n 1, 1) := dk_43 (dk_at dksX6_isWord_0 17 rfl rfl)
theorem dX6_isWord_18 : decode cX6_isWord 18 = .ok (.invokevirtual 66, 3) := dk_182 0 66 (dk_at dksX6_isWord_0 18 rfl rfl)
theorem dX6_isWord_21 : decode cX6_isWord 21 = .ok (.if_icmp .eq 5, 3) := dk_159 0 5 (dk_at dksX6_isWord_0 21 rfl rfl)
theorem dX6_isWord_24 : decode cX6_isWord 24 = .ok (.iconst 0, 1) := dk_3 (dk_at dksX6_isWord_1 0 rfl rfl)
theorem dX6_isWord_25 : decode cX6_isWord 25 = .ok (.ireturn, 1) := dk_172 (dk_at dksX6_isWord_1 1 rfl rfl)
theorem dX6_isWord_26 : decode cX6_isWord 26 = .ok (.iconst 0, 1) := dk_3 (dk_at dksX6_isWord_1 2 rfl rfl)
theorem dX6_isWord_27 : decode cX6_isWord 27 = .ok (.istore_n 2, 1) := dk_61 (dk_at dksX6_isWord_1 3 rfl rfl)
theorem dX6_isWord_28 : decode cX6_isWord 28 = .ok (.iload_n 2, 1) := dk_28 (dk_at dksX6_isWord_1 4 rfl rfl)
theorem dX6_isWord_29 : decode cX6_isWord 29 = .ok (.aload_n 1, 1) := dk_43 (dk_at dksX6_isWord_1 5 rfl rfl)
theorem dX6_isWord_30 : decode cX6_isWord 30 = .ok (.invokevirtual 66, 3) := dk_182 0 66 (dk_at dksX6_isWord_1 6 rfl rfl)
theorem dX6_isWord_33 : decode cX6_isWord 33 = .ok (.if_icmp .ge 27, 3) := dk_162 0 27 (dk_at dksX6_isWord_1 9 rfl rfl)
theorem dX6_isWord_36 : decode cX6_isWord 36 = .ok (.aload_n 0, 1) := dk_42 (dk_at dksX6_isWord_1 12 rfl rfl)
theorem dX6_isWord_37 : decode cX6_isWord 37 = .ok (.aload_n 0, 1) := dk_42 (dk_at dksX6_isWord_1 13 rfl rfl)
theorem dX6_isWord_38 : decode cX6_isWord 38 = .ok (.getfield 33, 3) := dk_180 0 33 (dk_at dksX6_isWord_1 14 rfl rfl)
theorem dX6_isWord_41 : decode cX6_isWord 41 = .ok (.iload_n 2, 1) := dk_28 (dk_at dksX6_isWord_1 17 rfl rfl)
theorem dX6_isWord_42 : decode cX6_isWord 42 = .ok (.iadd, 1) := dk_96 (dk_at dksX6_isWord_1 18 rfl rfl)
theorem dX6_isWord_43 : decode cX6_isWord 43 = .ok (.invokevirtual 36, 3) := dk_182 0 36 (dk_at dksX6_isWord_1 19 rfl rfl)
theorem dX6_isWord_46 : decode cX6_isWord 46 = .ok (.aload_n 1, 1) := dk_43 (dk_at dksX6_isWord_1 22 rfl rfl)
theorem dX6_isWord_47 : decode cX6_isWord 47 = .ok (.iload_n 2, 1) := dk_28 (dk_at dksX6_isWord_1 23 rfl rfl)
theorem dX6_isWord_48 : decode cX6_isWord 48 = .ok (.invokevirtual 72, 3) := dk_182 0 72 (dk_at dksX6_isWord_2 0 rfl rfl)
theorem dX6_isWord_51 : decode cX6_isWord 51 = .ok (.if_icmp .ne 9, 3) := dk_160 0 9 (dk_at dksX6_isWord_2 3 rfl rfl)
theorem dX6_isWord_54 : decode cX6_isWord 54 = .ok (.iinc 2 1, 3) := dk_132 2 1 (dk_at dksX6_isWord_2 6 rfl rfl)
theorem dX6_isWord_57 : decode cX6_isWord 57 = .ok (.goto (-29), 3) := dk_167 255 227 (dk_at dksX6_isWord_2 9 rfl rfl)
theorem dX6_isWord_60 : decode cX6_isWord 60 = .ok (.iload_n 2, 1) := dk_28 (dk_at dksX6_isWord_2 12 rfl rfl)
theorem dX6_isWord_61 : decode cX6_isWord 61 = .ok (.aload_n 1, 1) := dk_43 (dk_at dksX6_isWord_2 13 rfl rfl)
theorem dX6_isWord_62 : decode cX6_isWord 62 = .ok (.invokevirtual 66, 3) := dk_182 0 66 (dk_at dksX6_isWord_2 14 rfl rfl)
theorem dX6_isWord_65 : decode cX6_isWord 65 = .ok (.if_icmp .ne 7, 3) := dk_160 0 7 (dk_at dksX6_isWord_2 17 rfl rfl)
theorem dX6_isWord_68 : decode cX6_isWord 68 = .ok (.iconst 1, 1) := dk_4 (dk_at dksX6_isWord_2 20 rfl rfl)
theorem dX6_isWord_69 : decode cX6_isWord 69 = .ok (.goto 4, 3) := dk_167 0 4 (dk_at dksX6_isWord_2 21 rfl rfl)
theorem dX6_isWord_72 : decode cX6_isWord 72 = .ok (.iconst 0, 1) := dk_3 (dk_at dksX6_isWord_3 0 rfl rfl)
theorem dX6_isWord_73 : decode cX6_isWord 73 = .ok (.ireturn, 1) := dk_172 (dk_at dksX6_isWord_3 1 rfl rfl)
abbrev cX6_wrong : ByteArray := prog_10_method_12_code
def yX6_wrong : MethodName := ⟨RX6, "wrong", "()LSoManyStairs$Wrong;"⟩
def dkwX6_wrong_1 : List UInt8 := [176]
abbrev dktX6_wrong_1 : List UInt8 := dkwX6_wrong_1 ++ []
def dkwX6_wrong_0 : List UInt8 := [42, 180, 0, 26, 42, 180, 0, 40, 7, 160, 0, 7, 4, 167, 0, 4, 5, 42, 180, 0, 33, 182, 0, 80]
abbrev dktX6_wrong_0 : List UInt8 := dkwX6_wrong_0 ++ dktX6_wrong_1
theorem dksX6_wrong_0 : cX6_wrong.data.toList.drop 0 = dktX6_wrong_0 := by decide +kernel
theorem dksX6_wrong_1 : cX6_wrong.data.toList.drop 24 = dktX6_wrong_1 := dk_seg dksX6_wrong_0 24 rfl rfl
theorem dX6_wrong_0 : decode cX6_wrong 0 = .ok (.aload_n 0, 1) := dk_42 (dk_at dksX6_wrong_0 0 rfl rfl)
theorem dX6_wrong_1 : decode cX6_wrong 1 = .ok (.getfield 26, 3) := dk_180 0 26 (dk_at dksX6_wrong_0 1 rfl rfl)
theorem dX6_wrong_4 : decode cX6_wrong 4 = .ok (.aload_n 0, 1) := dk_42 (dk_at dksX6_wrong_0 4 rfl rfl)
theorem dX6_wrong_5 : decode cX6_wrong 5 = .ok (.getfield 40, 3) := dk_180 0 40 (dk_at dksX6_wrong_0 5 rfl rfl)
theorem dX6_wrong_8 : decode cX6_wrong 8 = .ok (.iconst 4, 1) := dk_7 (dk_at dksX6_wrong_0 8 rfl rfl)
theorem dX6_wrong_9 : decode cX6_wrong 9 = .ok (.if_icmp .ne 7, 3) := dk_160 0 7 (dk_at dksX6_wrong_0 9 rfl rfl)
theorem dX6_wrong_12 : decode cX6_wrong 12 = .ok (.iconst 1, 1) := dk_4 (dk_at dksX6_wrong_0 12 rfl rfl)
theorem dX6_wrong_13 : decode cX6_wrong 13 = .ok (.goto 4, 3) := dk_167 0 4 (dk_at dksX6_wrong_0 13 rfl rfl)
theorem dX6_wrong_16 : decode cX6_wrong 16 = .ok (.iconst 2, 1) := dk_5 (dk_at dksX6_wrong_0 16 rfl rfl)
theorem dX6_wrong_17 : decode cX6_wrong 17 = .ok (.aload_n 0, 1) := dk_42 (dk_at dksX6_wrong_0 17 rfl rfl)
theorem dX6_wrong_18 : decode cX6_wrong 18 = .ok (.getfield 33, 3) := dk_180 0 33 (dk_at dksX6_wrong_0 18 rfl rfl)
theorem dX6_wrong_21 : decode cX6_wrong 21 = .ok (.invokevirtual 80, 3) := dk_182 0 80 (dk_at dksX6_wrong_0 21 rfl rfl)
theorem dX6_wrong_24 : decode cX6_wrong 24 = .ok (.areturn, 1) := dk_176 (dk_at dksX6_wrong_1 0 rfl rfl)
abbrev cX6_has : ByteArray := prog_10_method_16_code
def yX6_has : MethodName := ⟨RX6, "has", "(Ljava/lang/String;)Z"⟩
def dkwX6_has_0 : List UInt8 := [42, 43, 182, 0, 76, 61, 28, 153, 0, 7, 42, 182, 0, 90, 28, 172]
abbrev dktX6_has_0 : List UInt8 := dkwX6_has_0 ++ []
theorem dksX6_has_0 : cX6_has.data.toList.drop 0 = dktX6_has_0 := by decide +kernel
theorem dX6_has_0 : decode cX6_has 0 = .ok (.aload_n 0, 1) := dk_42 (dk_at dksX6_has_0 0 rfl rfl)
theorem dX6_has_1 : decode cX6_has 1 = .ok (.aload_n 1, 1) := dk_43 (dk_at dksX6_has_0 1 rfl rfl)
theorem dX6_has_2 : decode cX6_has 2 = .ok (.invokevirtual 76, 3) := dk_182 0 76 (dk_at dksX6_has_0 2 rfl rfl)
theorem dX6_has_5 : decode cX6_has 5 = .ok (.istore_n 2, 1) := dk_61 (dk_at dksX6_has_0 5 rfl rfl)
theorem dX6_has_6 : decode cX6_has 6 = .ok (.iload_n 2, 1) := dk_28 (dk_at dksX6_has_0 6 rfl rfl)
theorem dX6_has_7 : decode cX6_has 7 = .ok (.ifCond .eq 7, 3) := dk_153 0 7 (dk_at dksX6_has_0 7 rfl rfl)
theorem dX6_has_10 : decode cX6_has 10 = .ok (.aload_n 0, 1) := dk_42 (dk_at dksX6_has_0 10 rfl rfl)
theorem dX6_has_11 : decode cX6_has 11 = .ok (.invokevirtual 90, 3) := dk_182 0 90 (dk_at dksX6_has_0 11 rfl rfl)
theorem dX6_has_14 : decode cX6_has 14 = .ok (.iload_n 2, 1) := dk_28 (dk_at dksX6_has_0 14 rfl rfl)
theorem dX6_has_15 : decode cX6_has 15 = .ok (.ireturn, 1) := dk_172 (dk_at dksX6_has_0 15 rfl rfl)
abbrev cX6_storeys : ByteArray := prog_10_method_17_code
def yX6_storeys : MethodName := ⟨RX6, "storeys", "()V"⟩
def dkwX6_storeys_1 : List UInt8 := [180, 0, 12, 42, 3, 42, 180, 0, 12, 180, 0, 100, 182, 0, 97, 181, 0, 108, 177]
abbrev dktX6_storeys_1 : List UInt8 := dkwX6_storeys_1 ++ []
def dkwX6_storeys_0 : List UInt8 := [42, 180, 0, 12, 42, 4, 16, 20, 182, 0, 97, 181, 0, 100, 42, 18, 103, 182, 0, 105, 153, 0, 22, 42]
abbrev dktX6_storeys_0 : List UInt8 := dkwX6_storeys_0 ++ dktX6_storeys_1
theorem dksX6_storeys_0 : cX6_storeys.data.toList.drop 0 = dktX6_storeys_0 := by decide +kernel
theorem dksX6_storeys_1 : cX6_storeys.data.toList.drop 24 = dktX6_storeys_1 := dk_seg dksX6_storeys_0 24 rfl rfl
theorem dX6_storeys_0 : decode cX6_storeys 0 = .ok (.aload_n 0, 1) := dk_42 (dk_at dksX6_storeys_0 0 rfl rfl)
theorem dX6_storeys_1 : decode cX6_storeys 1 = .ok (.getfield 12, 3) := dk_180 0 12 (dk_at dksX6_storeys_0 1 rfl rfl)
theorem dX6_storeys_4 : decode cX6_storeys 4 = .ok (.aload_n 0, 1) := dk_42 (dk_at dksX6_storeys_0 4 rfl rfl)
theorem dX6_storeys_5 : decode cX6_storeys 5 = .ok (.iconst 1, 1) := dk_4 (dk_at dksX6_storeys_0 5 rfl rfl)
theorem dX6_storeys_6 : decode cX6_storeys 6 = .ok (.bipush 20, 2) := dk_16 20 (dk_at dksX6_storeys_0 6 rfl rfl)
theorem dX6_storeys_8 : decode cX6_storeys 8 = .ok (.invokevirtual 97, 3) := dk_182 0 97 (dk_at dksX6_storeys_0 8 rfl rfl)
theorem dX6_storeys_11 : decode cX6_storeys 11 = .ok (.putfield 100, 3) := dk_181 0 100 (dk_at dksX6_storeys_0 11 rfl rfl)
theorem dX6_storeys_14 : decode cX6_storeys 14 = .ok (.aload_n 0, 1) := dk_42 (dk_at dksX6_storeys_0 14 rfl rfl)
theorem dX6_storeys_15 : decode cX6_storeys 15 = .ok (.ldc 103, 2) := dk_18 103 (dk_at dksX6_storeys_0 15 rfl rfl)
theorem dX6_storeys_17 : decode cX6_storeys 17 = .ok (.invokevirtual 105, 3) := dk_182 0 105 (dk_at dksX6_storeys_0 17 rfl rfl)
theorem dX6_storeys_20 : decode cX6_storeys 20 = .ok (.ifCond .eq 22, 3) := dk_153 0 22 (dk_at dksX6_storeys_0 20 rfl rfl)
theorem dX6_storeys_23 : decode cX6_storeys 23 = .ok (.aload_n 0, 1) := dk_42 (dk_at dksX6_storeys_0 23 rfl rfl)
theorem dX6_storeys_24 : decode cX6_storeys 24 = .ok (.getfield 12, 3) := dk_180 0 12 (dk_at dksX6_storeys_1 0 rfl rfl)
theorem dX6_storeys_27 : decode cX6_storeys 27 = .ok (.aload_n 0, 1) := dk_42 (dk_at dksX6_storeys_1 3 rfl rfl)
theorem dX6_storeys_28 : decode cX6_storeys 28 = .ok (.iconst 0, 1) := dk_3 (dk_at dksX6_storeys_1 4 rfl rfl)
theorem dX6_storeys_29 : decode cX6_storeys 29 = .ok (.aload_n 0, 1) := dk_42 (dk_at dksX6_storeys_1 5 rfl rfl)
theorem dX6_storeys_30 : decode cX6_storeys 30 = .ok (.getfield 12, 3) := dk_180 0 12 (dk_at dksX6_storeys_1 6 rfl rfl)
theorem dX6_storeys_33 : decode cX6_storeys 33 = .ok (.getfield 100, 3) := dk_180 0 100 (dk_at dksX6_storeys_1 9 rfl rfl)
theorem dX6_storeys_36 : decode cX6_storeys 36 = .ok (.invokevirtual 97, 3) := dk_182 0 97 (dk_at dksX6_storeys_1 12 rfl rfl)
theorem dX6_storeys_39 : decode cX6_storeys 39 = .ok (.putfield 108, 3) := dk_181 0 108 (dk_at dksX6_storeys_1 15 rfl rfl)
theorem dX6_storeys_42 : decode cX6_storeys 42 = .ok (.return_, 1) := dk_177 (dk_at dksX6_storeys_1 18 rfl rfl)
abbrev cX6_number : ByteArray := prog_10_method_14_code
def yX6_number : MethodName := ⟨RX6, "number", "(II)I"⟩
def dkwX6_number_2 : List UInt8 := [62, 42, 182, 0, 90, 29, 172]
abbrev dktX6_number_2 : List UInt8 := dkwX6_number_2 ++ []
def dkwX6_number_1 : List UInt8 := [180, 0, 63, 28, 164, 0, 16, 42, 180, 0, 26, 7, 42, 180, 0, 33, 182, 0, 80, 191, 42, 180, 0, 63]
abbrev dktX6_number_1 : List UInt8 := dkwX6_number_1 ++ dktX6_number_2
def dkwX6_number_0 : List UInt8 := [42, 180, 0, 40, 5, 159, 0, 8, 42, 182, 0, 86, 191, 42, 180, 0, 63, 27, 161, 0, 11, 42]
abbrev dktX6_number_0 : List UInt8 := dkwX6_number_0 ++ dktX6_number_1
theorem dksX6_number_0 : cX6_number.data.toList.drop 0 = dktX6_number_0 := by decide +kernel
theorem dksX6_number_1 : cX6_number.data.toList.drop 22 = dktX6_number_1 := dk_seg dksX6_number_0 22 rfl rfl
theorem dksX6_number_2 : cX6_number.data.toList.drop 46 = dktX6_number_2 := dk_seg dksX6_number_1 24 rfl rfl
theorem dX6_number_0 : decode cX6_number 0 = .ok (.aload_n 0, 1) := dk_42 (dk_at dksX6_number_0 0 rfl rfl)
theorem dX6_number_1 : decode cX6_number 1 = .ok (.getfield 40, 3) := dk_180 0 40 (dk_at dksX6_number_0 1 rfl rfl)
theorem dX6_number_4 : decode cX6_number 4 = .ok (.iconst 2, 1) := dk_5 (dk_at dksX6_number_0 4 rfl rfl)
theorem dX6_number_5 : decode cX6_number 5 = .ok (.if_icmp .eq 8, 3) := dk_159 0 8 (dk_at dksX6_number_0 5 rfl rfl)
theorem dX6_number_8 : decode cX6_number 8 = .ok (.aload_n 0, 1) := dk_42 (dk_at dksX6_number_0 8 rfl rfl)
theorem dX6_number_9 : decode cX6_number 9 = .ok (.invokevirtual 86, 3) := dk_182 0 86 (dk_at dksX6_number_0 9 rfl rfl)
theorem dX6_number_12 : decode cX6_number 12 = .ok (.athrow, 1) := dk_191 (dk_at dksX6_number_0 12 rfl rfl)
theorem dX6_number_13 : decode cX6_number 13 = .ok (.aload_n 0, 1) := dk_42 (dk_at dksX6_number_0 13 rfl rfl)
theorem dX6_number_14 : decode cX6_number 14 = .ok (.getfield 63, 3) := dk_180 0 63 (dk_at dksX6_number_0 14 rfl rfl)
theorem dX6_number_17 : decode cX6_number 17 = .ok (.iload_n 1, 1) := dk_27 (dk_at dksX6_number_0 17 rfl rfl)
theorem dX6_number_18 : decode cX6_number 18 = .ok (.if_icmp .lt 11, 3) := dk_161 0 11 (dk_at dksX6_number_0 18 rfl rfl)
theorem dX6_number_21 : decode cX6_number 21 = .ok (.aload_n 0, 1) := dk_42 (dk_at dksX6_number_0 21 rfl rfl)
theorem dX6_number_22 : decode cX6_number 22 = .ok (.getfield 63, 3) := dk_180 0 63 (dk_at dksX6_number_1 0 rfl rfl)
theorem dX6_number_25 : decode cX6_number 25 = .ok (.iload_n 2, 1) := dk_28 (dk_at dksX6_number_1 3 rfl rfl)
theorem dX6_number_26 : decode cX6_number 26 = .ok (.if_icmp .le 16, 3) := dk_164 0 16 (dk_at dksX6_number_1 4 rfl rfl)
theorem dX6_number_29 : decode cX6_number 29 = .ok (.aload_n 0, 1) := dk_42 (dk_at dksX6_number_1 7 rfl rfl)
theorem dX6_number_30 : decode cX6_number 30 = .ok (.getfield 26, 3) := dk_180 0 26 (dk_at dksX6_number_1 8 rfl rfl)
theorem dX6_number_33 : decode cX6_number 33 = .ok (.iconst 4, 1) := dk_7 (dk_at dksX6_number_1 11 rfl rfl)
theorem dX6_number_34 : decode cX6_number 34 = .ok (.aload_n 0, 1) := dk_42 (dk_at dksX6_number_1 12 rfl rfl)
theorem dX6_number_35 : decode cX6_number 35 = .ok (.getfield 33, 3) := dk_180 0 33 (dk_at dksX6_number_1 13 rfl rfl)
theorem dX6_number_38 : decode cX6_number 38 = .ok (.invokevirtual 80, 3) := dk_182 0 80 (dk_at dksX6_number_1 16 rfl rfl)
theorem dX6_number_41 : decode cX6_number 41 = .ok (.athrow, 1) := dk_191 (dk_at dksX6_number_1 19 rfl rfl)
theorem dX6_number_42 : decode cX6_number 42 = .ok (.aload_n 0, 1) := dk_42 (dk_at dksX6_number_1 20 rfl rfl)
theorem dX6_number_43 : decode cX6_number 43 = .ok (.getfield 63, 3) := dk_180 0 63 (dk_at dksX6_number_1 21 rfl rfl)
theorem dX6_number_46 : decode cX6_number 46 = .ok (.istore_n 3, 1) := dk_62 (dk_at dksX6_number_2 0 rfl rfl)
theorem dX6_number_47 : decode cX6_number 47 = .ok (.aload_n 0, 1) := dk_42 (dk_at dksX6_number_2 1 rfl rfl)
theorem dX6_number_48 : decode cX6_number 48 = .ok (.invokevirtual 90, 3) := dk_182 0 90 (dk_at dksX6_number_2 2 rfl rfl)
theorem dX6_number_51 : decode cX6_number 51 = .ok (.iload_n 3, 1) := dk_29 (dk_at dksX6_number_2 5 rfl rfl)
theorem dX6_number_52 : decode cX6_number 52 = .ok (.ireturn, 1) := dk_172 (dk_at dksX6_number_2 6 rfl rfl)
abbrev cX6_tenant : ByteArray := prog_10_method_18_code
def yX6_tenant : MethodName := ⟨RX6, "tenant", "()V"⟩
def dkwX6_tenant_8 : List UInt8 := [43, 182, 0, 168, 87, 177]
abbrev dktX6_tenant_8 : List UInt8 := dkwX6_tenant_8 ++ []
def dkwX6_tenant_7 : List UInt8 := [182, 0, 105, 153, 0, 14, 43, 42, 3, 16, 100, 182, 0, 97, 181, 0, 166, 42, 180, 0, 12, 180, 0, 118]
abbrev dktX6_tenant_7 : List UInt8 := dkwX6_tenant_7 ++ dktX6_tenant_8
def dkwX6_tenant_6 : List UInt8 := [182, 0, 145, 181, 0, 158, 43, 42, 18, 160, 3, 17, 3, 231, 182, 0, 145, 181, 0, 162, 42, 18, 164]
abbrev dktX6_tenant_6 : List UInt8 := dkwX6_tenant_6 ++ dktX6_tenant_7
def dkwX6_tenant_5 : List UInt8 := [181, 0, 149, 43, 42, 18, 152, 3, 16, 40, 182, 0, 145, 181, 0, 154, 43, 42, 18, 156, 3, 16, 9]
abbrev dktX6_tenant_5 : List UInt8 := dkwX6_tenant_5 ++ dktX6_tenant_6
def dkwX6_tenant_4 : List UInt8 := [183, 0, 140, 76, 42, 182, 0, 90, 43, 42, 18, 143, 3, 42, 180, 0, 12, 180, 0, 100, 182, 0, 145]
abbrev dktX6_tenant_4 : List UInt8 := dkwX6_tenant_4 ++ dktX6_tenant_5
def dkwX6_tenant_3 : List UInt8 := [180, 0, 26, 6, 42, 180, 0, 33, 182, 0, 80, 191, 167, 255, 212, 187, 0, 137, 89, 42, 180, 0, 59]
abbrev dktX6_tenant_3 : List UInt8 := dkwX6_tenant_3 ++ dktX6_tenant_4
def dkwX6_tenant_2 : List UInt8 := [185, 0, 134, 1, 0, 192, 0, 137, 77, 44, 180, 0, 139, 42, 180, 0, 59, 148, 154, 0, 16, 42]
abbrev dktX6_tenant_2 : List UInt8 := dkwX6_tenant_2 ++ dktX6_tenant_3
def dkwX6_tenant_1 : List UInt8 := [180, 0, 12, 180, 0, 118, 182, 0, 122, 76, 43, 185, 0, 128, 1, 0, 153, 0, 41, 43]
abbrev dktX6_tenant_1 : List UInt8 := dkwX6_tenant_1 ++ dktX6_tenant_2
def dkwX6_tenant_0 : List UInt8 := [42, 180, 0, 40, 4, 160, 0, 13, 42, 178, 0, 110, 182, 0, 114, 155, 0, 8, 42, 182, 0, 86, 191, 42]
abbrev dktX6_tenant_0 : List UInt8 := dkwX6_tenant_0 ++ dktX6_tenant_1
theorem dksX6_tenant_0 : cX6_tenant.data.toList.drop 0 = dktX6_tenant_0 := by decide +kernel
theorem dksX6_tenant_1 : cX6_tenant.data.toList.drop 24 = dktX6_tenant_1 := dk_seg dksX6_tenant_0 24 rfl rfl
theorem dksX6_tenant_2 : cX6_tenant.data.toList.drop 44 = dktX6_tenant_2 := dk_seg dksX6_tenant_1 20 rfl rfl
theorem dksX6_tenant_3 : cX6_tenant.data.toList.drop 66 = dktX6_tenant_3 := dk_seg dksX6_tenant_2 22 rfl rfl
theorem dksX6_tenant_4 : cX6_tenant.data.toList.drop 89 = dktX6_tenant_4 := dk_seg dksX6_tenant_3 23 rfl rfl
theorem dksX6_tenant_5 : cX6_tenant.data.toList.drop 112 = dktX6_tenant_5 := dk_seg dksX6_tenant_4 23 rfl rfl
theorem dksX6_tenant_6 : cX6_tenant.data.toList.drop 135 = dktX6_tenant_6 := dk_seg dksX6_tenant_5 23 rfl rfl
theorem dksX6_tenant_7 : cX6_tenant.data.toList.drop 158 = dktX6_tenant_7 := dk_seg dksX6_tenant_6 23 rfl rfl
theorem dksX6_tenant_8 : cX6_tenant.data.toList.drop 182 = dktX6_tenant_8 := dk_seg dksX6_tenant_7 24 rfl rfl
theorem dX6_tenant_0 : decode cX6_tenant 0 = .ok (.aload_n 0, 1) := dk_42 (dk_at dksX6_tenant_0 0 rfl rfl)
theorem dX6_tenant_1 : decode cX6_tenant 1 = .ok (.getfield 40, 3) := dk_180 0 40 (dk_at dksX6_tenant_0 1 rfl rfl)
theorem dX6_tenant_4 : decode cX6_tenant 4 = .ok (.iconst 1, 1) := dk_4 (dk_at dksX6_tenant_0 4 rfl rfl)
theorem dX6_tenant_5 : decode cX6_tenant 5 = .ok (.if_icmp .ne 13, 3) := dk_160 0 13 (dk_at dksX6_tenant_0 5 rfl rfl)
theorem dX6_tenant_8 : decode cX6_tenant 8 = .ok (.aload_n 0, 1) := dk_42 (dk_at dksX6_tenant_0 8 rfl rfl)
theorem dX6_tenant_9 : decode cX6_tenant 9 = .ok (.getstatic 110, 3) := dk_178 0 110 (dk_at dksX6_tenant_0 9 rfl rfl)
theorem dX6_tenant_12 : decode cX6_tenant 12 = .ok (.invokevirtual 114, 3) := dk_182 0 114 (dk_at dksX6_tenant_0 12 rfl rfl)
theorem dX6_tenant_15 : decode cX6_tenant 15 = .ok (.ifCond .lt 8, 3) := dk_155 0 8 (dk_at dksX6_tenant_0 15 rfl rfl)
theorem dX6_tenant_18 : decode cX6_tenant 18 = .ok (.aload_n 0, 1) := dk_42 (dk_at dksX6_tenant_0 18 rfl rfl)
theorem dX6_tenant_19 : decode cX6_tenant 19 = .ok (.invokevirtual 86, 3) := dk_182 0 86 (dk_at dksX6_tenant_0 19 rfl rfl)
theorem dX6_tenant_22 : decode cX6_tenant 22 = .ok (.athrow, 1) := dk_191 (dk_at dksX6_tenant_0 22 rfl rfl)
theorem dX6_tenant_23 : decode cX6_tenant 23 = .ok (.aload_n 0, 1) := dk_42 (dk_at dksX6_tenant_0 23 rfl rfl)
theorem dX6_tenant_24 : decode cX6_tenant 24 = .ok (.getfield 12, 3) := dk_180 0 12 (dk_at dksX6_tenant_1 0 rfl rfl)
theorem dX6_tenant_27 : decode cX6_tenant 27 = .ok (.getfield 118, 3) := dk_180 0 118 (dk_at dksX6_tenant_1 3 rfl rfl)
theorem dX6_tenant_30 : decode cX6_tenant 30 = .ok (.invokevirtual 122, 3) := dk_182 0 122 (dk_at dksX6_tenant_1 6 rfl rfl)
theorem dX6_tenant_33 : decode cX6_tenant 33 = .ok (.astore_n 1, 1) := dk_76 (dk_at dksX6_tenant_1 9 rfl rfl)
theorem dX6_tenant_34 : decode cX6_tenant 34 = .ok (.aload_n 1, 1) := dk_43 (dk_at dksX6_tenant_1 10 rfl rfl)
theorem dX6_tenant_35 : decode cX6_tenant 35 = .ok (.invokeinterface 128 1, 5) := by decide +kernel
theorem dX6_tenant_40 : decode cX6_tenant 40 = .ok (.ifCond .eq 41, 3) := dk_153 0 41 (dk_at dksX6_tenant_1 16 rfl rfl)
theorem dX6_tenant_43 : decode cX6_tenant 43 = .ok (.aload_n 1, 1) := dk_43 (dk_at dksX6_tenant_1 19 rfl rfl)
theorem dX6_tenant_44 : decode cX6_tenant 44 = .ok (.invokeinterface 134 1, 5) := by decide +kernel
theorem dX6_tenant_49 : decode cX6_tenant 49 = .ok (.checkcast 137, 3) := dk_192 0 137 (dk_at dksX6_tenant_2 5 rfl rfl)
theorem dX6_tenant_52 : decode cX6_tenant 52 = .ok (.astore_n 2, 1) := dk_77 (dk_at dksX6_tenant_2 8 rfl rfl)
theorem dX6_tenant_53 : decode cX6_tenant 53 = .ok (.aload_n 2, 1) := dk_44 (dk_at dksX6_tenant_2 9 rfl rfl)
theorem dX6_tenant_54 : decode cX6_tenant 54 = .ok (.getfield 139, 3) := dk_180 0 139 (dk_at dksX6_tenant_2 10 rfl rfl)
theorem dX6_tenant_57 : decode cX6_tenant 57 = .ok (.aload_n 0, 1) := dk_42 (dk_at dksX6_tenant_2 13 rfl rfl)
theorem dX6_tenant_58 : decode cX6_tenant 58 = .ok (.getfield 59, 3) := dk_180 0 59 (dk_at dksX6_tenant_2 14 rfl rfl)
theorem dX6_tenant_61 : decode cX6_tenant 61 = .ok (.lcmp, 1) := dk_148 (dk_at dksX6_tenant_2 17 rfl rfl)
theorem dX6_tenant_62 : decode cX6_tenant 62 = .ok (.ifCond .ne 16, 3) := dk_154 0 16 (dk_at dksX6_tenant_2 18 rfl rfl)
theorem dX6_tenant_65 : decode cX6_tenant 65 = .ok (.aload_n 0, 1) := dk_42 (dk_at dksX6_tenant_2 21 rfl rfl)
theorem dX6_tenant_66 : decode cX6_tenant 66 = .ok (.getfield 26, 3) := dk_180 0 26 (dk_at dksX6_tenant_3 0 rfl rfl)
theorem dX6_tenant_69 : decode cX6_tenant 69 = .ok (.iconst 3, 1) := dk_6 (dk_at dksX6_tenant_3 3 rfl rfl)
theorem dX6_tenant_70 : decode cX6_tenant 70 = .ok (.aload_n 0, 1) := dk_42 (dk_at dksX6_tenant_3 4 rfl rfl)
theorem dX6_tenant_71 : decode cX6_tenant 71 = .ok (.getfield 33, 3) := dk_180 0 33 (dk_at dksX6_tenant_3 5 rfl rfl)
theorem dX6_tenant_74 : decode cX6_tenant 74 = .ok (.invokevirtual 80, 3) := dk_182 0 80 (dk_at dksX6_tenant_3 8 rfl rfl)
theorem dX6_tenant_77 : decode cX6_tenant 77 = .ok (.athrow, 1) := dk_191 (dk_at dksX6_tenant_3 11 rfl rfl)
theorem dX6_tenant_78 : decode cX6_tenant 78 = .ok (.goto (-44), 3) := dk_167 255 212 (dk_at dksX6_tenant_3 12 rfl rfl)
theorem dX6_tenant_81 : decode cX6_tenant 81 = .ok (.new 137, 3) := dk_187 0 137 (dk_at dksX6_tenant_3 15 rfl rfl)
theorem dX6_tenant_84 : decode cX6_tenant 84 = .ok (.dup, 1) := dk_89 (dk_at dksX6_tenant_3 18 rfl rfl)
theorem dX6_tenant_85 : decode cX6_tenant 85 = .ok (.aload_n 0, 1) := dk_42 (dk_at dksX6_tenant_3 19 rfl rfl)
theorem dX6_tenant_86 : decode cX6_tenant 86 = .ok (.getfield 59, 3) := dk_180 0 59 (dk_at dksX6_tenant_3 20 rfl rfl)
theorem dX6_tenant_89 : decode cX6_tenant 89 = .ok (.invokespecial 140, 3) := dk_183 0 140 (dk_at dksX6_tenant_4 0 rfl rfl)
theorem dX6_tenant_92 : decode cX6_tenant 92 = .ok (.astore_n 1, 1) := dk_76 (dk_at dksX6_tenant_4 3 rfl rfl)
theorem dX6_tenant_93 : decode cX6_tenant 93 = .ok (.aload_n 0, 1) := dk_42 (dk_at dksX6_tenant_4 4 rfl rfl)
theorem dX6_tenant_94 : decode cX6_tenant 94 = .ok (.invokevirtual 90, 3) := dk_182 0 90 (dk_at dksX6_tenant_4 5 rfl rfl)
theorem dX6_tenant_97 : decode cX6_tenant 97 = .ok (.aload_n 1, 1) := dk_43 (dk_at dksX6_tenant_4 8 rfl rfl)
theorem dX6_tenant_98 : decode cX6_tenant 98 = .ok (.aload_n 0, 1) := dk_42 (dk_at dksX6_tenant_4 9 rfl rfl)
theorem dX6_tenant_99 : decode cX6_tenant 99 = .ok (.ldc 143, 2) := dk_18 143 (dk_at dksX6_tenant_4 10 rfl rfl)
theorem dX6_tenant_101 : decode cX6_tenant 101 = .ok (.iconst 0, 1) := dk_3 (dk_at dksX6_tenant_4 12 rfl rfl)
theorem dX6_tenant_102 : decode cX6_tenant 102 = .ok (.aload_n 0, 1) := dk_42 (dk_at dksX6_tenant_4 13 rfl rfl)
theorem dX6_tenant_103 : decode cX6_tenant 103 = .ok (.getfield 12, 3) := dk_180 0 12 (dk_at dksX6_tenant_4 14 rfl rfl)
theorem dX6_tenant_106 : decode cX6_tenant 106 = .ok (.getfield 100, 3) := dk_180 0 100 (dk_at dksX6_tenant_4 17 rfl rfl)
theorem dX6_tenant_109 : decode cX6_tenant 109 = .ok (.invokevirtual 145, 3) := dk_182 0 145 (dk_at dksX6_tenant_4 20 rfl rfl)
theorem dX6_tenant_112 : decode cX6_tenant 112 = .ok (.putfield 149, 3) := dk_181 0 149 (dk_at dksX6_tenant_5 0 rfl rfl)
theorem dX6_tenant_115 : decode cX6_tenant 115 = .ok (.aload_n 1, 1) := dk_43 (dk_at dksX6_tenant_5 3 rfl rfl)
theorem dX6_tenant_116 : decode cX6_tenant 116 = .ok (.aload_n 0, 1) := dk_42 (dk_at dksX6_tenant_5 4 rfl rfl)
theorem dX6_tenant_117 : decode cX6_tenant 117 = .ok (.ldc 152, 2) := dk_18 152 (dk_at dksX6_tenant_5 5 rfl rfl)
theorem dX6_tenant_119 : decode cX6_tenant 119 = .ok (.iconst 0, 1) := dk_3 (dk_at dksX6_tenant_5 7 rfl rfl)
theorem dX6_tenant_120 : decode cX6_tenant 120 = .ok (.bipush 40, 2) := dk_16 40 (dk_at dksX6_tenant_5 8 rfl rfl)
theorem dX6_tenant_122 : decode cX6_tenant 122 = .ok (.invokevirtual 145, 3) := dk_182 0 145 (dk_at dksX6_tenant_5 10 rfl rfl)
theorem dX6_tenant_125 : decode cX6_tenant 125 = .ok (.putfield 154, 3) := dk_181 0 154 (dk_at dksX6_tenant_5 13 rfl rfl)
theorem dX6_tenant_128 : decode cX6_tenant 128 = .ok (.aload_n 1, 1) := dk_43 (dk_at dksX6_tenant_5 16 rfl rfl)
theorem dX6_tenant_129 : decode cX6_tenant 129 = .ok (.aload_n 0, 1) := dk_42 (dk_at dksX6_tenant_5 17 rfl rfl)
theorem dX6_tenant_130 : decode cX6_tenant 130 = .ok (.ldc 156, 2) := dk_18 156 (dk_at dksX6_tenant_5 18 rfl rfl)
theorem dX6_tenant_132 : decode cX6_tenant 132 = .ok (.iconst 0, 1) := dk_3 (dk_at dksX6_tenant_5 20 rfl rfl)
theorem dX6_tenant_133 : decode cX6_tenant 133 = .ok (.bipush 9, 2) := dk_16 9 (dk_at dksX6_tenant_5 21 rfl rfl)
theorem dX6_tenant_135 : decode cX6_tenant 135 = .ok (.invokevirtual 145, 3) := dk_182 0 145 (dk_at dksX6_tenant_6 0 rfl rfl)
theorem dX6_tenant_138 : decode cX6_tenant 138 = .ok (.putfield 158, 3) := dk_181 0 158 (dk_at dksX6_tenant_6 3 rfl rfl)
theorem dX6_tenant_141 : decode cX6_tenant 141 = .ok (.aload_n 1, 1) := dk_43 (dk_at dksX6_tenant_6 6 rfl rfl)
theorem dX6_tenant_142 : decode cX6_tenant 142 = .ok (.aload_n 0, 1) := dk_42 (dk_at dksX6_tenant_6 7 rfl rfl)
theorem dX6_tenant_143 : decode cX6_tenant 143 = .ok (.ldc 160, 2) := dk_18 160 (dk_at dksX6_tenant_6 8 rfl rfl)
theorem dX6_tenant_145 : decode cX6_tenant 145 = .ok (.iconst 0, 1) := dk_3 (dk_at dksX6_tenant_6 10 rfl rfl)
theorem dX6_tenant_146 : decode cX6_tenant 146 = .ok (.sipush 999, 3) := dk_17 3 231 (dk_at dksX6_tenant_6 11 rfl rfl)
theorem dX6_tenant_149 : decode cX6_tenant 149 = .ok (.invokevirtual 145, 3) := dk_182 0 145 (dk_at dksX6_tenant_6 14 rfl rfl)
theorem dX6_tenant_152 : decode cX6_tenant 152 = .ok (.putfield 162, 3) := dk_181 0 162 (dk_at dksX6_tenant_6 17 rfl rfl)
theorem dX6_tenant_155 : decode cX6_tenant 155 = .ok (.aload_n 0, 1) := dk_42 (dk_at dksX6_tenant_6 20 rfl rfl)
theorem dX6_tenant_156 : decode cX6_tenant 156 = .ok (.ldc 164, 2) := dk_18 164 (dk_at dksX6_tenant_6 21 rfl rfl)
theorem dX6_tenant_158 : decode cX6_tenant 158 = .ok (.invokevirtual 105, 3) := dk_182 0 105 (dk_at dksX6_tenant_7 0 rfl rfl)
theorem dX6_tenant_161 : decode cX6_tenant 161 = .ok (.ifCond .eq 14, 3) := dk_153 0 14 (dk_at dksX6_tenant_7 3 rfl rfl)
theorem dX6_tenant_164 : decode cX6_tenant 164 = .ok (.aload_n 1, 1) := dk_43 (dk_at dksX6_tenant_7 6 rfl rfl)
theorem dX6_tenant_165 : decode cX6_tenant 165 = .ok (.aload_n 0, 1) := dk_42 (dk_at dksX6_tenant_7 7 rfl rfl)
theorem dX6_tenant_166 : decode cX6_tenant 166 = .ok (.iconst 0, 1) := dk_3 (dk_at dksX6_tenant_7 8 rfl rfl)
theorem dX6_tenant_167 : decode cX6_tenant 167 = .ok (.bipush 100, 2) := dk_16 100 (dk_at dksX6_tenant_7 9 rfl rfl)
theorem dX6_tenant_169 : decode cX6_tenant 169 = .ok (.invokevirtual 97, 3) := dk_182 0 97 (dk_at dksX6_tenant_7 11 rfl rfl)
theorem dX6_tenant_172 : decode cX6_tenant 172 = .ok (.putfield 166, 3) := dk_181 0 166 (dk_at dksX6_tenant_7 14 rfl rfl)
theorem dX6_tenant_175 : decode cX6_tenant 175 = .ok (.aload_n 0, 1) := dk_42 (dk_at dksX6_tenant_7 17 rfl rfl)
theorem dX6_tenant_176 : decode cX6_tenant 176 = .ok (.getfield 12, 3) := dk_180 0 12 (dk_at dksX6_tenant_7 18 rfl rfl)
theorem dX6_tenant_179 : decode cX6_tenant 179 = .ok (.getfield 118, 3) := dk_180 0 118 (dk_at dksX6_tenant_7 21 rfl rfl)
theorem dX6_tenant_182 : decode cX6_tenant 182 = .ok (.aload_n 1, 1) := dk_43 (dk_at dksX6_tenant_8 0 rfl rfl)
theorem dX6_tenant_183 : decode cX6_tenant 183 = .ok (.invokevirtual 168, 3) := dk_182 0 168 (dk_at dksX6_tenant_8 1 rfl rfl)
theorem dX6_tenant_186 : decode cX6_tenant 186 = .ok (.pop, 1) := dk_87 (dk_at dksX6_tenant_8 4 rfl rfl)
theorem dX6_tenant_187 : decode cX6_tenant 187 = .ok (.return_, 1) := dk_177 (dk_at dksX6_tenant_8 5 rfl rfl)
abbrev cX6_which : ByteArray := prog_10_method_10_code
def yX6_which : MethodName := ⟨RX6, "which", "([Ljava/lang/String;)I"⟩
def dkwX6_which_1 : List UInt8 := [167, 255, 235, 2, 172]
abbrev dktX6_which_1 : List UInt8 := dkwX6_which_1 ++ []
def dkwX6_which_0 : List UInt8 := [3, 61, 28, 43, 190, 162, 0, 21, 42, 43, 28, 50, 182, 0, 76, 153, 0, 5, 28, 172, 132, 2, 1]
abbrev dktX6_which_0 : List UInt8 := dkwX6_which_0 ++ dktX6_which_1
theorem dksX6_which_0 : cX6_which.data.toList.drop 0 = dktX6_which_0 := by decide +kernel
theorem dksX6_which_1 : cX6_which.data.toList.drop 23 = dktX6_which_1 := dk_seg dksX6_which_0 23 rfl rfl
theorem dX6_which_0 : decode cX6_which 0 = .ok (.iconst 0, 1) := dk_3 (dk_at dksX6_which_0 0 rfl rfl)
theorem dX6_which_1 : decode cX6_which 1 = .ok (.istore_n 2, 1) := dk_61 (dk_at dksX6_which_0 1 rfl rfl)
theorem dX6_which_2 : decode cX6_which 2 = .ok (.iload_n 2, 1) := dk_28 (dk_at dksX6_which_0 2 rfl rfl)
theorem dX6_which_3 : decode cX6_which 3 = .ok (.aload_n 1, 1) := dk_43 (dk_at dksX6_which_0 3 rfl rfl)
theorem dX6_which_4 : decode cX6_which 4 = .ok (.arraylength, 1) := dk_190 (dk_at dksX6_which_0 4 rfl rfl)
theorem dX6_which_5 : decode cX6_which 5 = .ok (.if_icmp .ge 21, 3) := dk_162 0 21 (dk_at dksX6_which_0 5 rfl rfl)
theorem dX6_which_8 : decode cX6_which 8 = .ok (.aload_n 0, 1) := dk_42 (dk_at dksX6_which_0 8 rfl rfl)
theorem dX6_which_9 : decode cX6_which 9 = .ok (.aload_n 1, 1) := dk_43 (dk_at dksX6_which_0 9 rfl rfl)
theorem dX6_which_10 : decode cX6_which 10 = .ok (.iload_n 2, 1) := dk_28 (dk_at dksX6_which_0 10 rfl rfl)
theorem dX6_which_11 : decode cX6_which 11 = .ok (.aaload, 1) := dk_50 (dk_at dksX6_which_0 11 rfl rfl)
theorem dX6_which_12 : decode cX6_which 12 = .ok (.invokevirtual 76, 3) := dk_182 0 76 (dk_at dksX6_which_0 12 rfl rfl)
theorem dX6_which_15 : decode cX6_which 15 = .ok (.ifCond .eq 5, 3) := dk_153 0 5 (dk_at dksX6_which_0 15 rfl rfl)
theorem dX6_which_18 : decode cX6_which 18 = .ok (.iload_n 2, 1) := dk_28 (dk_at dksX6_which_0 18 rfl rfl)
theorem dX6_which_19 : decode cX6_which 19 = .ok (.ireturn, 1) := dk_172 (dk_at dksX6_which_0 19 rfl rfl)
theorem dX6_which_20 : decode cX6_which 20 = .ok (.iinc 2 1, 3) := dk_132 2 1 (dk_at dksX6_which_0 20 rfl rfl)
theorem dX6_which_23 : decode cX6_which 23 = .ok (.goto (-21), 3) := dk_167 255 235 (dk_at dksX6_which_1 0 rfl rfl)
theorem dX6_which_26 : decode cX6_which 26 = .ok (.iconst (-1), 1) := dk_2 (dk_at dksX6_which_1 3 rfl rfl)
theorem dX6_which_27 : decode cX6_which 27 = .ok (.ireturn, 1) := dk_172 (dk_at dksX6_which_1 4 rfl rfl)
abbrev cX6_after : ByteArray := prog_10_method_15_code
def yX6_after : MethodName := ⟨RX6, "after", "(Ljava/lang/String;II)I"⟩
def dkwX6_after_0 : List UInt8 := [42, 42, 43, 182, 0, 76, 182, 0, 93, 42, 28, 29, 182, 0, 97, 172]
abbrev dktX6_after_0 : List UInt8 := dkwX6_after_0 ++ []
theorem dksX6_after_0 : cX6_after.data.toList.drop 0 = dktX6_after_0 := by decide +kernel
theorem dX6_after_0 : decode cX6_after 0 = .ok (.aload_n 0, 1) := dk_42 (dk_at dksX6_after_0 0 rfl rfl)
theorem dX6_after_1 : decode cX6_after 1 = .ok (.aload_n 0, 1) := dk_42 (dk_at dksX6_after_0 1 rfl rfl)
theorem dX6_after_2 : decode cX6_after 2 = .ok (.aload_n 1, 1) := dk_43 (dk_at dksX6_after_0 2 rfl rfl)
theorem dX6_after_3 : decode cX6_after 3 = .ok (.invokevirtual 76, 3) := dk_182 0 76 (dk_at dksX6_after_0 3 rfl rfl)
theorem dX6_after_6 : decode cX6_after 6 = .ok (.invokevirtual 93, 3) := dk_182 0 93 (dk_at dksX6_after_0 6 rfl rfl)
theorem dX6_after_9 : decode cX6_after 9 = .ok (.aload_n 0, 1) := dk_42 (dk_at dksX6_after_0 9 rfl rfl)
theorem dX6_after_10 : decode cX6_after 10 = .ok (.iload_n 2, 1) := dk_28 (dk_at dksX6_after_0 10 rfl rfl)
theorem dX6_after_11 : decode cX6_after 11 = .ok (.iload_n 3, 1) := dk_29 (dk_at dksX6_after_0 11 rfl rfl)
theorem dX6_after_12 : decode cX6_after 12 = .ok (.invokevirtual 97, 3) := dk_182 0 97 (dk_at dksX6_after_0 12 rfl rfl)
theorem dX6_after_15 : decode cX6_after 15 = .ok (.ireturn, 1) := dk_172 (dk_at dksX6_after_0 15 rfl rfl)
abbrev cX6_must : ByteArray := prog_10_method_13_code
def yX6_must : MethodName := ⟨RX6, "must", "(Z)V"⟩
def dkwX6_must_0 : List UInt8 := [27, 154, 0, 8, 42, 182, 0, 86, 191, 42, 182, 0, 90, 177]
abbrev dktX6_must_0 : List UInt8 := dkwX6_must_0 ++ []
theorem dksX6_must_0 : cX6_must.data.toList.drop 0 = dktX6_must_0 := by decide +kernel
theorem dX6_must_0 : decode cX6_must 0 = .ok (.iload_n 1, 1) := dk_27 (dk_at dksX6_must_0 0 rfl rfl)
theorem dX6_must_1 : decode cX6_must 1 = .ok (.ifCond .ne 8, 3) := dk_154 0 8 (dk_at dksX6_must_0 1 rfl rfl)
theorem dX6_must_4 : decode cX6_must 4 = .ok (.aload_n 0, 1) := dk_42 (dk_at dksX6_must_0 4 rfl rfl)
theorem dX6_must_5 : decode cX6_must 5 = .ok (.invokevirtual 86, 3) := dk_182 0 86 (dk_at dksX6_must_0 5 rfl rfl)
theorem dX6_must_8 : decode cX6_must 8 = .ok (.athrow, 1) := dk_191 (dk_at dksX6_must_0 8 rfl rfl)
theorem dX6_must_9 : decode cX6_must 9 = .ok (.aload_n 0, 1) := dk_42 (dk_at dksX6_must_0 9 rfl rfl)
theorem dX6_must_10 : decode cX6_must 10 = .ok (.invokevirtual 90, 3) := dk_182 0 90 (dk_at dksX6_must_0 10 rfl rfl)
theorem dX6_must_13 : decode cX6_must 13 = .ok (.return_, 1) := dk_177 (dk_at dksX6_must_0 13 rfl rfl)
abbrev cX6_formula : ByteArray := prog_10_method_19_code
def yX6_formula : MethodName := ⟨RX6, "formula", "()LSoManyStairs$Part;"⟩
def dkwX6_formula_0 : List UInt8 := [42, 3, 181, 0, 172, 42, 3, 181, 0, 175, 42, 182, 0, 178, 176]
abbrev dktX6_formula_0 : List UInt8 := dkwX6_formula_0 ++ []
theorem dksX6_formula_0 : cX6_formula.data.toList.drop 0 = dktX6_formula_0 := by decide +kernel
theorem dX6_formula_0 : decode cX6_formula 0 = .ok (.aload_n 0, 1) := dk_42 (dk_at dksX6_formula_0 0 rfl rfl)
theorem dX6_formula_1 : decode cX6_formula 1 = .ok (.iconst 0, 1) := dk_3 (dk_at dksX6_formula_0 1 rfl rfl)
theorem dX6_formula_2 : decode cX6_formula 2 = .ok (.putfield 172, 3) := dk_181 0 172 (dk_at dksX6_formula_0 2 rfl rfl)
theorem dX6_formula_5 : decode cX6_formula 5 = .ok (.aload_n 0, 1) := dk_42 (dk_at dksX6_formula_0 5 rfl rfl)
theorem dX6_formula_6 : decode cX6_formula 6 = .ok (.iconst 0, 1) := dk_3 (dk_at dksX6_formula_0 6 rfl rfl)
theorem dX6_formula_7 : decode cX6_formula 7 = .ok (.putfield 175, 3) := dk_181 0 175 (dk_at dksX6_formula_0 7 rfl rfl)
theorem dX6_formula_10 : decode cX6_formula 10 = .ok (.aload_n 0, 1) := dk_42 (dk_at dksX6_formula_0 10 rfl rfl)
theorem dX6_formula_11 : decode cX6_formula 11 = .ok (.invokevirtual 178, 3) := dk_182 0 178 (dk_at dksX6_formula_0 11 rfl rfl)
theorem dX6_formula_14 : decode cX6_formula 14 = .ok (.areturn, 1) := dk_176 (dk_at dksX6_formula_0 14 rfl rfl)
abbrev cX6_either : ByteArray := prog_10_method_20_code
def yX6_either : MethodName := ⟨RX6, "either", "()LSoManyStairs$Part;"⟩
def dkwX6_either_1 : List UInt8 := [182, 0, 182, 183, 0, 189, 76, 167, 255, 232, 43, 176]
abbrev dktX6_either_1 : List UInt8 := dkwX6_either_1 ++ []
def dkwX6_either_0 : List UInt8 := [42, 182, 0, 182, 76, 42, 18, 185, 182, 0, 105, 153, 0, 21, 187, 0, 187, 89, 16, 124, 43, 42]
abbrev dktX6_either_0 : List UInt8 := dkwX6_either_0 ++ dktX6_either_1
theorem dksX6_either_0 : cX6_either.data.toList.drop 0 = dktX6_either_0 := by decide +kernel
theorem dksX6_either_1 : cX6_either.data.toList.drop 22 = dktX6_either_1 := dk_seg dksX6_either_0 22 rfl rfl
theorem dX6_either_0 : decode cX6_either 0 = .ok (.aload_n 0, 1) := dk_42 (dk_at dksX6_either_0 0 rfl rfl)
theorem dX6_either_1 : decode cX6_either 1 = .ok (.invokevirtual 182, 3) := dk_182 0 182 (dk_at dksX6_either_0 1 rfl rfl)
theorem dX6_either_4 : decode cX6_either 4 = .ok (.astore_n 1, 1) := dk_76 (dk_at dksX6_either_0 4 rfl rfl)
theorem dX6_either_5 : decode cX6_either 5 = .ok (.aload_n 0, 1) := dk_42 (dk_at dksX6_either_0 5 rfl rfl)
theorem dX6_either_6 : decode cX6_either 6 = .ok (.ldc 185, 2) := dk_18 185 (dk_at dksX6_either_0 6 rfl rfl)
theorem dX6_either_8 : decode cX6_either 8 = .ok (.invokevirtual 105, 3) := dk_182 0 105 (dk_at dksX6_either_0 8 rfl rfl)
theorem dX6_either_11 : decode cX6_either 11 = .ok (.ifCond .eq 21, 3) := dk_153 0 21 (dk_at dksX6_either_0 11 rfl rfl)
theorem dX6_either_14 : decode cX6_either 14 = .ok (.new 187, 3) := dk_187 0 187 (dk_at dksX6_either_0 14 rfl rfl)
theorem dX6_either_17 : decode cX6_either 17 = .ok (.dup, 1) := dk_89 (dk_at dksX6_either_0 17 rfl rfl)
theorem dX6_either_18 : decode cX6_either 18 = .ok (.bipush 124, 2) := dk_16 124 (dk_at dksX6_either_0 18 rfl rfl)
theorem dX6_either_20 : decode cX6_either 20 = .ok (.aload_n 1, 1) := dk_43 (dk_at dksX6_either_0 20 rfl rfl)
theorem dX6_either_21 : decode cX6_either 21 = .ok (.aload_n 0, 1) := dk_42 (dk_at dksX6_either_0 21 rfl rfl)
theorem dX6_either_22 : decode cX6_either 22 = .ok (.invokevirtual 182, 3) := dk_182 0 182 (dk_at dksX6_either_1 0 rfl rfl)
theorem dX6_either_25 : decode cX6_either 25 = .ok (.invokespecial 189, 3) := dk_183 0 189 (dk_at dksX6_either_1 3 rfl rfl)
theorem dX6_either_28 : decode cX6_either 28 = .ok (.astore_n 1, 1) := dk_76 (dk_at dksX6_either_1 6 rfl rfl)
theorem dX6_either_29 : decode cX6_either 29 = .ok (.goto (-24), 3) := dk_167 255 232 (dk_at dksX6_either_1 7 rfl rfl)
theorem dX6_either_32 : decode cX6_either 32 = .ok (.aload_n 1, 1) := dk_43 (dk_at dksX6_either_1 10 rfl rfl)
theorem dX6_either_33 : decode cX6_either 33 = .ok (.areturn, 1) := dk_176 (dk_at dksX6_either_1 11 rfl rfl)
abbrev cX6_both : ByteArray := prog_10_method_21_code
def yX6_both : MethodName := ⟨RX6, "both", "()LSoManyStairs$Part;"⟩
def dkwX6_both_1 : List UInt8 := [182, 0, 192, 183, 0, 189, 76, 167, 255, 232, 43, 176]
abbrev dktX6_both_1 : List UInt8 := dkwX6_both_1 ++ []
def dkwX6_both_0 : List UInt8 := [42, 182, 0, 192, 76, 42, 18, 195, 182, 0, 105, 153, 0, 21, 187, 0, 187, 89, 16, 38, 43, 42]
abbrev dktX6_both_0 : List UInt8 := dkwX6_both_0 ++ dktX6_both_1
theorem dksX6_both_0 : cX6_both.data.toList.drop 0 = dktX6_both_0 := by decide +kernel
theorem dksX6_both_1 : cX6_both.data.toList.drop 22 = dktX6_both_1 := dk_seg dksX6_both_0 22 rfl rfl
theorem dX6_both_0 : decode cX6_both 0 = .ok (.aload_n 0, 1) := dk_42 (dk_at dksX6_both_0 0 rfl rfl)
theorem dX6_both_1 : decode cX6_both 1 = .ok (.invokevirtual 192, 3) := dk_182 0 192 (dk_at dksX6_both_0 1 rfl rfl)
theorem dX6_both_4 : decode cX6_both 4 = .ok (.astore_n 1, 1) := dk_76 (dk_at dksX6_both_0 4 rfl rfl)
theorem dX6_both_5 : decode cX6_both 5 = .ok (.aload_n 0, 1) := dk_42 (dk_at dksX6_both_0 5 rfl rfl)
theorem dX6_both_6 : decode cX6_both 6 = .ok (.ldc 195, 2) := dk_18 195 (dk_at dksX6_both_0 6 rfl rfl)
theorem dX6_both_8 : decode cX6_both 8 = .ok (.invokevirtual 105, 3) := dk_182 0 105 (dk_at dksX6_both_0 8 rfl rfl)
theorem dX6_both_11 : decode cX6_both 11 = .ok (.ifCond .eq 21, 3) := dk_153 0 21 (dk_at dksX6_both_0 11 rfl rfl)
theorem dX6_both_14 : decode cX6_both 14 = .ok (.new 187, 3) := dk_187 0 187 (dk_at dksX6_both_0 14 rfl rfl)
theorem dX6_both_17 : decode cX6_both 17 = .ok (.dup, 1) := dk_89 (dk_at dksX6_both_0 17 rfl rfl)
theorem dX6_both_18 : decode cX6_both 18 = .ok (.bipush 38, 2) := dk_16 38 (dk_at dksX6_both_0 18 rfl rfl)
theorem dX6_both_20 : decode cX6_both 20 = .ok (.aload_n 1, 1) := dk_43 (dk_at dksX6_both_0 20 rfl rfl)
theorem dX6_both_21 : decode cX6_both 21 = .ok (.aload_n 0, 1) := dk_42 (dk_at dksX6_both_0 21 rfl rfl)
theorem dX6_both_22 : decode cX6_both 22 = .ok (.invokevirtual 192, 3) := dk_182 0 192 (dk_at dksX6_both_1 0 rfl rfl)
theorem dX6_both_25 : decode cX6_both 25 = .ok (.invokespecial 189, 3) := dk_183 0 189 (dk_at dksX6_both_1 3 rfl rfl)
theorem dX6_both_28 : decode cX6_both 28 = .ok (.astore_n 1, 1) := dk_76 (dk_at dksX6_both_1 6 rfl rfl)
theorem dX6_both_29 : decode cX6_both 29 = .ok (.goto (-24), 3) := dk_167 255 232 (dk_at dksX6_both_1 7 rfl rfl)
theorem dX6_both_32 : decode cX6_both 32 = .ok (.aload_n 1, 1) := dk_43 (dk_at dksX6_both_1 10 rfl rfl)
theorem dX6_both_33 : decode cX6_both 33 = .ok (.areturn, 1) := dk_176 (dk_at dksX6_both_1 11 rfl rfl)
abbrev cX6_one : ByteArray := prog_10_method_23_code
def yX6_one : MethodName := ⟨RX6, "one", "()LSoManyStairs$Part;"⟩
def dkwX6_one_4 : List UInt8 := [183, 0, 189, 176]
abbrev dktX6_one_4 : List UInt8 := dkwX6_one_4 ++ []
def dkwX6_one_3 : List UInt8 := [42, 180, 0, 33, 182, 0, 36, 61, 42, 182, 0, 90, 187, 0, 187, 89, 28, 43, 42, 182, 0, 207]
abbrev dktX6_one_3 : List UInt8 := dkwX6_one_3 ++ dktX6_one_4
def dkwX6_one_2 : List UInt8 := [154, 0, 23, 42, 16, 62, 182, 0, 210, 154, 0, 14, 42, 16, 61, 182, 0, 210, 154, 0, 5, 43, 176, 42]
abbrev dktX6_one_2 : List UInt8 := dkwX6_one_2 ++ dktX6_one_3
def dkwX6_one_1 : List UInt8 := [76, 42, 89, 180, 0, 175, 4, 100, 181, 0, 175, 43, 176, 42, 182, 0, 207, 76, 42, 16, 60, 182, 0, 210]
abbrev dktX6_one_1 : List UInt8 := dkwX6_one_1 ++ dktX6_one_2
def dkwX6_one_0 : List UInt8 := [42, 18, 197, 182, 0, 76, 153, 0, 31, 42, 182, 0, 199, 187, 0, 202, 89, 42, 182, 0, 192, 183, 0, 204]
abbrev dktX6_one_0 : List UInt8 := dkwX6_one_0 ++ dktX6_one_1
theorem dksX6_one_0 : cX6_one.data.toList.drop 0 = dktX6_one_0 := by decide +kernel
theorem dksX6_one_1 : cX6_one.data.toList.drop 24 = dktX6_one_1 := dk_seg dksX6_one_0 24 rfl rfl
theorem dksX6_one_2 : cX6_one.data.toList.drop 48 = dktX6_one_2 := dk_seg dksX6_one_1 24 rfl rfl
theorem dksX6_one_3 : cX6_one.data.toList.drop 72 = dktX6_one_3 := dk_seg dksX6_one_2 24 rfl rfl
theorem dksX6_one_4 : cX6_one.data.toList.drop 94 = dktX6_one_4 := dk_seg dksX6_one_3 22 rfl rfl
theorem dX6_one_0 : decode cX6_one 0 = .ok (.aload_n 0, 1) := dk_42 (dk_at dksX6_one_0 0 rfl rfl)
theorem dX6_one_1 : decode cX6_one 1 = .ok (.ldc 197, 2) := dk_18 197 (dk_at dksX6_one_0 1 rfl rfl)
theorem dX6_one_3 : decode cX6_one 3 = .ok (.invokevirtual 76, 3) := dk_182 0 76 (dk_at dksX6_one_0 3 rfl rfl)
theorem dX6_one_6 : decode cX6_one 6 = .ok (.ifCond .eq 31, 3) := dk_153 0 31 (dk_at dksX6_one_0 6 rfl rfl)
theorem dX6_one_9 : decode cX6_one 9 = .ok (.aload_n 0, 1) := dk_42 (dk_at dksX6_one_0 9 rfl rfl)
theorem dX6_one_10 : decode cX6_one 10 = .ok (.invokevirtual 199, 3) := dk_182 0 199 (dk_at dksX6_one_0 10 rfl rfl)
theorem dX6_one_13 : decode cX6_one 13 = .ok (.new 202, 3) := dk_187 0 202 (dk_at dksX6_one_0 13 rfl rfl)
theorem dX6_one_16 : decode cX6_one 16 = .ok (.dup, 1) := dk_89 (dk_at dksX6_one_0 16 rfl rfl)
theorem dX6_one_17 : decode cX6_one 17 = .ok (.aload_n 0, 1) := dk_42 (dk_at dksX6_one_0 17 rfl rfl)
theorem dX6_one_18 : decode cX6_one 18 = .ok (.invokevirtual 192, 3) := dk_182 0 192 (dk_at dksX6_one_0 18 rfl rfl)
theorem dX6_one_21 : decode cX6_one 21 = .ok (.invokespecial 204, 3) := dk_183 0 204 (dk_at dksX6_one_0 21 rfl rfl)
theorem dX6_one_24 : decode cX6_one 24 = .ok (.astore_n 1, 1) := dk_76 (dk_at dksX6_one_1 0 rfl rfl)
theorem dX6_one_25 : decode cX6_one 25 = .ok (.aload_n 0, 1) := dk_42 (dk_at dksX6_one_1 1 rfl rfl)
theorem dX6_one_26 : decode cX6_one 26 = .ok (.dup, 1) := dk_89 (dk_at dksX6_one_1 2 rfl rfl)
theorem dX6_one_27 : decode cX6_one 27 = .ok (.getfield 175, 3) := dk_180 0 175 (dk_at dksX6_one_1 3 rfl rfl)
theorem dX6_one_30 : decode cX6_one 30 = .ok (.iconst 1, 1) := dk_4 (dk_at dksX6_one_1 6 rfl rfl)
theorem dX6_one_31 : decode cX6_one 31 = .ok (.isub, 1) := dk_100 (dk_at dksX6_one_1 7 rfl rfl)
theorem dX6_one_32 : decode cX6_one 32 = .ok (.putfield 175, 3) := dk_181 0 175 (dk_at dksX6_one_1 8 rfl rfl)
theorem dX6_one_35 : decode cX6_one 35 = .ok (.aload_n 1, 1) := dk_43 (dk_at dksX6_one_1 11 rfl rfl)
theorem dX6_one_36 : decode cX6_one 36 = .ok (.areturn, 1) := dk_176 (dk_at dksX6_one_1 12 rfl rfl)
theorem dX6_one_37 : decode cX6_one 37 = .ok (.aload_n 0, 1) := dk_42 (dk_at dksX6_one_1 13 rfl rfl)
theorem dX6_one_38 : decode cX6_one 38 = .ok (.invokevirtual 207, 3) := dk_182 0 207 (dk_at dksX6_one_1 14 rfl rfl)
theorem dX6_one_41 : decode cX6_one 41 = .ok (.astore_n 1, 1) := dk_76 (dk_at dksX6_one_1 17 rfl rfl)
theorem dX6_one_42 : decode cX6_one 42 = .ok (.aload_n 0, 1) := dk_42 (dk_at dksX6_one_1 18 rfl rfl)
theorem dX6_one_43 : decode cX6_one 43 = .ok (.bipush 60, 2) := dk_16 60 (dk_at dksX6_one_1 19 rfl rfl)
theorem dX6_one_45 : decode cX6_one 45 = .ok (.invokevirtual 210, 3) := dk_182 0 210 (dk_at dksX6_one_1 21 rfl rfl)
theorem dX6_one_48 : decode cX6_one 48 = .ok (.ifCond .ne 23, 3) := dk_154 0 23 (dk_at dksX6_one_2 0 rfl rfl)
theorem dX6_one_51 : decode cX6_one 51 = .ok (.aload_n 0, 1) := dk_42 (dk_at dksX6_one_2 3 rfl rfl)
theorem dX6_one_52 : decode cX6_one 52 = .ok (.bipush 62, 2) := dk_16 62 (dk_at dksX6_one_2 4 rfl rfl)
theorem dX6_one_54 : decode cX6_one 54 = .ok (.invokevirtual 210, 3) := dk_182 0 210 (dk_at dksX6_one_2 6 rfl rfl)
theorem dX6_one_57 : decode cX6_one 57 = .ok (.ifCond .ne 14, 3) := dk_154 0 14 (dk_at dksX6_one_2 9 rfl rfl)
theorem dX6_one_60 : decode cX6_one 60 = .ok (.aload_n 0, 1) := dk_42 (dk_at dksX6_one_2 12 rfl rfl)
theorem dX6_one_61 : decode cX6_one 61 = .ok (.bipush 61, 2) := dk_16 61 (dk_at dksX6_one_2 13 rfl rfl)
theorem dX6_one_63 : decode cX6_one 63 = .ok (.invokevirtual 210, 3) := dk_182 0 210 (dk_at dksX6_one_2 15 rfl rfl)
theorem dX6_one_66 : decode cX6_one 66 = .ok (.ifCond .ne 5, 3) := dk_154 0 5 (dk_at dksX6_one_2 18 rfl rfl)
theorem dX6_one_69 : decode cX6_one 69 = .ok (.aload_n 1, 1) := dk_43 (dk_at dksX6_one_2 21 rfl rfl)
theorem dX6_one_70 : decode cX6_one 70 = .ok (.areturn, 1) := dk_176 (dk_at dksX6_one_2 22 rfl rfl)
theorem dX6_one_71 : decode cX6_one 71 = .ok (.aload_n 0, 1) := dk_42 (dk_at dksX6_one_2 23 rfl rfl)
theorem dX6_one_72 : decode cX6_one 72 = .ok (.aload_n 0, 1) := dk_42 (dk_at dksX6_one_3 0 rfl rfl)
theorem dX6_one_73 : decode cX6_one 73 = .ok (.getfield 33, 3) := dk_180 0 33 (dk_at dksX6_one_3 1 rfl rfl)
theorem dX6_one_76 : decode cX6_one 76 = .ok (.invokevirtual 36, 3) := dk_182 0 36 (dk_at dksX6_one_3 4 rfl rfl)
theorem dX6_one_79 : decode cX6_one 79 = .ok (.istore_n 2, 1) := dk_61 (dk_at dksX6_one_3 7 rfl rfl)
theorem dX6_one_80 : decode cX6_one 80 = .ok (.aload_n 0, 1) := dk_42 (dk_at dksX6_one_3 8 rfl rfl)
theorem dX6_one_81 : decode cX6_one 81 = .ok (.invokevirtual 90, 3) := dk_182 0 90 (dk_at dksX6_one_3 9 rfl rfl)
theorem dX6_one_84 : decode cX6_one 84 = .ok (.new 187, 3) := dk_187 0 187 (dk_at dksX6_one_3 12 rfl rfl)
theorem dX6_one_87 : decode cX6_one 87 = .ok (.dup, 1) := dk_89 (dk_at dksX6_one_3 15 rfl rfl)
theorem dX6_one_88 : decode cX6_one 88 = .ok (.iload_n 2, 1) := dk_28 (dk_at dksX6_one_3 16 rfl rfl)
theorem dX6_one_89 : decode cX6_one 89 = .ok (.aload_n 1, 1) := dk_43 (dk_at dksX6_one_3 17 rfl rfl)
theorem dX6_one_90 : decode cX6_one 90 = .ok (.aload_n 0, 1) := dk_42 (dk_at dksX6_one_3 18 rfl rfl)
theorem dX6_one_91 : decode cX6_one 91 = .ok (.invokevirtual 207, 3) := dk_182 0 207 (dk_at dksX6_one_3 19 rfl rfl)
theorem dX6_one_94 : decode cX6_one 94 = .ok (.invokespecial 189, 3) := dk_183 0 189 (dk_at dksX6_one_4 0 rfl rfl)
theorem dX6_one_97 : decode cX6_one 97 = .ok (.areturn, 1) := dk_176 (dk_at dksX6_one_4 3 rfl rfl)
abbrev cX6_open : ByteArray := prog_10_method_22_code
def yX6_open : MethodName := ⟨RX6, "open", "()V"⟩
def dkwX6_open_1 : List UInt8 := [42, 182, 0, 90, 177]
abbrev dktX6_open_1 : List UInt8 := dkwX6_open_1 ++ []
def dkwX6_open_0 : List UInt8 := [42, 180, 0, 175, 16, 7, 160, 0, 8, 42, 182, 0, 86, 191, 42, 89, 180, 0, 175, 4, 96, 181, 0, 175]
abbrev dktX6_open_0 : List UInt8 := dkwX6_open_0 ++ dktX6_open_1
theorem dksX6_open_0 : cX6_open.data.toList.drop 0 = dktX6_open_0 := by decide +kernel
theorem dksX6_open_1 : cX6_open.data.toList.drop 24 = dktX6_open_1 := dk_seg dksX6_open_0 24 rfl rfl
theorem dX6_open_0 : decode cX6_open 0 = .ok (.aload_n 0, 1) := dk_42 (dk_at dksX6_open_0 0 rfl rfl)
theorem dX6_open_1 : decode cX6_open 1 = .ok (.getfield 175, 3) := dk_180 0 175 (dk_at dksX6_open_0 1 rfl rfl)
theorem dX6_open_4 : decode cX6_open 4 = .ok (.bipush 7, 2) := dk_16 7 (dk_at dksX6_open_0 4 rfl rfl)
theorem dX6_open_6 : decode cX6_open 6 = .ok (.if_icmp .ne 8, 3) := dk_160 0 8 (dk_at dksX6_open_0 6 rfl rfl)
theorem dX6_open_9 : decode cX6_open 9 = .ok (.aload_n 0, 1) := dk_42 (dk_at dksX6_open_0 9 rfl rfl)
theorem dX6_open_10 : decode cX6_open 10 = .ok (.invokevirtual 86, 3) := dk_182 0 86 (dk_at dksX6_open_0 10 rfl rfl)
theorem dX6_open_13 : decode cX6_open 13 = .ok (.athrow, 1) := dk_191 (dk_at dksX6_open_0 13 rfl rfl)
theorem dX6_open_14 : decode cX6_open 14 = .ok (.aload_n 0, 1) := dk_42 (dk_at dksX6_open_0 14 rfl rfl)
theorem dX6_open_15 : decode cX6_open 15 = .ok (.dup, 1) := dk_89 (dk_at dksX6_open_0 15 rfl rfl)
theorem dX6_open_16 : decode cX6_open 16 = .ok (.getfield 175, 3) := dk_180 0 175 (dk_at dksX6_open_0 16 rfl rfl)
theorem dX6_open_19 : decode cX6_open 19 = .ok (.iconst 1, 1) := dk_4 (dk_at dksX6_open_0 19 rfl rfl)
theorem dX6_open_20 : decode cX6_open 20 = .ok (.iadd, 1) := dk_96 (dk_at dksX6_open_0 20 rfl rfl)
theorem dX6_open_21 : decode cX6_open 21 = .ok (.putfield 175, 3) := dk_181 0 175 (dk_at dksX6_open_0 21 rfl rfl)
theorem dX6_open_24 : decode cX6_open 24 = .ok (.aload_n 0, 1) := dk_42 (dk_at dksX6_open_1 0 rfl rfl)
theorem dX6_open_25 : decode cX6_open 25 = .ok (.invokevirtual 90, 3) := dk_182 0 90 (dk_at dksX6_open_1 1 rfl rfl)
theorem dX6_open_28 : decode cX6_open 28 = .ok (.return_, 1) := dk_177 (dk_at dksX6_open_1 4 rfl rfl)
abbrev cX6_sum : ByteArray := prog_10_method_24_code
def yX6_sum : MethodName := ⟨RX6, "sum", "()LSoManyStairs$Part;"⟩
def dkwX6_sum_2 : List UInt8 := [183, 0, 189, 76, 167, 255, 211, 43, 176]
abbrev dktX6_sum_2 : List UInt8 := dkwX6_sum_2 ++ []
def dkwX6_sum_1 : List UInt8 := [42, 180, 0, 33, 182, 0, 36, 61, 42, 182, 0, 90, 187, 0, 187, 89, 28, 43, 42, 182, 0, 213]
abbrev dktX6_sum_1 : List UInt8 := dkwX6_sum_1 ++ dktX6_sum_2
def dkwX6_sum_0 : List UInt8 := [42, 182, 0, 213, 76, 42, 16, 43, 182, 0, 210, 154, 0, 12, 42, 16, 45, 182, 0, 210, 153, 0, 33, 42]
abbrev dktX6_sum_0 : List UInt8 := dkwX6_sum_0 ++ dktX6_sum_1
theorem dksX6_sum_0 : cX6_sum.data.toList.drop 0 = dktX6_sum_0 := by decide +kernel
theorem dksX6_sum_1 : cX6_sum.data.toList.drop 24 = dktX6_sum_1 := dk_seg dksX6_sum_0 24 rfl rfl
theorem dksX6_sum_2 : cX6_sum.data.toList.drop 46 = dktX6_sum_2 := dk_seg dksX6_sum_1 22 rfl rfl
theorem dX6_sum_0 : decode cX6_sum 0 = .ok (.aload_n 0, 1) := dk_42 (dk_at dksX6_sum_0 0 rfl rfl)
theorem dX6_sum_1 : decode cX6_sum 1 = .ok (.invokevirtual 213, 3) := dk_182 0 213 (dk_at dksX6_sum_0 1 rfl rfl)
theorem dX6_sum_4 : decode cX6_sum 4 = .ok (.astore_n 1, 1) := dk_76 (dk_at dksX6_sum_0 4 rfl rfl)
theorem dX6_sum_5 : decode cX6_sum 5 = .ok (.aload_n 0, 1) := dk_42 (dk_at dksX6_sum_0 5 rfl rfl)
theorem dX6_sum_6 : decode cX6_sum 6 = .ok (.bipush 43, 2) := dk_16 43 (dk_at dksX6_sum_0 6 rfl rfl)
theorem dX6_sum_8 : decode cX6_sum 8 = .ok (.invokevirtual 210, 3) := dk_182 0 210 (dk_at dksX6_sum_0 8 rfl rfl)
theorem dX6_sum_11 : decode cX6_sum 11 = .ok (.ifCond .ne 12, 3) := dk_154 0 12 (dk_at dksX6_sum_0 11 rfl rfl)
theorem dX6_sum_14 : decode cX6_sum 14 = .ok (.aload_n 0, 1) := dk_42 (dk_at dksX6_sum_0 14 rfl rfl)
theorem dX6_sum_15 : decode cX6_sum 15 = .ok (.bipush 45, 2) := dk_16 45 (dk_at dksX6_sum_0 15 rfl rfl)
theorem dX6_sum_17 : decode cX6_sum 17 = .ok (.invokevirtual 210, 3) := dk_182 0 210 (dk_at dksX6_sum_0 17 rfl rfl)
theorem dX6_sum_20 : decode cX6_sum 20 = .ok (.ifCond .eq 33, 3) := dk_153 0 33 (dk_at dksX6_sum_0 20 rfl rfl)
theorem dX6_sum_23 : decode cX6_sum 23 = .ok (.aload_n 0, 1) := dk_42 (dk_at dksX6_sum_0 23 rfl rfl)
theorem dX6_sum_24 : decode cX6_sum 24 = .ok (.aload_n 0, 1) := dk_42 (dk_at dksX6_sum_1 0 rfl rfl)
theorem dX6_sum_25 : decode cX6_sum 25 = .ok (.getfield 33, 3) := dk_180 0 33 (dk_at dksX6_sum_1 1 rfl rfl)
theorem dX6_sum_28 : decode cX6_sum 28 = .ok (.invokevirtual 36, 3) := dk_182 0 36 (dk_at dksX6_sum_1 4 rfl rfl)
theorem dX6_sum_31 : decode cX6_sum 31 = .ok (.istore_n 2, 1) := dk_61 (dk_at dksX6_sum_1 7 rfl rfl)
theorem dX6_sum_32 : decode cX6_sum 32 = .ok (.aload_n 0, 1) := dk_42 (dk_at dksX6_sum_1 8 rfl rfl)
theorem dX6_sum_33 : decode cX6_sum 33 = .ok (.invokevirtual 90, 3) := dk_182 0 90 (dk_at dksX6_sum_1 9 rfl rfl)
theorem dX6_sum_36 : decode cX6_sum 36 = .ok (.new 187, 3) := dk_187 0 187 (dk_at dksX6_sum_1 12 rfl rfl)
theorem dX6_sum_39 : decode cX6_sum 39 = .ok (.dup, 1) := dk_89 (dk_at dksX6_sum_1 15 rfl rfl)
theorem dX6_sum_40 : decode cX6_sum 40 = .ok (.iload_n 2, 1) := dk_28 (dk_at dksX6_sum_1 16 rfl rfl)
theorem dX6_sum_41 : decode cX6_sum 41 = .ok (.aload_n 1, 1) := dk_43 (dk_at dksX6_sum_1 17 rfl rfl)
theorem dX6_sum_42 : decode cX6_sum 42 = .ok (.aload_n 0, 1) := dk_42 (dk_at dksX6_sum_1 18 rfl rfl)
theorem dX6_sum_43 : decode cX6_sum 43 = .ok (.invokevirtual 213, 3) := dk_182 0 213 (dk_at dksX6_sum_1 19 rfl rfl)
theorem dX6_sum_46 : decode cX6_sum 46 = .ok (.invokespecial 189, 3) := dk_183 0 189 (dk_at dksX6_sum_2 0 rfl rfl)
theorem dX6_sum_49 : decode cX6_sum 49 = .ok (.astore_n 1, 1) := dk_76 (dk_at dksX6_sum_2 3 rfl rfl)
theorem dX6_sum_50 : decode cX6_sum 50 = .ok (.goto (-45), 3) := dk_167 255 211 (dk_at dksX6_sum_2 4 rfl rfl)
theorem dX6_sum_53 : decode cX6_sum 53 = .ok (.aload_n 1, 1) := dk_43 (dk_at dksX6_sum_2 7 rfl rfl)
theorem dX6_sum_54 : decode cX6_sum 54 = .ok (.areturn, 1) := dk_176 (dk_at dksX6_sum_2 8 rfl rfl)
abbrev cX6_term : ByteArray := prog_10_method_25_code
def yX6_term : MethodName := ⟨RX6, "term", "()LSoManyStairs$Part;"⟩
def dkwX6_term_2 : List UInt8 := [89, 28, 43, 42, 182, 0, 216, 183, 0, 189, 76, 167, 255, 202, 43, 176]
abbrev dktX6_term_2 : List UInt8 := dkwX6_term_2 ++ []
def dkwX6_term_1 : List UInt8 := [16, 37, 182, 0, 210, 153, 0, 33, 42, 42, 180, 0, 33, 182, 0, 36, 61, 42, 182, 0, 90, 187, 0, 187]
abbrev dktX6_term_1 : List UInt8 := dkwX6_term_1 ++ dktX6_term_2
def dkwX6_term_0 : List UInt8 := [42, 182, 0, 216, 76, 42, 16, 42, 182, 0, 210, 154, 0, 21, 42, 16, 47, 182, 0, 210, 154, 0, 12, 42]
abbrev dktX6_term_0 : List UInt8 := dkwX6_term_0 ++ dktX6_term_1
theorem dksX6_term_0 : cX6_term.data.toList.drop 0 = dktX6_term_0 := by decide +kernel
theorem dksX6_term_1 : cX6_term.data.toList.drop 24 = dktX6_term_1 := dk_seg dksX6_term_0 24 rfl rfl
theorem dksX6_term_2 : cX6_term.data.toList.drop 48 = dktX6_term_2 := dk_seg dksX6_term_1 24 rfl rfl
theorem dX6_term_0 : decode cX6_term 0 = .ok (.aload_n 0, 1) := dk_42 (dk_at dksX6_term_0 0 rfl rfl)
theorem dX6_term_1 : decode cX6_term 1 = .ok (.invokevirtual 216, 3) := dk_182 0 216 (dk_at dksX6_term_0 1 rfl rfl)
theorem dX6_term_4 : decode cX6_term 4 = .ok (.astore_n 1, 1) := dk_76 (dk_at dksX6_term_0 4 rfl rfl)
theorem dX6_term_5 : decode cX6_term 5 = .ok (.aload_n 0, 1) := dk_42 (dk_at dksX6_term_0 5 rfl rfl)
theorem dX6_term_6 : decode cX6_term 6 = .ok (.bipush 42, 2) := dk_16 42 (dk_at dksX6_term_0 6 rfl rfl)
theorem dX6_term_8 : decode cX6_term 8 = .ok (.invokevirtual 210, 3) := dk_182 0 210 (dk_at dksX6_term_0 8 rfl rfl)
theorem dX6_term_11 : decode cX6_term 11 = .ok (.ifCond .ne 21, 3) := dk_154 0 21 (dk_at dksX6_term_0 11 rfl rfl)
theorem dX6_term_14 : decode cX6_term 14 = .ok (.aload_n 0, 1) := dk_42 (dk_at dksX6_term_0 14 rfl rfl)
theorem dX6_term_15 : decode cX6_term 15 = .ok (.bipush 47, 2) := dk_16 47 (dk_at dksX6_term_0 15 rfl rfl)
theorem dX6_term_17 : decode cX6_term 17 = .ok (.invokevirtual 210, 3) := dk_182 0 210 (dk_at dksX6_term_0 17 rfl rfl)
theorem dX6_term_20 : decode cX6_term 20 = .ok (.ifCond .ne 12, 3) := dk_154 0 12 (dk_at dksX6_term_0 20 rfl rfl)
theorem dX6_term_23 : decode cX6_term 23 = .ok (.aload_n 0, 1) := dk_42 (dk_at dksX6_term_0 23 rfl rfl)
theorem dX6_term_24 : decode cX6_term 24 = .ok (.bipush 37, 2) := dk_16 37 (dk_at dksX6_term_1 0 rfl rfl)
theorem dX6_term_26 : decode cX6_term 26 = .ok (.invokevirtual 210, 3) := dk_182 0 210 (dk_at dksX6_term_1 2 rfl rfl)
theorem dX6_term_29 : decode cX6_term 29 = .ok (.ifCond .eq 33, 3) := dk_153 0 33 (dk_at dksX6_term_1 5 rfl rfl)
theorem dX6_term_32 : decode cX6_term 32 = .ok (.aload_n 0, 1) := dk_42 (dk_at dksX6_term_1 8 rfl rfl)
theorem dX6_term_33 : decode cX6_term 33 = .ok (.aload_n 0, 1) := dk_42 (dk_at dksX6_term_1 9 rfl rfl)
theorem dX6_term_34 : decode cX6_term 34 = .ok (.getfield 33, 3) := dk_180 0 33 (dk_at dksX6_term_1 10 rfl rfl)
theorem dX6_term_37 : decode cX6_term 37 = .ok (.invokevirtual 36, 3) := dk_182 0 36 (dk_at dksX6_term_1 13 rfl rfl)
theorem dX6_term_40 : decode cX6_term 40 = .ok (.istore_n 2, 1) := dk_61 (dk_at dksX6_term_1 16 rfl rfl)
theorem dX6_term_41 : decode cX6_term 41 = .ok (.aload_n 0, 1) := dk_42 (dk_at dksX6_term_1 17 rfl rfl)
theorem dX6_term_42 : decode cX6_term 42 = .ok (.invokevirtual 90, 3) := dk_182 0 90 (dk_at dksX6_term_1 18 rfl rfl)
theorem dX6_term_45 : decode cX6_term 45 = .ok (.new 187, 3) := dk_187 0 187 (dk_at dksX6_term_1 21 rfl rfl)
theorem dX6_term_48 : decode cX6_term 48 = .ok (.dup, 1) := dk_89 (dk_at dksX6_term_2 0 rfl rfl)
theorem dX6_term_49 : decode cX6_term 49 = .ok (.iload_n 2, 1) := dk_28 (dk_at dksX6_term_2 1 rfl rfl)
theorem dX6_term_50 : decode cX6_term 50 = .ok (.aload_n 1, 1) := dk_43 (dk_at dksX6_term_2 2 rfl rfl)
theorem dX6_term_51 : decode cX6_term 51 = .ok (.aload_n 0, 1) := dk_42 (dk_at dksX6_term_2 3 rfl rfl)
theorem dX6_term_52 : decode cX6_term 52 = .ok (.invokevirtual 216, 3) := dk_182 0 216 (dk_at dksX6_term_2 4 rfl rfl)
theorem dX6_term_55 : decode cX6_term 55 = .ok (.invokespecial 189, 3) := dk_183 0 189 (dk_at dksX6_term_2 7 rfl rfl)
theorem dX6_term_58 : decode cX6_term 58 = .ok (.astore_n 1, 1) := dk_76 (dk_at dksX6_term_2 10 rfl rfl)
theorem dX6_term_59 : decode cX6_term 59 = .ok (.goto (-54), 3) := dk_167 255 202 (dk_at dksX6_term_2 11 rfl rfl)
theorem dX6_term_62 : decode cX6_term 62 = .ok (.aload_n 1, 1) := dk_43 (dk_at dksX6_term_2 14 rfl rfl)
theorem dX6_term_63 : decode cX6_term 63 = .ok (.areturn, 1) := dk_176 (dk_at dksX6_term_2 15 rfl rfl)
abbrev cX6_unit : ByteArray := prog_10_method_26_code
def yX6_unit : MethodName := ⟨RX6, "unit", "()LSoManyStairs$Part;"⟩
def dkwX6_unit_6 : List UInt8 := [182, 0, 90, 45, 176]
abbrev dktX6_unit_6 : List UInt8 := dkwX6_unit_6 ++ []
def dkwX6_unit_5 : List UInt8 := [187, 0, 225, 89, 42, 180, 0, 63, 183, 0, 227, 167, 0, 11, 187, 0, 230, 89, 28, 183, 0, 232, 78, 42]
abbrev dktX6_unit_5 : List UInt8 := dkwX6_unit_5 ++ dktX6_unit_6
def dkwX6_unit_4 : List UInt8 := [180, 0, 175, 4, 100, 181, 0, 175, 42, 42, 16, 41, 182, 0, 210, 182, 0, 93, 45, 176, 28, 156, 0, 17]
abbrev dktX6_unit_4 : List UInt8 := dkwX6_unit_4 ++ dktX6_unit_5
def dkwX6_unit_3 : List UInt8 := [89, 180, 0, 172, 4, 96, 181, 0, 172, 27, 153, 0, 34, 42, 182, 0, 199, 42, 182, 0, 178, 78, 42, 89]
abbrev dktX6_unit_3 : List UInt8 := dkwX6_unit_3 ++ dktX6_unit_4
def dkwX6_unit_2 : List UInt8 := [16, 30, 160, 0, 8, 42, 182, 0, 86, 191, 42, 180, 0, 12, 89, 180, 0, 222, 4, 96, 181, 0, 222, 42]
abbrev dktX6_unit_2 : List UInt8 := dkwX6_unit_2 ++ dktX6_unit_3
def dkwX6_unit_1 : List UInt8 := [180, 0, 40, 5, 160, 0, 24, 42, 180, 0, 12, 180, 0, 222, 16, 60, 159, 0, 12, 42, 180, 0, 172]
abbrev dktX6_unit_1 : List UInt8 := dkwX6_unit_1 ++ dktX6_unit_2
def dkwX6_unit_0 : List UInt8 := [42, 16, 40, 182, 0, 210, 60, 42, 178, 0, 219, 182, 0, 114, 61, 27, 154, 0, 15, 28, 156, 0, 11, 42]
abbrev dktX6_unit_0 : List UInt8 := dkwX6_unit_0 ++ dktX6_unit_1
theorem dksX6_unit_0 : cX6_unit.data.toList.drop 0 = dktX6_unit_0 := by decide +kernel
theorem dksX6_unit_1 : cX6_unit.data.toList.drop 24 = dktX6_unit_1 := dk_seg dksX6_unit_0 24 rfl rfl
theorem dksX6_unit_2 : cX6_unit.data.toList.drop 47 = dktX6_unit_2 := dk_seg dksX6_unit_1 23 rfl rfl
theorem dksX6_unit_3 : cX6_unit.data.toList.drop 71 = dktX6_unit_3 := dk_seg dksX6_unit_2 24 rfl rfl
theorem dksX6_unit_4 : cX6_unit.data.toList.drop 95 = dktX6_unit_4 := dk_seg dksX6_unit_3 24 rfl rfl
theorem dksX6_unit_5 : cX6_unit.data.toList.drop 119 = dktX6_unit_5 := dk_seg dksX6_unit_4 24 rfl rfl
theorem dksX6_unit_6 : cX6_unit.data.toList.drop 143 = dktX6_unit_6 := dk_seg dksX6_unit_5 24 rfl rfl
theorem dX6_unit_0 : decode cX6_unit 0 = .ok (.aload_n 0, 1) := dk_42 (dk_at dksX6_unit_0 0 rfl rfl)
theorem dX6_unit_1 : decode cX6_unit 1 = .ok (.bipush 40, 2) := dk_16 40 (dk_at dksX6_unit_0 1 rfl rfl)
theorem dX6_unit_3 : decode cX6_unit 3 = .ok (.invokevirtual 210, 3) := dk_182 0 210 (dk_at dksX6_unit_0 3 rfl rfl)
theorem dX6_unit_6 : decode cX6_unit 6 = .ok (.istore_n 1, 1) := dk_60 (dk_at dksX6_unit_0 6 rfl rfl)
theorem dX6_unit_7 : decode cX6_unit 7 = .ok (.aload_n 0, 1) := dk_42 (dk_at dksX6_unit_0 7 rfl rfl)
theorem dX6_unit_8 : decode cX6_unit 8 = .ok (.getstatic 219, 3) := dk_178 0 219 (dk_at dksX6_unit_0 8 rfl rfl)
theorem dX6_unit_11 : decode cX6_unit 11 = .ok (.invokevirtual 114, 3) := dk_182 0 114 (dk_at dksX6_unit_0 11 rfl rfl)
theorem dX6_unit_14 : decode cX6_unit 14 = .ok (.istore_n 2, 1) := dk_61 (dk_at dksX6_unit_0 14 rfl rfl)
theorem dX6_unit_15 : decode cX6_unit 15 = .ok (.iload_n 1, 1) := dk_27 (dk_at dksX6_unit_0 15 rfl rfl)
theorem dX6_unit_16 : decode cX6_unit 16 = .ok (.ifCond .ne 15, 3) := dk_154 0 15 (dk_at dksX6_unit_0 16 rfl rfl)
theorem dX6_unit_19 : decode cX6_unit 19 = .ok (.iload_n 2, 1) := dk_28 (dk_at dksX6_unit_0 19 rfl rfl)
theorem dX6_unit_20 : decode cX6_unit 20 = .ok (.ifCond .ge 11, 3) := dk_156 0 11 (dk_at dksX6_unit_0 20 rfl rfl)
theorem dX6_unit_23 : decode cX6_unit 23 = .ok (.aload_n 0, 1) := dk_42 (dk_at dksX6_unit_0 23 rfl rfl)
theorem dX6_unit_24 : decode cX6_unit 24 = .ok (.getfield 40, 3) := dk_180 0 40 (dk_at dksX6_unit_1 0 rfl rfl)
theorem dX6_unit_27 : decode cX6_unit 27 = .ok (.iconst 2, 1) := dk_5 (dk_at dksX6_unit_1 3 rfl rfl)
theorem dX6_unit_28 : decode cX6_unit 28 = .ok (.if_icmp .ne 24, 3) := dk_160 0 24 (dk_at dksX6_unit_1 4 rfl rfl)
theorem dX6_unit_31 : decode cX6_unit 31 = .ok (.aload_n 0, 1) := dk_42 (dk_at dksX6_unit_1 7 rfl rfl)
theorem dX6_unit_32 : decode cX6_unit 32 = .ok (.getfield 12, 3) := dk_180 0 12 (dk_at dksX6_unit_1 8 rfl rfl)
theorem dX6_unit_35 : decode cX6_unit 35 = .ok (.getfield 222, 3) := dk_180 0 222 (dk_at dksX6_unit_1 11 rfl rfl)
theorem dX6_unit_38 : decode cX6_unit 38 = .ok (.bipush 60, 2) := dk_16 60 (dk_at dksX6_unit_1 14 rfl rfl)
theorem dX6_unit_40 : decode cX6_unit 40 = .ok (.if_icmp .eq 12, 3) := dk_159 0 12 (dk_at dksX6_unit_1 16 rfl rfl)
theorem dX6_unit_43 : decode cX6_unit 43 = .ok (.aload_n 0, 1) := dk_42 (dk_at dksX6_unit_1 19 rfl rfl)
theorem dX6_unit_44 : decode cX6_unit 44 = .ok (.getfield 172, 3) := dk_180 0 172 (dk_at dksX6_unit_1 20 rfl rfl)
theorem dX6_unit_47 : decode cX6_unit 47 = .ok (.bipush 30, 2) := dk_16 30 (dk_at dksX6_unit_2 0 rfl rfl)
theorem dX6_unit_49 : decode cX6_unit 49 = .ok (.if_icmp .ne 8, 3) := dk_160 0 8 (dk_at dksX6_unit_2 2 rfl rfl)
theorem dX6_unit_52 : decode cX6_unit 52 = .ok (.aload_n 0, 1) := dk_42 (dk_at dksX6_unit_2 5 rfl rfl)
theorem dX6_unit_53 : decode cX6_unit 53 = .ok (.invokevirtual 86, 3) := dk_182 0 86 (dk_at dksX6_unit_2 6 rfl rfl)
theorem dX6_unit_56 : decode cX6_unit 56 = .ok (.athrow, 1) := dk_191 (dk_at dksX6_unit_2 9 rfl rfl)
theorem dX6_unit_57 : decode cX6_unit 57 = .ok (.aload_n 0, 1) := dk_42 (dk_at dksX6_unit_2 10 rfl rfl)
theorem dX6_unit_58 : decode cX6_unit 58 = .ok (.getfield 12, 3) := dk_180 0 12 (dk_at dksX6_unit_2 11 rfl rfl)
theorem dX6_unit_61 : decode cX6_unit 61 = .ok (.dup, 1) := dk_89 (dk_at dksX6_unit_2 14 rfl rfl)
theorem dX6_unit_62 : decode cX6_unit 62 = .ok (.getfield 222, 3) := dk_180 0 222 (dk_at dksX6_unit_2 15 rfl rfl)
theorem dX6_unit_65 : decode cX6_unit 65 = .ok (.iconst 1, 1) := dk_4 (dk_at dksX6_unit_2 18 rfl rfl)
theorem dX6_unit_66 : decode cX6_unit 66 = .ok (.iadd, 1) := dk_96 (dk_at dksX6_unit_2 19 rfl rfl)
theorem dX6_unit_67 : decode cX6_unit 67 = .ok (.putfield 222, 3) := dk_181 0 222 (dk_at dksX6_unit_2 20 rfl rfl)
theorem dX6_unit_70 : decode cX6_unit 70 = .ok (.aload_n 0, 1) := dk_42 (dk_at dksX6_unit_2 23 rfl rfl)
theorem dX6_unit_71 : decode cX6_unit 71 = .ok (.dup, 1) := dk_89 (dk_at dksX6_unit_3 0 rfl rfl)
theorem dX6_unit_72 : decode cX6_unit 72 = .ok (.getfield 172, 3) := dk_180 0 172 (dk_at dksX6_unit_3 1 rfl rfl)
theorem dX6_unit_75 : decode cX6_unit 75 = .ok (.iconst 1, 1) := dk_4 (dk_at dksX6_unit_3 4 rfl rfl)
theorem dX6_unit_76 : decode cX6_unit 76 = .ok (.iadd, 1) := dk_96 (dk_at dksX6_unit_3 5 rfl rfl)
theorem dX6_unit_77 : decode cX6_unit 77 = .ok (.putfield 172, 3) := dk_181 0 172 (dk_at dksX6_unit_3 6 rfl rfl)
theorem dX6_unit_80 : decode cX6_unit 80 = .ok (.iload_n 1, 1) := dk_27 (dk_at dksX6_unit_3 9 rfl rfl)
theorem dX6_unit_81 : decode cX6_unit 81 = .ok (.ifCond .eq 34, 3) := dk_153 0 34 (dk_at dksX6_unit_3 10 rfl rfl)
theorem dX6_unit_84 : decode cX6_unit 84 = .ok (.aload_n 0, 1) := dk_42 (dk_at dksX6_unit_3 13 rfl rfl)
theorem dX6_unit_85 : decode cX6_unit 85 = .ok (.invokevirtual 199, 3) := dk_182 0 199 (dk_at dksX6_unit_3 14 rfl rfl)
theorem dX6_unit_88 : decode cX6_unit 88 = .ok (.aload_n 0, 1) := dk_42 (dk_at dksX6_unit_3 17 rfl rfl)
theorem dX6_unit_89 : decode cX6_unit 89 = .ok (.invokevirtual 178, 3) := dk_182 0 178 (dk_at dksX6_unit_3 18 rfl rfl)
theorem dX6_unit_92 : decode cX6_unit 92 = .ok (.astore_n 3, 1) := dk_78 (dk_at dksX6_unit_3 21 rfl rfl)
theorem dX6_unit_93 : decode cX6_unit 93 = .ok (.aload_n 0, 1) := dk_42 (dk_at dksX6_unit_3 22 rfl rfl)
theorem dX6_unit_94 : decode cX6_unit 94 = .ok (.dup, 1) := dk_89 (dk_at dksX6_unit_3 23 rfl rfl)
theorem dX6_unit_95 : decode cX6_unit 95 = .ok (.getfield 175, 3) := dk_180 0 175 (dk_at dksX6_unit_4 0 rfl rfl)
theorem dX6_unit_98 : decode cX6_unit 98 = .ok (.iconst 1, 1) := dk_4 (dk_at dksX6_unit_4 3 rfl rfl)
theorem dX6_unit_99 : decode cX6_unit 99 = .ok (.isub, 1) := dk_100 (dk_at dksX6_unit_4 4 rfl rfl)
theorem dX6_unit_100 : decode cX6_unit 100 = .ok (.putfield 175, 3) := dk_181 0 175 (dk_at dksX6_unit_4 5 rfl rfl)
theorem dX6_unit_103 : decode cX6_unit 103 = .ok (.aload_n 0, 1) := dk_42 (dk_at dksX6_unit_4 8 rfl rfl)
theorem dX6_unit_104 : decode cX6_unit 104 = .ok (.aload_n 0, 1) := dk_42 (dk_at dksX6_unit_4 9 rfl rfl)
theorem dX6_unit_105 : decode cX6_unit 105 = .ok (.bipush 41, 2) := dk_16 41 (dk_at dksX6_unit_4 10 rfl rfl)
theorem dX6_unit_107 : decode cX6_unit 107 = .ok (.invokevirtual 210, 3) := dk_182 0 210 (dk_at dksX6_unit_4 12 rfl rfl)
theorem dX6_unit_110 : decode cX6_unit 110 = .ok (.invokevirtual 93, 3) := dk_182 0 93 (dk_at dksX6_unit_4 15 rfl rfl)
theorem dX6_unit_113 : decode cX6_unit 113 = .ok (.aload_n 3, 1) := dk_45 (dk_at dksX6_unit_4 18 rfl rfl)
theorem dX6_unit_114 : decode cX6_unit 114 = .ok (.areturn, 1) := dk_176 (dk_at dksX6_unit_4 19 rfl rfl)
theorem dX6_unit_115 : decode cX6_unit 115 = .ok (.iload_n 2, 1) := dk_28 (dk_at dksX6_unit_4 20 rfl rfl)
theorem dX6_unit_116 : decode cX6_unit 116 = .ok (.ifCond .ge 17, 3) := dk_156 0 17 (dk_at dksX6_unit_4 21 rfl rfl)
theorem dX6_unit_119 : decode cX6_unit 119 = .ok (.new 225, 3) := dk_187 0 225 (dk_at dksX6_unit_5 0 rfl rfl)
theorem dX6_unit_122 : decode cX6_unit 122 = .ok (.dup, 1) := dk_89 (dk_at dksX6_unit_5 3 rfl rfl)
theorem dX6_unit_123 : decode cX6_unit 123 = .ok (.aload_n 0, 1) := dk_42 (dk_at dksX6_unit_5 4 rfl rfl)
theorem dX6_unit_124 : decode cX6_unit 124 = .ok (.getfield 63, 3) := dk_180 0 63 (dk_at dksX6_unit_5 5 rfl rfl)
theorem dX6_unit_127 : decode cX6_unit 127 = .ok (.invokespecial 227, 3) := dk_183 0 227 (dk_at dksX6_unit_5 8 rfl rfl)
theorem dX6_unit_130 : decode cX6_unit 130 = .ok (.goto 11, 3) := dk_167 0 11 (dk_at dksX6_unit_5 11 rfl rfl)
theorem dX6_unit_133 : decode cX6_unit 133 = .ok (.new 230, 3) := dk_187 0 230 (dk_at dksX6_unit_5 14 rfl rfl)
theorem dX6_unit_136 : decode cX6_unit 136 = .ok (.dup, 1) := dk_89 (dk_at dksX6_unit_5 17 rfl rfl)
theorem dX6_unit_137 : decode cX6_unit 137 = .ok (.iload_n 2, 1) := dk_28 (dk_at dksX6_unit_5 18 rfl rfl)
theorem dX6_unit_138 : decode cX6_unit 138 = .ok (.invokespecial 232, 3) := dk_183 0 232 (dk_at dksX6_unit_5 19 rfl rfl)
theorem dX6_unit_141 : decode cX6_unit 141 = .ok (.astore_n 3, 1) := dk_78 (dk_at dksX6_unit_5 22 rfl rfl)
theorem dX6_unit_142 : decode cX6_unit 142 = .ok (.aload_n 0, 1) := dk_42 (dk_at dksX6_unit_5 23 rfl rfl)
theorem dX6_unit_143 : decode cX6_unit 143 = .ok (.invokevirtual 90, 3) := dk_182 0 90 (dk_at dksX6_unit_6 0 rfl rfl)
theorem dX6_unit_146 : decode cX6_unit 146 = .ok (.aload_n 3, 1) := dk_45 (dk_at dksX6_unit_6 3 rfl rfl)
theorem dX6_unit_147 : decode cX6_unit 147 = .ok (.areturn, 1) := dk_176 (dk_at dksX6_unit_6 4 rfl rfl)
abbrev cX6_isSignHere : ByteArray := prog_10_method_11_code
def yX6_isSignHere : MethodName := ⟨RX6, "isSignHere", "(I)Z"⟩
def dkwX6_isSignHere_1 : List UInt8 := [3, 172]
abbrev dktX6_isSignHere_1 : List UInt8 := dkwX6_isSignHere_1 ++ []
def dkwX6_isSignHere_0 : List UInt8 := [42, 180, 0, 40, 6, 160, 0, 19, 42, 42, 180, 0, 33, 182, 0, 36, 27, 160, 0, 7, 4, 167, 0, 4]
abbrev dktX6_isSignHere_0 : List UInt8 := dkwX6_isSignHere_0 ++ dktX6_isSignHere_1
theorem dksX6_isSignHere_0 : cX6_isSignHere.data.toList.drop 0 = dktX6_isSignHere_0 := by decide +kernel
theorem dksX6_isSignHere_1 : cX6_isSignHere.data.toList.drop 24 = dktX6_isSignHere_1 := dk_seg dksX6_isSignHere_0 24 rfl rfl
theorem dX6_isSignHere_0 : decode cX6_isSignHere 0 = .ok (.aload_n 0, 1) := dk_42 (dk_at dksX6_isSignHere_0 0 rfl rfl)
theorem dX6_isSignHere_1 : decode cX6_isSignHere 1 = .ok (.getfield 40, 3) := dk_180 0 40 (dk_at dksX6_isSignHere_0 1 rfl rfl)
theorem dX6_isSignHere_4 : decode cX6_isSignHere 4 = .ok (.iconst 3, 1) := dk_6 (dk_at dksX6_isSignHere_0 4 rfl rfl)
theorem dX6_isSignHere_5 : decode cX6_isSignHere 5 = .ok (.if_icmp .ne 19, 3) := dk_160 0 19 (dk_at dksX6_isSignHere_0 5 rfl rfl)
theorem dX6_isSignHere_8 : decode cX6_isSignHere 8 = .ok (.aload_n 0, 1) := dk_42 (dk_at dksX6_isSignHere_0 8 rfl rfl)
theorem dX6_isSignHere_9 : decode cX6_isSignHere 9 = .ok (.aload_n 0, 1) := dk_42 (dk_at dksX6_isSignHere_0 9 rfl rfl)
theorem dX6_isSignHere_10 : decode cX6_isSignHere 10 = .ok (.getfield 33, 3) := dk_180 0 33 (dk_at dksX6_isSignHere_0 10 rfl rfl)
theorem dX6_isSignHere_13 : decode cX6_isSignHere 13 = .ok (.invokevirtual 36, 3) := dk_182 0 36 (dk_at dksX6_isSignHere_0 13 rfl rfl)
theorem dX6_isSignHere_16 : decode cX6_isSignHere 16 = .ok (.iload_n 1, 1) := dk_27 (dk_at dksX6_isSignHere_0 16 rfl rfl)
theorem dX6_isSignHere_17 : decode cX6_isSignHere 17 = .ok (.if_icmp .ne 7, 3) := dk_160 0 7 (dk_at dksX6_isSignHere_0 17 rfl rfl)
theorem dX6_isSignHere_20 : decode cX6_isSignHere 20 = .ok (.iconst 1, 1) := dk_4 (dk_at dksX6_isSignHere_0 20 rfl rfl)
theorem dX6_isSignHere_21 : decode cX6_isSignHere 21 = .ok (.goto 4, 3) := dk_167 0 4 (dk_at dksX6_isSignHere_0 21 rfl rfl)
theorem dX6_isSignHere_24 : decode cX6_isSignHere 24 = .ok (.iconst 0, 1) := dk_3 (dk_at dksX6_isSignHere_1 0 rfl rfl)
theorem dX6_isSignHere_25 : decode cX6_isSignHere 25 = .ok (.ireturn, 1) := dk_172 (dk_at dksX6_isSignHere_1 1 rfl rfl)
theorem q131 : (Jvm.Cond.initialized "SoManyStairs$Reader") ∈ lw_all := lw_g (lw_at lw_m1 14 rfl) rfl
theorem q196 : (Jvm.Cond.fieldLinkNest "SoManyStairs$Reader" (118 : Nat) "SoManyStairs$House" "tenants" "Ljava/util/ArrayList;" "SoManyStairs") ∈ lw_tbl := lw_at lw_m1 79 rfl
theorem q198 : (Jvm.Cond.fieldLinkNest "SoManyStairs$Reader" (243 : Nat) "SoManyStairs$House" "counts" "LSoManyStairs$Part;" "SoManyStairs") ∈ lw_tbl := lw_at lw_m1 81 rfl
theorem q200 : (Jvm.Cond.fieldLinkNest "SoManyStairs$Reader" (248 : Nat) "SoManyStairs$House" "moves" "LSoManyStairs$Part;" "SoManyStairs") ∈ lw_tbl := lw_at lw_m1 83 rfl
theorem q201 : (Jvm.Cond.fieldLinkNest "SoManyStairs$Reader" (252 : Nat) "SoManyStairs$House" "hasDraw" "Z" "SoManyStairs") ∈ lw_tbl := lw_at lw_m1 84 rfl
theorem q202 : (Jvm.Cond.fieldLinkNest "SoManyStairs$Reader" (222 : Nat) "SoManyStairs$House" "units" "I" "SoManyStairs") ∈ lw_tbl := lw_at lw_m1 85 rfl
theorem q204 : (Jvm.Cond.fieldLinkNest "SoManyStairs$Reader" (234 : Nat) "SoManyStairs$House" "lines" "I" "SoManyStairs") ∈ lw_tbl := lw_at lw_m1 87 rfl
theorem q207 : (Jvm.Cond.fieldLinkNest "SoManyStairs$Reader" (100 : Nat) "SoManyStairs$House" "storeys" "I" "SoManyStairs") ∈ lw_tbl := lw_at lw_m1 90 rfl
theorem q210 : (Jvm.Cond.fieldLinkNest "SoManyStairs$Reader" (108 : Nat) "SoManyStairs$House" "lift" "I" "SoManyStairs") ∈ lw_tbl := lw_at lw_m1 93 rfl
theorem q212 : (Jvm.Cond.fieldLinkNest "SoManyStairs$Reader" (266 : Nat) "SoManyStairs$House" "draw" "I" "SoManyStairs") ∈ lw_tbl := lw_at lw_m1 95 rfl
theorem q463 : (Jvm.Cond.instantiable "SoManyStairs$Reader" (11 : Nat)) ∈ lw_all := lw_g (lw_at lw_m2 106 rfl) rfl
theorem q465 : (Jvm.Cond.instanceMethod ({ cls := "SoManyStairs$Reader", name := "<init>", desc := "([BILSoManyStairs$Wrong;)V" } : Jvm.MethodName)) ∈ lw_all := lw_g (lw_at lw_m2 108 rfl) rfl
theorem q466 : (Jvm.Cond.code ({ cls := "SoManyStairs$Reader", name := "<init>", desc := "([BILSoManyStairs$Wrong;)V" } : Jvm.MethodName) prog_10_method_1_code (4 : Nat) (Option.none : Option Jvm.ClassFile.FieldType)) ∈ lw_all := lw_g (lw_at lw_m2 109 rfl) rfl
theorem q467 : (Jvm.Cond.methodLink "SoManyStairs$Reader" (3 : Nat) ({ cls := "java/lang/Object", name := "<init>", desc := "()V" } : Jvm.MethodName)) ∈ lw_all := lw_g (lw_at lw_m2 110 rfl) rfl
theorem q468 : (Jvm.Cond.classLink "SoManyStairs$Reader" (9 : Nat) "SoManyStairs$House") ∈ lw_all := lw_g (lw_at lw_m2 111 rfl) rfl
theorem q469 : (Jvm.Cond.methodLinkNest "SoManyStairs$Reader" (11 : Nat) ({ cls := "SoManyStairs$House", name := "<init>", desc := "()V" } : Jvm.MethodName) "SoManyStairs") ∈ lw_tbl := lw_at lw_m2 112 rfl
theorem q470 : (Jvm.Cond.fieldLink "SoManyStairs$Reader" (18 : Nat) "SoManyStairs$Reader" "text" "[B") ∈ lw_all := lw_g (lw_at lw_m2 113 rfl) rfl
theorem q471 : (Jvm.Cond.fieldLink "SoManyStairs$Reader" (22 : Nat) "SoManyStairs$Reader" "size" "I") ∈ lw_all := lw_g (lw_at lw_m2 114 rfl) rfl
theorem q472 : (Jvm.Cond.fieldLink "SoManyStairs$Reader" (26 : Nat) "SoManyStairs$Reader" "fault" "LSoManyStairs$Wrong;") ∈ lw_all := lw_g (lw_at lw_m2 115 rfl) rfl
theorem q473 : (Jvm.Cond.fieldLink "SoManyStairs$Reader" (12 : Nat) "SoManyStairs$Reader" "h" "LSoManyStairs$House;") ∈ lw_all := lw_g (lw_at lw_m2 116 rfl) rfl
theorem q474 : (Jvm.Cond.fieldLink "SoManyStairs$Reader" (33 : Nat) "SoManyStairs$Reader" "at" "I") ∈ lw_all := lw_g (lw_at lw_m2 117 rfl) rfl
theorem q475 : (Jvm.Cond.fieldLink "SoManyStairs$Reader" (30 : Nat) "SoManyStairs$Reader" "end" "I") ∈ lw_all := lw_g (lw_at lw_m2 118 rfl) rfl
theorem q476 : (Jvm.Cond.fieldLink "SoManyStairs$Reader" (40 : Nat) "SoManyStairs$Reader" "token" "I") ∈ lw_all := lw_g (lw_at lw_m2 119 rfl) rfl
theorem q477 : (Jvm.Cond.fieldLink "SoManyStairs$Reader" (63 : Nat) "SoManyStairs$Reader" "number" "I") ∈ lw_all := lw_g (lw_at lw_m2 120 rfl) rfl
theorem q478 : (Jvm.Cond.fieldLink "SoManyStairs$Reader" (59 : Nat) "SoManyStairs$Reader" "name" "J") ∈ lw_all := lw_g (lw_at lw_m2 121 rfl) rfl
theorem q479 : (Jvm.Cond.fieldLink "SoManyStairs$Reader" (175 : Nat) "SoManyStairs$Reader" "deep" "I") ∈ lw_all := lw_g (lw_at lw_m2 122 rfl) rfl
theorem q480 : (Jvm.Cond.fieldLink "SoManyStairs$Reader" (172 : Nat) "SoManyStairs$Reader" "mine" "I") ∈ lw_all := lw_g (lw_at lw_m2 123 rfl) rfl
theorem q481 : (Jvm.Cond.laysFinal "SoManyStairs$Reader" "SoManyStairs$Reader" "text" "[B") ∈ lw_all := lw_g (lw_at lw_m2 124 rfl) rfl
theorem q482 : (Jvm.Cond.soleField "SoManyStairs$Reader" "text") ∈ lw_all := lw_g (lw_at lw_m2 125 rfl) rfl
theorem q483 : (Jvm.Cond.laysFinal "SoManyStairs$Reader" "SoManyStairs$Reader" "size" "I") ∈ lw_all := lw_g (lw_at lw_m2 126 rfl) rfl
theorem q484 : (Jvm.Cond.soleField "SoManyStairs$Reader" "size") ∈ lw_all := lw_g (lw_at lw_m2 127 rfl) rfl
theorem q485 : (Jvm.Cond.laysFinal "SoManyStairs$Reader" "SoManyStairs$Reader" "fault" "LSoManyStairs$Wrong;") ∈ lw_all := lw_g (lw_at lw_m2 128 rfl) rfl
theorem q486 : (Jvm.Cond.soleField "SoManyStairs$Reader" "fault") ∈ lw_all := lw_g (lw_at lw_m2 129 rfl) rfl
theorem q487 : (Jvm.Cond.laysFinal "SoManyStairs$Reader" "SoManyStairs$Reader" "h" "LSoManyStairs$House;") ∈ lw_all := lw_g (lw_at lw_m2 130 rfl) rfl
theorem q488 : (Jvm.Cond.soleField "SoManyStairs$Reader" "h") ∈ lw_all := lw_g (lw_at lw_m2 131 rfl) rfl
theorem q489 : (Jvm.Cond.lays "SoManyStairs$Reader" "SoManyStairs$Reader" "at" "I") ∈ lw_all := lw_g (lw_at lw_m2 132 rfl) rfl
theorem q490 : (Jvm.Cond.soleField "SoManyStairs$Reader" "at") ∈ lw_all := lw_g (lw_at lw_m2 133 rfl) rfl
theorem q491 : (Jvm.Cond.lays "SoManyStairs$Reader" "SoManyStairs$Reader" "end" "I") ∈ lw_all := lw_g (lw_at lw_m2 134 rfl) rfl
theorem q492 : (Jvm.Cond.soleField "SoManyStairs$Reader" "end") ∈ lw_all := lw_g (lw_at lw_m2 135 rfl) rfl
theorem q493 : (Jvm.Cond.lays "SoManyStairs$Reader" "SoManyStairs$Reader" "token" "I") ∈ lw_all := lw_g (lw_at lw_m2 136 rfl) rfl
theorem q494 : (Jvm.Cond.soleField "SoManyStairs$Reader" "token") ∈ lw_all := lw_g (lw_at lw_m2 137 rfl) rfl
theorem q495 : (Jvm.Cond.lays "SoManyStairs$Reader" "SoManyStairs$Reader" "number" "I") ∈ lw_all := lw_g (lw_at lw_m2 138 rfl) rfl
theorem q496 : (Jvm.Cond.soleField "SoManyStairs$Reader" "number") ∈ lw_all := lw_g (lw_at lw_m2 139 rfl) rfl
theorem q497 : (Jvm.Cond.lays "SoManyStairs$Reader" "SoManyStairs$Reader" "name" "J") ∈ lw_all := lw_g (lw_at lw_m2 140 rfl) rfl
theorem q498 : (Jvm.Cond.soleField "SoManyStairs$Reader" "name") ∈ lw_all := lw_g (lw_at lw_m2 141 rfl) rfl
theorem q499 : (Jvm.Cond.lays "SoManyStairs$Reader" "SoManyStairs$Reader" "deep" "I") ∈ lw_all := lw_g (lw_at lw_m2 142 rfl) rfl
theorem q500 : (Jvm.Cond.soleField "SoManyStairs$Reader" "deep") ∈ lw_all := lw_g (lw_at lw_m2 143 rfl) rfl
theorem q501 : (Jvm.Cond.lays "SoManyStairs$Reader" "SoManyStairs$Reader" "mine" "I") ∈ lw_all := lw_g (lw_at lw_m2 144 rfl) rfl
theorem q502 : (Jvm.Cond.soleField "SoManyStairs$Reader" "mine") ∈ lw_all := lw_g (lw_at lw_m2 145 rfl) rfl
theorem q503 : (Jvm.Cond.superclass "SoManyStairs$Reader" "java/lang/Object") ∈ lw_all := lw_g (lw_at lw_m2 146 rfl) rfl
theorem q505 : (Jvm.Cond.instanceMethod ({ cls := "SoManyStairs$Reader", name := "read", desc := "()LSoManyStairs$House;" } : Jvm.MethodName)) ∈ lw_all := lw_g (lw_at lw_m2 148 rfl) rfl
theorem q506 : (Jvm.Cond.selects "SoManyStairs$Reader" ({ cls := "SoManyStairs$Reader", name := "read", desc := "()LSoManyStairs$House;" } : Jvm.MethodName) ({ cls := "SoManyStairs$Reader", name := "read", desc := "()LSoManyStairs$House;" } : Jvm.MethodName)) ∈ lw_all := lw_g (lw_at lw_m2 149 rfl) rfl
theorem q507 : (Jvm.Cond.code ({ cls := "SoManyStairs$Reader", name := "read", desc := "()LSoManyStairs$House;" } : Jvm.MethodName) prog_10_method_29_code (1 : Nat) (Option.some (Jvm.ClassFile.FieldType.object "SoManyStairs$House"))) ∈ lw_all := lw_g (lw_at lw_m2 150 rfl) rfl
theorem q508 : (Jvm.Cond.methodLink "SoManyStairs$Reader" (90 : Nat) ({ cls := "SoManyStairs$Reader", name := "next", desc := "()V" } : Jvm.MethodName)) ∈ lw_all := lw_g (lw_at lw_m2 151 rfl) rfl
theorem q509 : (Jvm.Cond.privateMethod ({ cls := "SoManyStairs$Reader", name := "next", desc := "()V" } : Jvm.MethodName)) ∈ lw_tbl := lw_at lw_m2 152 rfl
theorem q510 : (Jvm.Cond.instanceMethod ({ cls := "SoManyStairs$Reader", name := "next", desc := "()V" } : Jvm.MethodName)) ∈ lw_all := lw_g (lw_at lw_m2 153 rfl) rfl
theorem q511 : (Jvm.Cond.code ({ cls := "SoManyStairs$Reader", name := "next", desc := "()V" } : Jvm.MethodName) prog_10_method_6_code (2 : Nat) (Option.none : Option Jvm.ClassFile.FieldType)) ∈ lw_all := lw_g (lw_at lw_m2 154 rfl) rfl
theorem q512 : (Jvm.Cond.methodLink "SoManyStairs$Reader" (36 : Nat) ({ cls := "SoManyStairs$Reader", name := "sign", desc := "(I)I" } : Jvm.MethodName)) ∈ lw_all := lw_g (lw_at lw_m2 155 rfl) rfl
theorem q513 : (Jvm.Cond.privateMethod ({ cls := "SoManyStairs$Reader", name := "sign", desc := "(I)I" } : Jvm.MethodName)) ∈ lw_tbl := lw_at lw_m2 156 rfl
theorem q514 : (Jvm.Cond.instanceMethod ({ cls := "SoManyStairs$Reader", name := "sign", desc := "(I)I" } : Jvm.MethodName)) ∈ lw_all := lw_g (lw_at lw_m2 157 rfl) rfl
theorem q515 : (Jvm.Cond.code ({ cls := "SoManyStairs$Reader", name := "sign", desc := "(I)I" } : Jvm.MethodName) prog_10_method_2_code (2 : Nat) (Option.some Jvm.ClassFile.FieldType.int)) ∈ lw_all := lw_g (lw_at lw_m2 158 rfl) rfl
theorem q516 : (Jvm.Cond.methodLink "SoManyStairs$Reader" (43 : Nat) ({ cls := "SoManyStairs$Reader", name := "isLetter", desc := "(I)Z" } : Jvm.MethodName)) ∈ lw_all := lw_g (lw_at lw_m2 159 rfl) rfl
theorem q517 : (Jvm.Cond.static ({ cls := "SoManyStairs$Reader", name := "isLetter", desc := "(I)Z" } : Jvm.MethodName)) ∈ lw_all := lw_g (lw_at lw_m2 160 rfl) rfl
theorem q518 : (Jvm.Cond.code ({ cls := "SoManyStairs$Reader", name := "isLetter", desc := "(I)Z" } : Jvm.MethodName) prog_10_method_3_code (1 : Nat) (Option.some Jvm.ClassFile.FieldType.boolean)) ∈ lw_all := lw_g (lw_at lw_m2 161 rfl) rfl
theorem q519 : (Jvm.Cond.methodLink "SoManyStairs$Reader" (47 : Nat) ({ cls := "SoManyStairs$Reader", name := "readWord", desc := "()V" } : Jvm.MethodName)) ∈ lw_all := lw_g (lw_at lw_m2 162 rfl) rfl
theorem q520 : (Jvm.Cond.privateMethod ({ cls := "SoManyStairs$Reader", name := "readWord", desc := "()V" } : Jvm.MethodName)) ∈ lw_tbl := lw_at lw_m2 163 rfl
theorem q521 : (Jvm.Cond.instanceMethod ({ cls := "SoManyStairs$Reader", name := "readWord", desc := "()V" } : Jvm.MethodName)) ∈ lw_all := lw_g (lw_at lw_m2 164 rfl) rfl
theorem q522 : (Jvm.Cond.code ({ cls := "SoManyStairs$Reader", name := "readWord", desc := "()V" } : Jvm.MethodName) prog_10_method_7_code (1 : Nat) (Option.none : Option Jvm.ClassFile.FieldType)) ∈ lw_all := lw_g (lw_at lw_m2 165 rfl) rfl
theorem q523 : (Jvm.Cond.methodLink "SoManyStairs$Reader" (50 : Nat) ({ cls := "SoManyStairs$Reader", name := "isDigit", desc := "(I)Z" } : Jvm.MethodName)) ∈ lw_all := lw_g (lw_at lw_m2 166 rfl) rfl
theorem q524 : (Jvm.Cond.static ({ cls := "SoManyStairs$Reader", name := "isDigit", desc := "(I)Z" } : Jvm.MethodName)) ∈ lw_all := lw_g (lw_at lw_m2 167 rfl) rfl
theorem q525 : (Jvm.Cond.code ({ cls := "SoManyStairs$Reader", name := "isDigit", desc := "(I)Z" } : Jvm.MethodName) prog_10_method_4_code (1 : Nat) (Option.some Jvm.ClassFile.FieldType.boolean)) ∈ lw_all := lw_g (lw_at lw_m2 168 rfl) rfl
theorem q526 : (Jvm.Cond.methodLink "SoManyStairs$Reader" (53 : Nat) ({ cls := "SoManyStairs$Reader", name := "readNumber", desc := "()V" } : Jvm.MethodName)) ∈ lw_all := lw_g (lw_at lw_m2 169 rfl) rfl
theorem q527 : (Jvm.Cond.privateMethod ({ cls := "SoManyStairs$Reader", name := "readNumber", desc := "()V" } : Jvm.MethodName)) ∈ lw_tbl := lw_at lw_m2 170 rfl
theorem q528 : (Jvm.Cond.instanceMethod ({ cls := "SoManyStairs$Reader", name := "readNumber", desc := "()V" } : Jvm.MethodName)) ∈ lw_all := lw_g (lw_at lw_m2 171 rfl) rfl
theorem q529 : (Jvm.Cond.code ({ cls := "SoManyStairs$Reader", name := "readNumber", desc := "()V" } : Jvm.MethodName) prog_10_method_8_code (1 : Nat) (Option.none : Option Jvm.ClassFile.FieldType)) ∈ lw_all := lw_g (lw_at lw_m2 172 rfl) rfl
theorem q530 : (Jvm.Cond.methodLink "SoManyStairs$Reader" (56 : Nat) ({ cls := "SoManyStairs$Reader", name := "isSign", desc := "(I)Z" } : Jvm.MethodName)) ∈ lw_all := lw_g (lw_at lw_m2 173 rfl) rfl
theorem q531 : (Jvm.Cond.static ({ cls := "SoManyStairs$Reader", name := "isSign", desc := "(I)Z" } : Jvm.MethodName)) ∈ lw_all := lw_g (lw_at lw_m2 174 rfl) rfl
theorem q532 : (Jvm.Cond.code ({ cls := "SoManyStairs$Reader", name := "isSign", desc := "(I)Z" } : Jvm.MethodName) prog_10_method_5_code (1 : Nat) (Option.some Jvm.ClassFile.FieldType.boolean)) ∈ lw_all := lw_g (lw_at lw_m2 175 rfl) rfl
theorem q533 : (Jvm.Cond.methodLink "SoManyStairs$Reader" (268 : Nat) ({ cls := "SoManyStairs$Reader", name := "line", desc := "()V" } : Jvm.MethodName)) ∈ lw_all := lw_g (lw_at lw_m2 176 rfl) rfl
theorem q534 : (Jvm.Cond.privateMethod ({ cls := "SoManyStairs$Reader", name := "line", desc := "()V" } : Jvm.MethodName)) ∈ lw_tbl := lw_at lw_m2 177 rfl
theorem q535 : (Jvm.Cond.instanceMethod ({ cls := "SoManyStairs$Reader", name := "line", desc := "()V" } : Jvm.MethodName)) ∈ lw_all := lw_g (lw_at lw_m2 178 rfl) rfl
theorem q536 : (Jvm.Cond.code ({ cls := "SoManyStairs$Reader", name := "line", desc := "()V" } : Jvm.MethodName) prog_10_method_28_code (1 : Nat) (Option.none : Option Jvm.ClassFile.FieldType)) ∈ lw_all := lw_g (lw_at lw_m2 179 rfl) rfl
theorem q537 : (Jvm.Cond.methodLink "SoManyStairs$Reader" (256 : Nat) ({ cls := "SoManyStairs$Reader", name := "canLine", desc := "()Z" } : Jvm.MethodName)) ∈ lw_all := lw_g (lw_at lw_m2 180 rfl) rfl
theorem q538 : (Jvm.Cond.privateMethod ({ cls := "SoManyStairs$Reader", name := "canLine", desc := "()Z" } : Jvm.MethodName)) ∈ lw_tbl := lw_at lw_m2 181 rfl
theorem q539 : (Jvm.Cond.instanceMethod ({ cls := "SoManyStairs$Reader", name := "canLine", desc := "()Z" } : Jvm.MethodName)) ∈ lw_all := lw_g (lw_at lw_m2 182 rfl) rfl
theorem q540 : (Jvm.Cond.code ({ cls := "SoManyStairs$Reader", name := "canLine", desc := "()Z" } : Jvm.MethodName) prog_10_method_27_code (1 : Nat) (Option.some Jvm.ClassFile.FieldType.boolean)) ∈ lw_all := lw_g (lw_at lw_m2 183 rfl) rfl
theorem q541 : (Jvm.Cond.stringRef "SoManyStairs$Reader" (233 : Nat) "storeys") ∈ lw_tbl := lw_at lw_m2 184 rfl
theorem q542 : (Jvm.Cond.methodLink "SoManyStairs$Reader" (76 : Nat) ({ cls := "SoManyStairs$Reader", name := "isWord", desc := "(Ljava/lang/String;)Z" } : Jvm.MethodName)) ∈ lw_all := lw_g (lw_at lw_m2 185 rfl) rfl
theorem q543 : (Jvm.Cond.privateMethod ({ cls := "SoManyStairs$Reader", name := "isWord", desc := "(Ljava/lang/String;)Z" } : Jvm.MethodName)) ∈ lw_tbl := lw_at lw_m2 186 rfl
theorem q544 : (Jvm.Cond.instanceMethod ({ cls := "SoManyStairs$Reader", name := "isWord", desc := "(Ljava/lang/String;)Z" } : Jvm.MethodName)) ∈ lw_all := lw_g (lw_at lw_m2 187 rfl) rfl
theorem q545 : (Jvm.Cond.code ({ cls := "SoManyStairs$Reader", name := "isWord", desc := "(Ljava/lang/String;)Z" } : Jvm.MethodName) prog_10_method_9_code (3 : Nat) (Option.some Jvm.ClassFile.FieldType.boolean)) ∈ lw_all := lw_g (lw_at lw_m2 188 rfl) rfl
theorem q546 : (Jvm.Cond.methodLink "SoManyStairs$Reader" (66 : Nat) ({ cls := "java/lang/String", name := "length", desc := "()I" } : Jvm.MethodName)) ∈ lw_all := lw_g (lw_at lw_m2 189 rfl) rfl
theorem q556 : (Jvm.Cond.methodLink "SoManyStairs$Reader" (72 : Nat) ({ cls := "java/lang/String", name := "charAt", desc := "(I)C" } : Jvm.MethodName)) ∈ lw_all := lw_g (lw_at lw_m2 199 rfl) rfl
theorem q592 : (Jvm.Cond.stringRef "SoManyStairs$Reader" (237 : Nat) "tenant") ∈ lw_tbl := lw_at lw_m2 235 rfl
theorem q593 : (Jvm.Cond.methodLink "SoManyStairs$Reader" (239 : Nat) ({ cls := "java/util/ArrayList", name := "size", desc := "()I" } : Jvm.MethodName)) ∈ lw_all := lw_g (lw_at lw_m2 236 rfl) rfl
theorem q594 : (Jvm.Cond.stringRef "SoManyStairs$Reader" (241 : Nat) "counts") ∈ lw_tbl := lw_at lw_m2 237 rfl
theorem q595 : (Jvm.Cond.stringRef "SoManyStairs$Reader" (246 : Nat) "moves") ∈ lw_tbl := lw_at lw_m2 238 rfl
theorem q596 : (Jvm.Cond.stringRef "SoManyStairs$Reader" (250 : Nat) "draw") ∈ lw_tbl := lw_at lw_m2 239 rfl
theorem q597 : (Jvm.Cond.methodLink "SoManyStairs$Reader" (86 : Nat) ({ cls := "SoManyStairs$Reader", name := "wrong", desc := "()LSoManyStairs$Wrong;" } : Jvm.MethodName)) ∈ lw_all := lw_g (lw_at lw_m3 0 rfl) rfl
theorem q598 : (Jvm.Cond.privateMethod ({ cls := "SoManyStairs$Reader", name := "wrong", desc := "()LSoManyStairs$Wrong;" } : Jvm.MethodName)) ∈ lw_tbl := lw_at lw_m3 1 rfl
theorem q599 : (Jvm.Cond.instanceMethod ({ cls := "SoManyStairs$Reader", name := "wrong", desc := "()LSoManyStairs$Wrong;" } : Jvm.MethodName)) ∈ lw_all := lw_g (lw_at lw_m3 2 rfl) rfl
theorem q600 : (Jvm.Cond.code ({ cls := "SoManyStairs$Reader", name := "wrong", desc := "()LSoManyStairs$Wrong;" } : Jvm.MethodName) prog_10_method_12_code (1 : Nat) (Option.some (Jvm.ClassFile.FieldType.object "SoManyStairs$Wrong"))) ∈ lw_all := lw_g (lw_at lw_m3 3 rfl) rfl
theorem q601 : (Jvm.Cond.methodLink "SoManyStairs$Reader" (80 : Nat) ({ cls := "SoManyStairs$Wrong", name := "by", desc := "(II)LSoManyStairs$Wrong;" } : Jvm.MethodName)) ∈ lw_all := lw_g (lw_at lw_m3 4 rfl) rfl
theorem q605 : (Jvm.Cond.methodLink "SoManyStairs$Reader" (105 : Nat) ({ cls := "SoManyStairs$Reader", name := "has", desc := "(Ljava/lang/String;)Z" } : Jvm.MethodName)) ∈ lw_all := lw_g (lw_at lw_m3 8 rfl) rfl
theorem q606 : (Jvm.Cond.privateMethod ({ cls := "SoManyStairs$Reader", name := "has", desc := "(Ljava/lang/String;)Z" } : Jvm.MethodName)) ∈ lw_tbl := lw_at lw_m3 9 rfl
theorem q607 : (Jvm.Cond.instanceMethod ({ cls := "SoManyStairs$Reader", name := "has", desc := "(Ljava/lang/String;)Z" } : Jvm.MethodName)) ∈ lw_all := lw_g (lw_at lw_m3 10 rfl) rfl
theorem q608 : (Jvm.Cond.code ({ cls := "SoManyStairs$Reader", name := "has", desc := "(Ljava/lang/String;)Z" } : Jvm.MethodName) prog_10_method_16_code (3 : Nat) (Option.some Jvm.ClassFile.FieldType.boolean)) ∈ lw_all := lw_g (lw_at lw_m3 11 rfl) rfl
theorem q609 : (Jvm.Cond.methodLink "SoManyStairs$Reader" (259 : Nat) ({ cls := "SoManyStairs$Reader", name := "storeys", desc := "()V" } : Jvm.MethodName)) ∈ lw_all := lw_g (lw_at lw_m3 12 rfl) rfl
theorem q610 : (Jvm.Cond.privateMethod ({ cls := "SoManyStairs$Reader", name := "storeys", desc := "()V" } : Jvm.MethodName)) ∈ lw_tbl := lw_at lw_m3 13 rfl
theorem q611 : (Jvm.Cond.instanceMethod ({ cls := "SoManyStairs$Reader", name := "storeys", desc := "()V" } : Jvm.MethodName)) ∈ lw_all := lw_g (lw_at lw_m3 14 rfl) rfl
theorem q612 : (Jvm.Cond.code ({ cls := "SoManyStairs$Reader", name := "storeys", desc := "()V" } : Jvm.MethodName) prog_10_method_17_code (1 : Nat) (Option.none : Option Jvm.ClassFile.FieldType)) ∈ lw_all := lw_g (lw_at lw_m3 15 rfl) rfl
theorem q613 : (Jvm.Cond.methodLink "SoManyStairs$Reader" (97 : Nat) ({ cls := "SoManyStairs$Reader", name := "number", desc := "(II)I" } : Jvm.MethodName)) ∈ lw_all := lw_g (lw_at lw_m3 16 rfl) rfl
theorem q614 : (Jvm.Cond.privateMethod ({ cls := "SoManyStairs$Reader", name := "number", desc := "(II)I" } : Jvm.MethodName)) ∈ lw_tbl := lw_at lw_m3 17 rfl
theorem q615 : (Jvm.Cond.instanceMethod ({ cls := "SoManyStairs$Reader", name := "number", desc := "(II)I" } : Jvm.MethodName)) ∈ lw_all := lw_g (lw_at lw_m3 18 rfl) rfl
theorem q616 : (Jvm.Cond.code ({ cls := "SoManyStairs$Reader", name := "number", desc := "(II)I" } : Jvm.MethodName) prog_10_method_14_code (4 : Nat) (Option.some Jvm.ClassFile.FieldType.int)) ∈ lw_all := lw_g (lw_at lw_m3 19 rfl) rfl
theorem q617 : (Jvm.Cond.stringRef "SoManyStairs$Reader" (103 : Nat) "lift") ∈ lw_tbl := lw_at lw_m3 20 rfl
theorem q618 : (Jvm.Cond.methodLink "SoManyStairs$Reader" (261 : Nat) ({ cls := "SoManyStairs$Reader", name := "tenant", desc := "()V" } : Jvm.MethodName)) ∈ lw_all := lw_g (lw_at lw_m3 21 rfl) rfl
theorem q619 : (Jvm.Cond.privateMethod ({ cls := "SoManyStairs$Reader", name := "tenant", desc := "()V" } : Jvm.MethodName)) ∈ lw_tbl := lw_at lw_m3 22 rfl
theorem q620 : (Jvm.Cond.instanceMethod ({ cls := "SoManyStairs$Reader", name := "tenant", desc := "()V" } : Jvm.MethodName)) ∈ lw_all := lw_g (lw_at lw_m3 23 rfl) rfl
theorem q621 : (Jvm.Cond.code ({ cls := "SoManyStairs$Reader", name := "tenant", desc := "()V" } : Jvm.MethodName) prog_10_method_18_code (3 : Nat) (Option.none : Option Jvm.ClassFile.FieldType)) ∈ lw_all := lw_g (lw_at lw_m3 24 rfl) rfl
theorem q622 : (Jvm.Cond.fieldLink "SoManyStairs$Reader" (110 : Nat) "SoManyStairs$Reader" "KEPT" "[Ljava/lang/String;") ∈ lw_all := lw_g (lw_at lw_m3 25 rfl) rfl
theorem q623 : (Jvm.Cond.laysStatic "SoManyStairs$Reader" "KEPT" "[Ljava/lang/String;") ∈ lw_tbl := lw_at lw_m3 26 rfl
theorem q624 : (Jvm.Cond.methodLink "SoManyStairs$Reader" (114 : Nat) ({ cls := "SoManyStairs$Reader", name := "which", desc := "([Ljava/lang/String;)I" } : Jvm.MethodName)) ∈ lw_all := lw_g (lw_at lw_m3 27 rfl) rfl
theorem q625 : (Jvm.Cond.privateMethod ({ cls := "SoManyStairs$Reader", name := "which", desc := "([Ljava/lang/String;)I" } : Jvm.MethodName)) ∈ lw_tbl := lw_at lw_m3 28 rfl
theorem q626 : (Jvm.Cond.instanceMethod ({ cls := "SoManyStairs$Reader", name := "which", desc := "([Ljava/lang/String;)I" } : Jvm.MethodName)) ∈ lw_all := lw_g (lw_at lw_m3 29 rfl) rfl
theorem q627 : (Jvm.Cond.code ({ cls := "SoManyStairs$Reader", name := "which", desc := "([Ljava/lang/String;)I" } : Jvm.MethodName) prog_10_method_10_code (3 : Nat) (Option.some Jvm.ClassFile.FieldType.int)) ∈ lw_all := lw_g (lw_at lw_m3 30 rfl) rfl
theorem q628 : (Jvm.Cond.methodLink "SoManyStairs$Reader" (122 : Nat) ({ cls := "java/util/ArrayList", name := "iterator", desc := "()Ljava/util/Iterator;" } : Jvm.MethodName)) ∈ lw_all := lw_g (lw_at lw_m3 31 rfl) rfl
theorem q651 : (Jvm.Cond.interfaceEntry "SoManyStairs$Reader" (128 : Nat)) ∈ lw_tbl := lw_at lw_m3 54 rfl
theorem q652 : (Jvm.Cond.methodLink "SoManyStairs$Reader" (128 : Nat) ({ cls := "java/util/Iterator", name := "hasNext", desc := "()Z" } : Jvm.MethodName)) ∈ lw_all := lw_g (lw_at lw_m3 55 rfl) rfl
theorem q661 : (Jvm.Cond.interfaceEntry "SoManyStairs$Reader" (134 : Nat)) ∈ lw_tbl := lw_at lw_m3 64 rfl
theorem q662 : (Jvm.Cond.methodLink "SoManyStairs$Reader" (134 : Nat) ({ cls := "java/util/Iterator", name := "next", desc := "()Ljava/lang/Object;" } : Jvm.MethodName)) ∈ lw_all := lw_g (lw_at lw_m3 65 rfl) rfl
theorem q674 : (Jvm.Cond.classLink "SoManyStairs$Reader" (137 : Nat) "SoManyStairs$Tenant") ∈ lw_all := lw_g (lw_at lw_m3 77 rfl) rfl
theorem q676 : (Jvm.Cond.methodLink "SoManyStairs$Reader" (140 : Nat) ({ cls := "SoManyStairs$Tenant", name := "<init>", desc := "(J)V" } : Jvm.MethodName)) ∈ lw_all := lw_g (lw_at lw_m3 79 rfl) rfl
theorem q681 : (Jvm.Cond.fieldLinkNest "SoManyStairs$Reader" (139 : Nat) "SoManyStairs$Tenant" "name" "J" "SoManyStairs") ∈ lw_tbl := lw_at lw_m3 84 rfl
theorem q683 : (Jvm.Cond.fieldLinkNest "SoManyStairs$Reader" (149 : Nat) "SoManyStairs$Tenant" "storey" "I" "SoManyStairs") ∈ lw_tbl := lw_at lw_m3 86 rfl
theorem q686 : (Jvm.Cond.fieldLinkNest "SoManyStairs$Reader" (154 : Nat) "SoManyStairs$Tenant" "strong" "I" "SoManyStairs") ∈ lw_tbl := lw_at lw_m3 89 rfl
theorem q689 : (Jvm.Cond.fieldLinkNest "SoManyStairs$Reader" (158 : Nat) "SoManyStairs$Tenant" "heavy" "I" "SoManyStairs") ∈ lw_tbl := lw_at lw_m3 92 rfl
theorem q692 : (Jvm.Cond.fieldLinkNest "SoManyStairs$Reader" (162 : Nat) "SoManyStairs$Tenant" "owes" "I" "SoManyStairs") ∈ lw_tbl := lw_at lw_m3 95 rfl
theorem q694 : (Jvm.Cond.fieldLinkNest "SoManyStairs$Reader" (166 : Nat) "SoManyStairs$Tenant" "fails" "I" "SoManyStairs") ∈ lw_tbl := lw_at lw_m3 97 rfl
theorem q708 : (Jvm.Cond.stringRef "SoManyStairs$Reader" (143 : Nat) "on") ∈ lw_tbl := lw_at lw_m3 111 rfl
theorem q709 : (Jvm.Cond.methodLink "SoManyStairs$Reader" (145 : Nat) ({ cls := "SoManyStairs$Reader", name := "after", desc := "(Ljava/lang/String;II)I" } : Jvm.MethodName)) ∈ lw_all := lw_g (lw_at lw_m3 112 rfl) rfl
theorem q710 : (Jvm.Cond.privateMethod ({ cls := "SoManyStairs$Reader", name := "after", desc := "(Ljava/lang/String;II)I" } : Jvm.MethodName)) ∈ lw_tbl := lw_at lw_m3 113 rfl
theorem q711 : (Jvm.Cond.instanceMethod ({ cls := "SoManyStairs$Reader", name := "after", desc := "(Ljava/lang/String;II)I" } : Jvm.MethodName)) ∈ lw_all := lw_g (lw_at lw_m3 114 rfl) rfl
theorem q712 : (Jvm.Cond.code ({ cls := "SoManyStairs$Reader", name := "after", desc := "(Ljava/lang/String;II)I" } : Jvm.MethodName) prog_10_method_15_code (4 : Nat) (Option.some Jvm.ClassFile.FieldType.int)) ∈ lw_all := lw_g (lw_at lw_m3 115 rfl) rfl
theorem q713 : (Jvm.Cond.methodLink "SoManyStairs$Reader" (93 : Nat) ({ cls := "SoManyStairs$Reader", name := "must", desc := "(Z)V" } : Jvm.MethodName)) ∈ lw_all := lw_g (lw_at lw_m3 116 rfl) rfl
theorem q714 : (Jvm.Cond.privateMethod ({ cls := "SoManyStairs$Reader", name := "must", desc := "(Z)V" } : Jvm.MethodName)) ∈ lw_tbl := lw_at lw_m3 117 rfl
theorem q715 : (Jvm.Cond.instanceMethod ({ cls := "SoManyStairs$Reader", name := "must", desc := "(Z)V" } : Jvm.MethodName)) ∈ lw_all := lw_g (lw_at lw_m3 118 rfl) rfl
theorem q716 : (Jvm.Cond.code ({ cls := "SoManyStairs$Reader", name := "must", desc := "(Z)V" } : Jvm.MethodName) prog_10_method_13_code (2 : Nat) (Option.none : Option Jvm.ClassFile.FieldType)) ∈ lw_all := lw_g (lw_at lw_m3 119 rfl) rfl
theorem q717 : (Jvm.Cond.stringRef "SoManyStairs$Reader" (152 : Nat) "strong") ∈ lw_tbl := lw_at lw_m3 120 rfl
theorem q718 : (Jvm.Cond.stringRef "SoManyStairs$Reader" (156 : Nat) "heavy") ∈ lw_tbl := lw_at lw_m3 121 rfl
theorem q719 : (Jvm.Cond.stringRef "SoManyStairs$Reader" (160 : Nat) "owes") ∈ lw_tbl := lw_at lw_m3 122 rfl
theorem q720 : (Jvm.Cond.stringRef "SoManyStairs$Reader" (164 : Nat) "fails") ∈ lw_tbl := lw_at lw_m3 123 rfl
theorem q721 : (Jvm.Cond.methodLink "SoManyStairs$Reader" (168 : Nat) ({ cls := "java/util/ArrayList", name := "add", desc := "(Ljava/lang/Object;)Z" } : Jvm.MethodName)) ∈ lw_all := lw_g (lw_at lw_m3 124 rfl) rfl
theorem q760 : (Jvm.Cond.selects "SoManyStairs$Reader" ({ cls := "java/lang/Object", name := "getClass", desc := "()Ljava/lang/Class;" } : Jvm.MethodName) ({ cls := "java/lang/Object", name := "getClass", desc := "()Ljava/lang/Class;" } : Jvm.MethodName)) ∈ lw_all := lw_g (lw_at lw_m3 163 rfl) rfl
theorem q784 : (Jvm.Cond.methodLink "SoManyStairs$Reader" (263 : Nat) ({ cls := "SoManyStairs$Reader", name := "formula", desc := "()LSoManyStairs$Part;" } : Jvm.MethodName)) ∈ lw_all := lw_g (lw_at lw_m3 187 rfl) rfl
theorem q785 : (Jvm.Cond.privateMethod ({ cls := "SoManyStairs$Reader", name := "formula", desc := "()LSoManyStairs$Part;" } : Jvm.MethodName)) ∈ lw_tbl := lw_at lw_m3 188 rfl
theorem q786 : (Jvm.Cond.instanceMethod ({ cls := "SoManyStairs$Reader", name := "formula", desc := "()LSoManyStairs$Part;" } : Jvm.MethodName)) ∈ lw_all := lw_g (lw_at lw_m3 189 rfl) rfl
theorem q787 : (Jvm.Cond.code ({ cls := "SoManyStairs$Reader", name := "formula", desc := "()LSoManyStairs$Part;" } : Jvm.MethodName) prog_10_method_19_code (1 : Nat) (Option.some (Jvm.ClassFile.FieldType.object "SoManyStairs$Part"))) ∈ lw_all := lw_g (lw_at lw_m3 190 rfl) rfl
theorem q788 : (Jvm.Cond.methodLink "SoManyStairs$Reader" (178 : Nat) ({ cls := "SoManyStairs$Reader", name := "either", desc := "()LSoManyStairs$Part;" } : Jvm.MethodName)) ∈ lw_all := lw_g (lw_at lw_m3 191 rfl) rfl
theorem q789 : (Jvm.Cond.privateMethod ({ cls := "SoManyStairs$Reader", name := "either", desc := "()LSoManyStairs$Part;" } : Jvm.MethodName)) ∈ lw_tbl := lw_at lw_m3 192 rfl
theorem q790 : (Jvm.Cond.instanceMethod ({ cls := "SoManyStairs$Reader", name := "either", desc := "()LSoManyStairs$Part;" } : Jvm.MethodName)) ∈ lw_all := lw_g (lw_at lw_m3 193 rfl) rfl
theorem q791 : (Jvm.Cond.code ({ cls := "SoManyStairs$Reader", name := "either", desc := "()LSoManyStairs$Part;" } : Jvm.MethodName) prog_10_method_20_code (2 : Nat) (Option.some (Jvm.ClassFile.FieldType.object "SoManyStairs$Part"))) ∈ lw_all := lw_g (lw_at lw_m3 194 rfl) rfl
theorem q792 : (Jvm.Cond.methodLink "SoManyStairs$Reader" (182 : Nat) ({ cls := "SoManyStairs$Reader", name := "both", desc := "()LSoManyStairs$Part;" } : Jvm.MethodName)) ∈ lw_all := lw_g (lw_at lw_m3 195 rfl) rfl
theorem q793 : (Jvm.Cond.privateMethod ({ cls := "SoManyStairs$Reader", name := "both", desc := "()LSoManyStairs$Part;" } : Jvm.MethodName)) ∈ lw_tbl := lw_at lw_m3 196 rfl
theorem q794 : (Jvm.Cond.instanceMethod ({ cls := "SoManyStairs$Reader", name := "both", desc := "()LSoManyStairs$Part;" } : Jvm.MethodName)) ∈ lw_all := lw_g (lw_at lw_m3 197 rfl) rfl
theorem q795 : (Jvm.Cond.code ({ cls := "SoManyStairs$Reader", name := "both", desc := "()LSoManyStairs$Part;" } : Jvm.MethodName) prog_10_method_21_code (2 : Nat) (Option.some (Jvm.ClassFile.FieldType.object "SoManyStairs$Part"))) ∈ lw_all := lw_g (lw_at lw_m3 198 rfl) rfl
theorem q796 : (Jvm.Cond.methodLink "SoManyStairs$Reader" (192 : Nat) ({ cls := "SoManyStairs$Reader", name := "one", desc := "()LSoManyStairs$Part;" } : Jvm.MethodName)) ∈ lw_all := lw_g (lw_at lw_m3 199 rfl) rfl
theorem q797 : (Jvm.Cond.privateMethod ({ cls := "SoManyStairs$Reader", name := "one", desc := "()LSoManyStairs$Part;" } : Jvm.MethodName)) ∈ lw_tbl := lw_at lw_m3 200 rfl
theorem q798 : (Jvm.Cond.instanceMethod ({ cls := "SoManyStairs$Reader", name := "one", desc := "()LSoManyStairs$Part;" } : Jvm.MethodName)) ∈ lw_all := lw_g (lw_at lw_m3 201 rfl) rfl
theorem q799 : (Jvm.Cond.code ({ cls := "SoManyStairs$Reader", name := "one", desc := "()LSoManyStairs$Part;" } : Jvm.MethodName) prog_10_method_23_code (3 : Nat) (Option.some (Jvm.ClassFile.FieldType.object "SoManyStairs$Part"))) ∈ lw_all := lw_g (lw_at lw_m3 202 rfl) rfl
theorem q800 : (Jvm.Cond.stringRef "SoManyStairs$Reader" (197 : Nat) "not") ∈ lw_tbl := lw_at lw_m3 203 rfl
theorem q801 : (Jvm.Cond.methodLink "SoManyStairs$Reader" (199 : Nat) ({ cls := "SoManyStairs$Reader", name := "open", desc := "()V" } : Jvm.MethodName)) ∈ lw_all := lw_g (lw_at lw_m3 204 rfl) rfl
theorem q802 : (Jvm.Cond.privateMethod ({ cls := "SoManyStairs$Reader", name := "open", desc := "()V" } : Jvm.MethodName)) ∈ lw_tbl := lw_at lw_m3 205 rfl
theorem q803 : (Jvm.Cond.instanceMethod ({ cls := "SoManyStairs$Reader", name := "open", desc := "()V" } : Jvm.MethodName)) ∈ lw_all := lw_g (lw_at lw_m3 206 rfl) rfl
theorem q804 : (Jvm.Cond.code ({ cls := "SoManyStairs$Reader", name := "open", desc := "()V" } : Jvm.MethodName) prog_10_method_22_code (1 : Nat) (Option.none : Option Jvm.ClassFile.FieldType)) ∈ lw_all := lw_g (lw_at lw_m3 207 rfl) rfl
theorem q805 : (Jvm.Cond.classLink "SoManyStairs$Reader" (202 : Nat) "SoManyStairs$Not") ∈ lw_all := lw_g (lw_at lw_m3 208 rfl) rfl
theorem q807 : (Jvm.Cond.methodLink "SoManyStairs$Reader" (204 : Nat) ({ cls := "SoManyStairs$Not", name := "<init>", desc := "(LSoManyStairs$Part;)V" } : Jvm.MethodName)) ∈ lw_all := lw_g (lw_at lw_m3 210 rfl) rfl
theorem q818 : (Jvm.Cond.methodLink "SoManyStairs$Reader" (207 : Nat) ({ cls := "SoManyStairs$Reader", name := "sum", desc := "()LSoManyStairs$Part;" } : Jvm.MethodName)) ∈ lw_all := lw_g (lw_at lw_m3 221 rfl) rfl
theorem q819 : (Jvm.Cond.privateMethod ({ cls := "SoManyStairs$Reader", name := "sum", desc := "()LSoManyStairs$Part;" } : Jvm.MethodName)) ∈ lw_tbl := lw_at lw_m3 222 rfl
theorem q820 : (Jvm.Cond.instanceMethod ({ cls := "SoManyStairs$Reader", name := "sum", desc := "()LSoManyStairs$Part;" } : Jvm.MethodName)) ∈ lw_all := lw_g (lw_at lw_m3 223 rfl) rfl
theorem q821 : (Jvm.Cond.code ({ cls := "SoManyStairs$Reader", name := "sum", desc := "()LSoManyStairs$Part;" } : Jvm.MethodName) prog_10_method_24_code (3 : Nat) (Option.some (Jvm.ClassFile.FieldType.object "SoManyStairs$Part"))) ∈ lw_all := lw_g (lw_at lw_m3 224 rfl) rfl
theorem q822 : (Jvm.Cond.methodLink "SoManyStairs$Reader" (213 : Nat) ({ cls := "SoManyStairs$Reader", name := "term", desc := "()LSoManyStairs$Part;" } : Jvm.MethodName)) ∈ lw_all := lw_g (lw_at lw_m3 225 rfl) rfl
theorem q823 : (Jvm.Cond.privateMethod ({ cls := "SoManyStairs$Reader", name := "term", desc := "()LSoManyStairs$Part;" } : Jvm.MethodName)) ∈ lw_tbl := lw_at lw_m3 226 rfl
theorem q824 : (Jvm.Cond.instanceMethod ({ cls := "SoManyStairs$Reader", name := "term", desc := "()LSoManyStairs$Part;" } : Jvm.MethodName)) ∈ lw_all := lw_g (lw_at lw_m3 227 rfl) rfl
theorem q825 : (Jvm.Cond.code ({ cls := "SoManyStairs$Reader", name := "term", desc := "()LSoManyStairs$Part;" } : Jvm.MethodName) prog_10_method_25_code (3 : Nat) (Option.some (Jvm.ClassFile.FieldType.object "SoManyStairs$Part"))) ∈ lw_all := lw_g (lw_at lw_m3 228 rfl) rfl
theorem q826 : (Jvm.Cond.methodLink "SoManyStairs$Reader" (216 : Nat) ({ cls := "SoManyStairs$Reader", name := "unit", desc := "()LSoManyStairs$Part;" } : Jvm.MethodName)) ∈ lw_all := lw_g (lw_at lw_m3 229 rfl) rfl
theorem q827 : (Jvm.Cond.privateMethod ({ cls := "SoManyStairs$Reader", name := "unit", desc := "()LSoManyStairs$Part;" } : Jvm.MethodName)) ∈ lw_tbl := lw_at lw_m3 230 rfl
theorem q828 : (Jvm.Cond.instanceMethod ({ cls := "SoManyStairs$Reader", name := "unit", desc := "()LSoManyStairs$Part;" } : Jvm.MethodName)) ∈ lw_all := lw_g (lw_at lw_m3 231 rfl) rfl
theorem q829 : (Jvm.Cond.code ({ cls := "SoManyStairs$Reader", name := "unit", desc := "()LSoManyStairs$Part;" } : Jvm.MethodName) prog_10_method_26_code (4 : Nat) (Option.some (Jvm.ClassFile.FieldType.object "SoManyStairs$Part"))) ∈ lw_all := lw_g (lw_at lw_m3 232 rfl) rfl
theorem q830 : (Jvm.Cond.methodLink "SoManyStairs$Reader" (210 : Nat) ({ cls := "SoManyStairs$Reader", name := "isSignHere", desc := "(I)Z" } : Jvm.MethodName)) ∈ lw_all := lw_g (lw_at lw_m3 233 rfl) rfl
theorem q831 : (Jvm.Cond.privateMethod ({ cls := "SoManyStairs$Reader", name := "isSignHere", desc := "(I)Z" } : Jvm.MethodName)) ∈ lw_tbl := lw_at lw_m3 234 rfl
theorem q832 : (Jvm.Cond.instanceMethod ({ cls := "SoManyStairs$Reader", name := "isSignHere", desc := "(I)Z" } : Jvm.MethodName)) ∈ lw_all := lw_g (lw_at lw_m3 235 rfl) rfl
theorem q833 : (Jvm.Cond.code ({ cls := "SoManyStairs$Reader", name := "isSignHere", desc := "(I)Z" } : Jvm.MethodName) prog_10_method_11_code (2 : Nat) (Option.some Jvm.ClassFile.FieldType.boolean)) ∈ lw_all := lw_g (lw_at lw_m3 236 rfl) rfl
theorem q834 : (Jvm.Cond.fieldLink "SoManyStairs$Reader" (219 : Nat) "SoManyStairs$Reader" "NAMED" "[Ljava/lang/String;") ∈ lw_all := lw_g (lw_at lw_m3 237 rfl) rfl
theorem q835 : (Jvm.Cond.laysStatic "SoManyStairs$Reader" "NAMED" "[Ljava/lang/String;") ∈ lw_tbl := lw_at lw_m3 238 rfl
theorem q836 : (Jvm.Cond.classLink "SoManyStairs$Reader" (225 : Nat) "SoManyStairs$Numeral") ∈ lw_all := lw_g (lw_at lw_m3 239 rfl) rfl
theorem q838 : (Jvm.Cond.methodLink "SoManyStairs$Reader" (227 : Nat) ({ cls := "SoManyStairs$Numeral", name := "<init>", desc := "(I)V" } : Jvm.MethodName)) ∈ lw_all := lw_g (lw_at lw_m4 1 rfl) rfl
theorem q846 : (Jvm.Cond.classLink "SoManyStairs$Reader" (230 : Nat) "SoManyStairs$Named") ∈ lw_all := lw_g (lw_at lw_m4 9 rfl) rfl
theorem q848 : (Jvm.Cond.methodLink "SoManyStairs$Reader" (232 : Nat) ({ cls := "SoManyStairs$Named", name := "<init>", desc := "(I)V" } : Jvm.MethodName)) ∈ lw_all := lw_g (lw_at lw_m4 11 rfl) rfl
theorem q856 : (Jvm.Cond.classLink "SoManyStairs$Reader" (187 : Nat) "SoManyStairs$Two") ∈ lw_all := lw_g (lw_at lw_m4 19 rfl) rfl
theorem q858 : (Jvm.Cond.methodLink "SoManyStairs$Reader" (189 : Nat) ({ cls := "SoManyStairs$Two", name := "<init>", desc := "(ILSoManyStairs$Part;LSoManyStairs$Part;)V" } : Jvm.MethodName)) ∈ lw_all := lw_g (lw_at lw_m4 21 rfl) rfl
theorem q872 : (Jvm.Cond.stringRef "SoManyStairs$Reader" (195 : Nat) "and") ∈ lw_tbl := lw_at lw_m4 35 rfl
theorem q873 : (Jvm.Cond.stringRef "SoManyStairs$Reader" (185 : Nat) "or") ∈ lw_tbl := lw_at lw_m4 36 rfl
theorem q2061 : (Jvm.Cond.castable "SoManyStairs$Reader" "java/lang/Object") ∈ lw_tbl := lw_at lw_m9 24 rfl
theorem q2083 : (Jvm.Cond.stringRef "SoManyStairs$Reader" (271 : Nat) "night") ∈ lw_tbl := lw_at lw_m9 46 rfl
theorem q2084 : (Jvm.Cond.stringRef "SoManyStairs$Reader" (273 : Nat) "week") ∈ lw_tbl := lw_at lw_m9 47 rfl
theorem q2085 : (Jvm.Cond.stringRef "SoManyStairs$Reader" (275 : Nat) "climbed") ∈ lw_tbl := lw_at lw_m9 48 rfl
theorem in_X6 : ∀ w ∈ wsX60, w ∈ lw_all := lw_in wsX60 [481, 483, 485, 487, 489, 491, 493, 495, 497, 499, 501] (by decide +kernel) (by decide +kernel)
