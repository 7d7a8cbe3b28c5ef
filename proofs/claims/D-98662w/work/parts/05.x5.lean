/-! SoManyStairsModel -/
set_option maxRecDepth 100000
def RX5 : String := "SoManyStairsModel"
def TX5 : u_T := fun k => match k with
  | 0 => ("SoManyStairsModel", "tape", "[I", true)
  | 1 => ("SoManyStairsModel", "taped", "I", false)
  | 2 => ("SoManyStairsModel", "fault", "I", false)
  | 3 => ("SoManyStairsModel", "faultPlace", "I", false)
  | 4 => ("SoManyStairsModel", "at", "I", false)
  | 5 => ("SoManyStairsModel", "size", "I", false)
  | 6 => ("SoManyStairsModel", "sort", "I", false)
  | 7 => ("SoManyStairsModel", "place", "I", false)
  | 8 => ("SoManyStairsModel", "number", "I", false)
  | 9 => ("SoManyStairsModel", "word", "J", false)
  | 10 => ("SoManyStairsModel", "nName", "[J", true)
  | 11 => ("SoManyStairsModel", "nStep", "[I", true)
  | 12 => ("SoManyStairsModel", "nArg", "[I", true)
  | 13 => ("SoManyStairsModel", "nMany", "[I", true)
  | 14 => ("SoManyStairsModel", "step", "[I", true)
  | 15 => ("SoManyStairsModel", "arg", "[I", true)
  | 16 => ("SoManyStairsModel", "steps", "[I", true)
  | 17 => ("SoManyStairsModel", "open", "[I", true)
  | 18 => ("SoManyStairsModel", "values", "[I", true)
  | 19 => ("SoManyStairsModel", "nHasForm", "[Z", true)
  | 20 => ("SoManyStairsModel", "form", "I", false)
  | 21 => ("SoManyStairsModel", "opens", "I", false)
  | 22 => ("SoManyStairsModel", "nUnits", "I", false)
  | 23 => ("SoManyStairsModel", "units", "I", false)
  | 24 => ("SoManyStairsModel", "ownUnits", "I", false)
  | 25 => ("SoManyStairsModel", "deep", "I", false)
  | 26 => ("SoManyStairsModel", "asks", "[I", true)
  | 27 => ("SoManyStairsModel", "nLives", "[I", true)
  | 28 => ("SoManyStairsModel", "nStrong", "[I", true)
  | 29 => ("SoManyStairsModel", "nHeavy", "[I", true)
  | 30 => ("SoManyStairsModel", "nOwes", "[I", true)
  | 31 => ("SoManyStairsModel", "nFails", "[I", true)
  | 32 => ("SoManyStairsModel", "lives", "[I", true)
  | 33 => ("SoManyStairsModel", "strong", "[I", true)
  | 34 => ("SoManyStairsModel", "heavy", "[I", true)
  | 35 => ("SoManyStairsModel", "owes", "[I", true)
  | 36 => ("SoManyStairsModel", "fails", "[I", true)
  | 37 => ("SoManyStairsModel", "nStoreys", "I", false)
  | 38 => ("SoManyStairsModel", "nLift", "I", false)
  | 39 => ("SoManyStairsModel", "nTenants", "I", false)
  | 40 => ("SoManyStairsModel", "nDraw", "I", false)
  | 41 => ("SoManyStairsModel", "storeys", "I", false)
  | 42 => ("SoManyStairsModel", "tenants", "I", false)
  | 43 => ("SoManyStairsModel", "nHasLine", "Z", false)
  | 44 => ("SoManyStairsModel", "nHasDraw", "Z", false)
  | 45 => ("SoManyStairsModel", "now", "[I", true)
  | 46 => ("SoManyStairsModel", "air", "[I", true)
  | 47 => ("SoManyStairsModel", "were", "[I", true)
  | 48 => ("SoManyStairsModel", "acts", "I", false)
  | 49 => ("SoManyStairsModel", "undone", "I", false)
  | 50 => ("SoManyStairsModel", "row", "[I", true)
  | 51 => ("SoManyStairsModel", "lies", "[I", true)
  | 52 => ("SoManyStairsModel", "lain", "I", false)
  | 53 => ("SoManyStairsModel", "many", "[I", true)
  | 54 => ("SoManyStairsModel", "cost", "[I", true)
  | 55 => ("SoManyStairsModel", "price", "[I", true)
  | 56 => ("SoManyStairsModel", "could", "[Z", true)
  | 57 => ("SoManyStairsModel", "home", "[I", true)
  | 58 => ("SoManyStairsModel", "behind", "[I", true)
  | 59 => ("SoManyStairsModel", "markSort", "[I", true)
  | 60 => ("SoManyStairsModel", "markOf", "[I", true)
  | 61 => ("SoManyStairsModel", "markTold", "[I", true)
  | 62 => ("SoManyStairsModel", "markUntold", "[I", true)
  | 63 => ("SoManyStairsModel", "markIs", "[Z", true)
  | 64 => ("SoManyStairsModel", "marks", "I", false)
  | 65 => ("SoManyStairsModel", "time", "I", false)
  | 66 => ("SoManyStairsModel", "tally", "[I", true)
  | 67 => ("SoManyStairsModel", "hasBox", "[Z", true)
  | _ => ("SoManyStairsModel", "boxes", "[I", true)
def tyX5 : Nat → FieldType := fun k => match k with
  | 0 => .array .int
  | 1 => .int
  | 2 => .int
  | 3 => .int
  | 4 => .int
  | 5 => .int
  | 6 => .int
  | 7 => .int
  | 8 => .int
  | 9 => .long
  | 10 => .array .long
  | 11 => .array .int
  | 12 => .array .int
  | 13 => .array .int
  | 14 => .array .int
  | 15 => .array .int
  | 16 => .array .int
  | 17 => .array .int
  | 18 => .array .int
  | 19 => .array .boolean
  | 20 => .int
  | 21 => .int
  | 22 => .int
  | 23 => .int
  | 24 => .int
  | 25 => .int
  | 26 => .array .int
  | 27 => .array .int
  | 28 => .array .int
  | 29 => .array .int
  | 30 => .array .int
  | 31 => .array .int
  | 32 => .array .int
  | 33 => .array .int
  | 34 => .array .int
  | 35 => .array .int
  | 36 => .array .int
  | 37 => .int
  | 38 => .int
  | 39 => .int
  | 40 => .int
  | 41 => .int
  | 42 => .int
  | 43 => .boolean
  | 44 => .boolean
  | 45 => .array .int
  | 46 => .array .int
  | 47 => .array .int
  | 48 => .int
  | 49 => .int
  | 50 => .array .int
  | 51 => .array .int
  | 52 => .int
  | 53 => .array .int
  | 54 => .array .int
  | 55 => .array .int
  | 56 => .array .boolean
  | 57 => .array .int
  | 58 => .array .int
  | 59 => .array .int
  | 60 => .array .int
  | 61 => .array .int
  | 62 => .array .int
  | 63 => .array .boolean
  | 64 => .int
  | 65 => .int
  | 66 => .array .int
  | 67 => .array .boolean
  | _ => .array .int
abbrev wsX50 : List Cond := u_ws RX5 TX5 69
set_option maxRecDepth 100000 in
theorem nmX5 : ∀ a, a < 69 → ∀ b, b < 69 → a ≠ b → (TX5 a).2.1 ≠ (TX5 b).2.1 := by decide +kernel
set_option maxRecDepth 100000 in
theorem tyX5_ok : ∀ k, k < 69 → parseFieldDescriptor (TX5 k).2.2.1 = some (tyX5 k) := by decide +kernel
abbrev cX5_init : ByteArray := prog_17_method_1_code
def yX5_init : MethodName := ⟨RX5, "<init>", "()V"⟩
def dkwX5_init_14 : List UInt8 := [181, 0, 133, 42, 6, 188, 4, 181, 0, 136, 42, 16, 84, 188, 10, 181, 0, 139, 177]
abbrev dktX5_init_14 : List UInt8 := dkwX5_init_14 ++ []
def dkwX5_init_13 : List UInt8 := [181, 0, 124, 42, 16, 30, 188, 10, 181, 0, 127, 42, 16, 30, 188, 4, 181, 0, 130, 42, 16, 21, 188, 10]
abbrev dktX5_init_13 : List UInt8 := dkwX5_init_13 ++ dktX5_init_14
def dkwX5_init_12 : List UInt8 := [181, 0, 115, 42, 16, 30, 188, 10, 181, 0, 118, 42, 16, 30, 188, 10, 181, 0, 121, 42, 16, 30, 188, 10]
abbrev dktX5_init_12 : List UInt8 := dkwX5_init_12 ++ dktX5_init_13
def dkwX5_init_11 : List UInt8 := [181, 0, 106, 42, 16, 64, 188, 4, 181, 0, 109, 42, 16, 8, 188, 10, 181, 0, 112, 42, 16, 41, 188, 10]
abbrev dktX5_init_11 : List UInt8 := dkwX5_init_11 ++ dktX5_init_12
def dkwX5_init_10 : List UInt8 := [42, 17, 9, 0, 188, 10, 181, 0, 100, 42, 17, 9, 0, 188, 10, 181, 0, 103, 42, 16, 8, 188, 10]
abbrev dktX5_init_10 : List UInt8 := dkwX5_init_10 ++ dktX5_init_11
def dkwX5_init_9 : List UInt8 := [17, 4, 96, 188, 10, 181, 0, 91, 42, 16, 8, 188, 10, 181, 0, 94, 42, 16, 8, 188, 10, 181, 0, 97]
abbrev dktX5_init_9 : List UInt8 := dkwX5_init_9 ++ dktX5_init_10
def dkwX5_init_8 : List UInt8 := [16, 9, 181, 0, 82, 42, 16, 28, 188, 10, 181, 0, 85, 42, 16, 28, 188, 10, 181, 0, 88, 42]
abbrev dktX5_init_8 : List UInt8 := dkwX5_init_8 ++ dktX5_init_9
def dkwX5_init_7 : List UInt8 := [16, 8, 188, 10, 181, 0, 73, 42, 16, 8, 188, 10, 181, 0, 76, 42, 16, 8, 188, 10, 181, 0, 79, 42]
abbrev dktX5_init_7 : List UInt8 := dkwX5_init_7 ++ dktX5_init_8
def dkwX5_init_6 : List UInt8 := [16, 8, 188, 10, 181, 0, 64, 42, 16, 8, 188, 10, 181, 0, 67, 42, 16, 8, 188, 10, 181, 0, 70, 42]
abbrev dktX5_init_6 : List UInt8 := dkwX5_init_6 ++ dktX5_init_7
def dkwX5_init_5 : List UInt8 := [16, 8, 188, 10, 181, 0, 55, 42, 16, 8, 188, 10, 181, 0, 58, 42, 16, 8, 188, 10, 181, 0, 61, 42]
abbrev dktX5_init_5 : List UInt8 := dkwX5_init_5 ++ dktX5_init_6
def dkwX5_init_4 : List UInt8 := [5, 188, 4, 181, 0, 45, 42, 16, 6, 188, 10, 181, 0, 49, 42, 16, 8, 188, 10, 181, 0, 52, 42]
abbrev dktX5_init_4 : List UInt8 := dkwX5_init_4 ++ dktX5_init_5
def dkwX5_init_3 : List UInt8 := [5, 188, 10, 181, 0, 36, 42, 17, 0, 160, 188, 10, 181, 0, 39, 42, 16, 64, 188, 10, 181, 0, 42, 42]
abbrev dktX5_init_3 : List UInt8 := dkwX5_init_3 ++ dktX5_init_4
def dkwX5_init_2 : List UInt8 := [188, 10, 181, 0, 27, 42, 17, 2, 128, 188, 10, 181, 0, 30, 42, 17, 2, 128, 188, 10, 181, 0, 33, 42]
abbrev dktX5_init_2 : List UInt8 := dkwX5_init_2 ++ dktX5_init_3
def dkwX5_init_1 : List UInt8 := [181, 0, 17, 42, 17, 2, 128, 188, 10, 181, 0, 21, 42, 17, 2, 128, 188, 10, 181, 0, 24, 42, 5]
abbrev dktX5_init_1 : List UInt8 := dkwX5_init_1 ++ dktX5_init_2
def dkwX5_init_0 : List UInt8 := [42, 183, 0, 1, 42, 17, 6, 64, 188, 10, 181, 0, 7, 42, 2, 181, 0, 13, 42, 16, 8, 188, 11]
abbrev dktX5_init_0 : List UInt8 := dkwX5_init_0 ++ dktX5_init_1
theorem dksX5_init_0 : cX5_init.data.toList.drop 0 = dktX5_init_0 := by decide +kernel
theorem dksX5_init_1 : cX5_init.data.toList.drop 23 = dktX5_init_1 := dk_seg dksX5_init_0 23 rfl rfl
theorem dksX5_init_2 : cX5_init.data.toList.drop 46 = dktX5_init_2 := dk_seg dksX5_init_1 23 rfl rfl
theorem dksX5_init_3 : cX5_init.data.toList.drop 70 = dktX5_init_3 := dk_seg dksX5_init_2 24 rfl rfl
theorem dksX5_init_4 : cX5_init.data.toList.drop 94 = dktX5_init_4 := dk_seg dksX5_init_3 24 rfl rfl
theorem dksX5_init_5 : cX5_init.data.toList.drop 117 = dktX5_init_5 := dk_seg dksX5_init_4 23 rfl rfl
theorem dksX5_init_6 : cX5_init.data.toList.drop 141 = dktX5_init_6 := dk_seg dksX5_init_5 24 rfl rfl
theorem dksX5_init_7 : cX5_init.data.toList.drop 165 = dktX5_init_7 := dk_seg dksX5_init_6 24 rfl rfl
theorem dksX5_init_8 : cX5_init.data.toList.drop 189 = dktX5_init_8 := dk_seg dksX5_init_7 24 rfl rfl
theorem dksX5_init_9 : cX5_init.data.toList.drop 211 = dktX5_init_9 := dk_seg dksX5_init_8 22 rfl rfl
theorem dksX5_init_10 : cX5_init.data.toList.drop 235 = dktX5_init_10 := dk_seg dksX5_init_9 24 rfl rfl
theorem dksX5_init_11 : cX5_init.data.toList.drop 258 = dktX5_init_11 := dk_seg dksX5_init_10 23 rfl rfl
theorem dksX5_init_12 : cX5_init.data.toList.drop 282 = dktX5_init_12 := dk_seg dksX5_init_11 24 rfl rfl
theorem dksX5_init_13 : cX5_init.data.toList.drop 306 = dktX5_init_13 := dk_seg dksX5_init_12 24 rfl rfl
theorem dksX5_init_14 : cX5_init.data.toList.drop 330 = dktX5_init_14 := dk_seg dksX5_init_13 24 rfl rfl
theorem dX5_init_0 : decode cX5_init 0 = .ok (.aload_n 0, 1) := dk_42 (dk_at dksX5_init_0 0 rfl rfl)
theorem dX5_init_1 : decode cX5_init 1 = .ok (.invokespecial 1, 3) := dk_183 0 1 (dk_at dksX5_init_0 1 rfl rfl)
theorem dX5_init_4 : decode cX5_init 4 = .ok (.aload_n 0, 1) := dk_42 (dk_at dksX5_init_0 4 rfl rfl)
theorem dX5_init_5 : decode cX5_init 5 = .ok (.sipush 1600, 3) := dk_17 6 64 (dk_at dksX5_init_0 5 rfl rfl)
theorem dX5_init_8 : decode cX5_init 8 = .ok (.newarray .int, 2) := dk_188_10 (dk_at dksX5_init_0 8 rfl rfl)
theorem dX5_init_10 : decode cX5_init 10 = .ok (.putfield 7, 3) := dk_181 0 7 (dk_at dksX5_init_0 10 rfl rfl)
theorem dX5_init_13 : decode cX5_init 13 = .ok (.aload_n 0, 1) := dk_42 (dk_at dksX5_init_0 13 rfl rfl)
theorem dX5_init_14 : decode cX5_init 14 = .ok (.iconst (-1), 1) := dk_2 (dk_at dksX5_init_0 14 rfl rfl)
theorem dX5_init_15 : decode cX5_init 15 = .ok (.putfield 13, 3) := dk_181 0 13 (dk_at dksX5_init_0 15 rfl rfl)
theorem dX5_init_18 : decode cX5_init 18 = .ok (.aload_n 0, 1) := dk_42 (dk_at dksX5_init_0 18 rfl rfl)
theorem dX5_init_19 : decode cX5_init 19 = .ok (.bipush 8, 2) := dk_16 8 (dk_at dksX5_init_0 19 rfl rfl)
theorem dX5_init_21 : decode cX5_init 21 = .ok (.newarray .long, 2) := dk_188_11 (dk_at dksX5_init_0 21 rfl rfl)
theorem dX5_init_23 : decode cX5_init 23 = .ok (.putfield 17, 3) := dk_181 0 17 (dk_at dksX5_init_1 0 rfl rfl)
theorem dX5_init_26 : decode cX5_init 26 = .ok (.aload_n 0, 1) := dk_42 (dk_at dksX5_init_1 3 rfl rfl)
theorem dX5_init_27 : decode cX5_init 27 = .ok (.sipush 640, 3) := dk_17 2 128 (dk_at dksX5_init_1 4 rfl rfl)
theorem dX5_init_30 : decode cX5_init 30 = .ok (.newarray .int, 2) := dk_188_10 (dk_at dksX5_init_1 7 rfl rfl)
theorem dX5_init_32 : decode cX5_init 32 = .ok (.putfield 21, 3) := dk_181 0 21 (dk_at dksX5_init_1 9 rfl rfl)
theorem dX5_init_35 : decode cX5_init 35 = .ok (.aload_n 0, 1) := dk_42 (dk_at dksX5_init_1 12 rfl rfl)
theorem dX5_init_36 : decode cX5_init 36 = .ok (.sipush 640, 3) := dk_17 2 128 (dk_at dksX5_init_1 13 rfl rfl)
theorem dX5_init_39 : decode cX5_init 39 = .ok (.newarray .int, 2) := dk_188_10 (dk_at dksX5_init_1 16 rfl rfl)
theorem dX5_init_41 : decode cX5_init 41 = .ok (.putfield 24, 3) := dk_181 0 24 (dk_at dksX5_init_1 18 rfl rfl)
theorem dX5_init_44 : decode cX5_init 44 = .ok (.aload_n 0, 1) := dk_42 (dk_at dksX5_init_1 21 rfl rfl)
theorem dX5_init_45 : decode cX5_init 45 = .ok (.iconst 2, 1) := dk_5 (dk_at dksX5_init_1 22 rfl rfl)
theorem dX5_init_46 : decode cX5_init 46 = .ok (.newarray .int, 2) := dk_188_10 (dk_at dksX5_init_2 0 rfl rfl)
theorem dX5_init_48 : decode cX5_init 48 = .ok (.putfield 27, 3) := dk_181 0 27 (dk_at dksX5_init_2 2 rfl rfl)
theorem dX5_init_51 : decode cX5_init 51 = .ok (.aload_n 0, 1) := dk_42 (dk_at dksX5_init_2 5 rfl rfl)
theorem dX5_init_52 : decode cX5_init 52 = .ok (.sipush 640, 3) := dk_17 2 128 (dk_at dksX5_init_2 6 rfl rfl)
theorem dX5_init_55 : decode cX5_init 55 = .ok (.newarray .int, 2) := dk_188_10 (dk_at dksX5_init_2 9 rfl rfl)
theorem dX5_init_57 : decode cX5_init 57 = .ok (.putfield 30, 3) := dk_181 0 30 (dk_at dksX5_init_2 11 rfl rfl)
theorem dX5_init_60 : decode cX5_init 60 = .ok (.aload_n 0, 1) := dk_42 (dk_at dksX5_init_2 14 rfl rfl)
theorem dX5_init_61 : decode cX5_init 61 = .ok (.sipush 640, 3) := dk_17 2 128 (dk_at dksX5_init_2 15 rfl rfl)
theorem dX5_init_64 : decode cX5_init 64 = .ok (.newarray .int, 2) := dk_188_10 (dk_at dksX5_init_2 18 rfl rfl)
theorem dX5_init_66 : decode cX5_init 66 = .ok (.putfield 33, 3) := dk_181 0 33 (dk_at dksX5_init_2 20 rfl rfl)
theorem dX5_init_69 : decode cX5_init 69 = .ok (.aload_n 0, 1) := dk_42 (dk_at dksX5_init_2 23 rfl rfl)
theorem dX5_init_70 : decode cX5_init 70 = .ok (.iconst 2, 1) := dk_5 (dk_at dksX5_init_3 0 rfl rfl)
theorem dX5_init_71 : decode cX5_init 71 = .ok (.newarray .int, 2) := dk_188_10 (dk_at dksX5_init_3 1 rfl rfl)
theorem dX5_init_73 : decode cX5_init 73 = .ok (.putfield 36, 3) := dk_181 0 36 (dk_at dksX5_init_3 3 rfl rfl)
theorem dX5_init_76 : decode cX5_init 76 = .ok (.aload_n 0, 1) := dk_42 (dk_at dksX5_init_3 6 rfl rfl)
theorem dX5_init_77 : decode cX5_init 77 = .ok (.sipush 160, 3) := dk_17 0 160 (dk_at dksX5_init_3 7 rfl rfl)
theorem dX5_init_80 : decode cX5_init 80 = .ok (.newarray .int, 2) := dk_188_10 (dk_at dksX5_init_3 10 rfl rfl)
theorem dX5_init_82 : decode cX5_init 82 = .ok (.putfield 39, 3) := dk_181 0 39 (dk_at dksX5_init_3 12 rfl rfl)
theorem dX5_init_85 : decode cX5_init 85 = .ok (.aload_n 0, 1) := dk_42 (dk_at dksX5_init_3 15 rfl rfl)
theorem dX5_init_86 : decode cX5_init 86 = .ok (.bipush 64, 2) := dk_16 64 (dk_at dksX5_init_3 16 rfl rfl)
theorem dX5_init_88 : decode cX5_init 88 = .ok (.newarray .int, 2) := dk_188_10 (dk_at dksX5_init_3 18 rfl rfl)
theorem dX5_init_90 : decode cX5_init 90 = .ok (.putfield 42, 3) := dk_181 0 42 (dk_at dksX5_init_3 20 rfl rfl)
theorem dX5_init_93 : decode cX5_init 93 = .ok (.aload_n 0, 1) := dk_42 (dk_at dksX5_init_3 23 rfl rfl)
theorem dX5_init_94 : decode cX5_init 94 = .ok (.iconst 2, 1) := dk_5 (dk_at dksX5_init_4 0 rfl rfl)
theorem dX5_init_95 : decode cX5_init 95 = .ok (.newarray .boolean, 2) := dk_188_4 (dk_at dksX5_init_4 1 rfl rfl)
theorem dX5_init_97 : decode cX5_init 97 = .ok (.putfield 45, 3) := dk_181 0 45 (dk_at dksX5_init_4 3 rfl rfl)
theorem dX5_init_100 : decode cX5_init 100 = .ok (.aload_n 0, 1) := dk_42 (dk_at dksX5_init_4 6 rfl rfl)
theorem dX5_init_101 : decode cX5_init 101 = .ok (.bipush 6, 2) := dk_16 6 (dk_at dksX5_init_4 7 rfl rfl)
theorem dX5_init_103 : decode cX5_init 103 = .ok (.newarray .int, 2) := dk_188_10 (dk_at dksX5_init_4 9 rfl rfl)
theorem dX5_init_105 : decode cX5_init 105 = .ok (.putfield 49, 3) := dk_181 0 49 (dk_at dksX5_init_4 11 rfl rfl)
theorem dX5_init_108 : decode cX5_init 108 = .ok (.aload_n 0, 1) := dk_42 (dk_at dksX5_init_4 14 rfl rfl)
theorem dX5_init_109 : decode cX5_init 109 = .ok (.bipush 8, 2) := dk_16 8 (dk_at dksX5_init_4 15 rfl rfl)
theorem dX5_init_111 : decode cX5_init 111 = .ok (.newarray .int, 2) := dk_188_10 (dk_at dksX5_init_4 17 rfl rfl)
theorem dX5_init_113 : decode cX5_init 113 = .ok (.putfield 52, 3) := dk_181 0 52 (dk_at dksX5_init_4 19 rfl rfl)
theorem dX5_init_116 : decode cX5_init 116 = .ok (.aload_n 0, 1) := dk_42 (dk_at dksX5_init_4 22 rfl rfl)
theorem dX5_init_117 : decode cX5_init 117 = .ok (.bipush 8, 2) := dk_16 8 (dk_at dksX5_init_5 0 rfl rfl)
theorem dX5_init_119 : decode cX5_init 119 = .ok (.newarray .int, 2) := dk_188_10 (dk_at dksX5_init_5 2 rfl rfl)
theorem dX5_init_121 : decode cX5_init 121 = .ok (.putfield 55, 3) := dk_181 0 55 (dk_at dksX5_init_5 4 rfl rfl)
theorem dX5_init_124 : decode cX5_init 124 = .ok (.aload_n 0, 1) := dk_42 (dk_at dksX5_init_5 7 rfl rfl)
theorem dX5_init_125 : decode cX5_init 125 = .ok (.bipush 8, 2) := dk_16 8 (dk_at dksX5_init_5 8 rfl rfl)
theorem dX5_init_127 : decode cX5_init 127 = .ok (.newarray .int, 2) := dk_188_10 (dk_at dksX5_init_5 10 rfl rfl)
theorem dX5_init_129 : decode cX5_init 129 = .ok (.putfield 58, 3) := dk_181 0 58 (dk_at dksX5_init_5 12 rfl rfl)
theorem dX5_init_132 : decode cX5_init 132 = .ok (.aload_n 0, 1) := dk_42 (dk_at dksX5_init_5 15 rfl rfl)
theorem dX5_init_133 : decode cX5_init 133 = .ok (.bipush 8, 2) := dk_16 8 (dk_at dksX5_init_5 16 rfl rfl)
theorem dX5_init_135 : decode cX5_init 135 = .ok (.newarray .int, 2) := dk_188_10 (dk_at dksX5_init_5 18 rfl rfl)
theorem dX5_init_137 : decode cX5_init 137 = .ok (.putfield 61, 3) := dk_181 0 61 (dk_at dksX5_init_5 20 rfl rfl)
theorem dX5_init_140 : decode cX5_init 140 = .ok (.aload_n 0, 1) := dk_42 (dk_at dksX5_init_5 23 rfl rfl)
theorem dX5_init_141 : decode cX5_init 141 = .ok (.bipush 8, 2) := dk_16 8 (dk_at dksX5_init_6 0 rfl rfl)
theorem dX5_init_143 : decode cX5_init 143 = .ok (.newarray .int, 2) := dk_188_10 (dk_at dksX5_init_6 2 rfl rfl)
theorem dX5_init_145 : decode cX5_init 145 = .ok (.putfield 64, 3) := dk_181 0 64 (dk_at dksX5_init_6 4 rfl rfl)
theorem dX5_init_148 : decode cX5_init 148 = .ok (.aload_n 0, 1) := dk_42 (dk_at dksX5_init_6 7 rfl rfl)
theorem dX5_init_149 : decode cX5_init 149 = .ok (.bipush 8, 2) := dk_16 8 (dk_at dksX5_init_6 8 rfl rfl)
theorem dX5_init_151 : decode cX5_init 151 = .ok (.newarray .int, 2) := dk_188_10 (dk_at dksX5_init_6 10 rfl rfl)
theorem dX5_init_153 : decode cX5_init 153 = .ok (.putfield 67, 3) := dk_181 0 67 (dk_at dksX5_init_6 12 rfl rfl)
theorem dX5_init_156 : decode cX5_init 156 = .ok (.aload_n 0, 1) := dk_42 (dk_at dksX5_init_6 15 rfl rfl)
theorem dX5_init_157 : decode cX5_init 157 = .ok (.bipush 8, 2) := dk_16 8 (dk_at dksX5_init_6 16 rfl rfl)
theorem dX5_init_159 : decode cX5_init 159 = .ok (.newarray .int, 2) := dk_188_10 (dk_at dksX5_init_6 18 rfl rfl)
theorem dX5_init_161 : decode cX5_init 161 = .ok (.putfield 70, 3) := dk_181 0 70 (dk_at dksX5_init_6 20 rfl rfl)
theorem dX5_init_164 : decode cX5_init 164 = .ok (.aload_n 0, 1) := dk_42 (dk_at dksX5_init_6 23 rfl rfl)
theorem dX5_init_165 : decode cX5_init 165 = .ok (.bipush 8, 2) := dk_16 8 (dk_at dksX5_init_7 0 rfl rfl)
theorem dX5_init_167 : decode cX5_init 167 = .ok (.newarray .int, 2) := dk_188_10 (dk_at dksX5_init_7 2 rfl rfl)
theorem dX5_init_169 : decode cX5_init 169 = .ok (.putfield 73, 3) := dk_181 0 73 (dk_at dksX5_init_7 4 rfl rfl)
theorem dX5_init_172 : decode cX5_init 172 = .ok (.aload_n 0, 1) := dk_42 (dk_at dksX5_init_7 7 rfl rfl)
theorem dX5_init_173 : decode cX5_init 173 = .ok (.bipush 8, 2) := dk_16 8 (dk_at dksX5_init_7 8 rfl rfl)
theorem dX5_init_175 : decode cX5_init 175 = .ok (.newarray .int, 2) := dk_188_10 (dk_at dksX5_init_7 10 rfl rfl)
theorem dX5_init_177 : decode cX5_init 177 = .ok (.putfield 76, 3) := dk_181 0 76 (dk_at dksX5_init_7 12 rfl rfl)
theorem dX5_init_180 : decode cX5_init 180 = .ok (.aload_n 0, 1) := dk_42 (dk_at dksX5_init_7 15 rfl rfl)
theorem dX5_init_181 : decode cX5_init 181 = .ok (.bipush 8, 2) := dk_16 8 (dk_at dksX5_init_7 16 rfl rfl)
theorem dX5_init_183 : decode cX5_init 183 = .ok (.newarray .int, 2) := dk_188_10 (dk_at dksX5_init_7 18 rfl rfl)
theorem dX5_init_185 : decode cX5_init 185 = .ok (.putfield 79, 3) := dk_181 0 79 (dk_at dksX5_init_7 20 rfl rfl)
theorem dX5_init_188 : decode cX5_init 188 = .ok (.aload_n 0, 1) := dk_42 (dk_at dksX5_init_7 23 rfl rfl)
theorem dX5_init_189 : decode cX5_init 189 = .ok (.bipush 9, 2) := dk_16 9 (dk_at dksX5_init_8 0 rfl rfl)
theorem dX5_init_191 : decode cX5_init 191 = .ok (.putfield 82, 3) := dk_181 0 82 (dk_at dksX5_init_8 2 rfl rfl)
theorem dX5_init_194 : decode cX5_init 194 = .ok (.aload_n 0, 1) := dk_42 (dk_at dksX5_init_8 5 rfl rfl)
theorem dX5_init_195 : decode cX5_init 195 = .ok (.bipush 28, 2) := dk_16 28 (dk_at dksX5_init_8 6 rfl rfl)
theorem dX5_init_197 : decode cX5_init 197 = .ok (.newarray .int, 2) := dk_188_10 (dk_at dksX5_init_8 8 rfl rfl)
theorem dX5_init_199 : decode cX5_init 199 = .ok (.putfield 85, 3) := dk_181 0 85 (dk_at dksX5_init_8 10 rfl rfl)
theorem dX5_init_202 : decode cX5_init 202 = .ok (.aload_n 0, 1) := dk_42 (dk_at dksX5_init_8 13 rfl rfl)
theorem dX5_init_203 : decode cX5_init 203 = .ok (.bipush 28, 2) := dk_16 28 (dk_at dksX5_init_8 14 rfl rfl)
theorem dX5_init_205 : decode cX5_init 205 = .ok (.newarray .int, 2) := dk_188_10 (dk_at dksX5_init_8 16 rfl rfl)
theorem dX5_init_207 : decode cX5_init 207 = .ok (.putfield 88, 3) := dk_181 0 88 (dk_at dksX5_init_8 18 rfl rfl)
theorem dX5_init_210 : decode cX5_init 210 = .ok (.aload_n 0, 1) := dk_42 (dk_at dksX5_init_8 21 rfl rfl)
theorem dX5_init_211 : decode cX5_init 211 = .ok (.sipush 1120, 3) := dk_17 4 96 (dk_at dksX5_init_9 0 rfl rfl)
theorem dX5_init_214 : decode cX5_init 214 = .ok (.newarray .int, 2) := dk_188_10 (dk_at dksX5_init_9 3 rfl rfl)
theorem dX5_init_216 : decode cX5_init 216 = .ok (.putfield 91, 3) := dk_181 0 91 (dk_at dksX5_init_9 5 rfl rfl)
theorem dX5_init_219 : decode cX5_init 219 = .ok (.aload_n 0, 1) := dk_42 (dk_at dksX5_init_9 8 rfl rfl)
theorem dX5_init_220 : decode cX5_init 220 = .ok (.bipush 8, 2) := dk_16 8 (dk_at dksX5_init_9 9 rfl rfl)
theorem dX5_init_222 : decode cX5_init 222 = .ok (.newarray .int, 2) := dk_188_10 (dk_at dksX5_init_9 11 rfl rfl)
theorem dX5_init_224 : decode cX5_init 224 = .ok (.putfield 94, 3) := dk_181 0 94 (dk_at dksX5_init_9 13 rfl rfl)
theorem dX5_init_227 : decode cX5_init 227 = .ok (.aload_n 0, 1) := dk_42 (dk_at dksX5_init_9 16 rfl rfl)
theorem dX5_init_228 : decode cX5_init 228 = .ok (.bipush 8, 2) := dk_16 8 (dk_at dksX5_init_9 17 rfl rfl)
theorem dX5_init_230 : decode cX5_init 230 = .ok (.newarray .int, 2) := dk_188_10 (dk_at dksX5_init_9 19 rfl rfl)
theorem dX5_init_232 : decode cX5_init 232 = .ok (.putfield 97, 3) := dk_181 0 97 (dk_at dksX5_init_9 21 rfl rfl)
theorem dX5_init_235 : decode cX5_init 235 = .ok (.aload_n 0, 1) := dk_42 (dk_at dksX5_init_10 0 rfl rfl)
theorem dX5_init_236 : decode cX5_init 236 = .ok (.sipush 2304, 3) := dk_17 9 0 (dk_at dksX5_init_10 1 rfl rfl)
theorem dX5_init_239 : decode cX5_init 239 = .ok (.newarray .int, 2) := dk_188_10 (dk_at dksX5_init_10 4 rfl rfl)
theorem dX5_init_241 : decode cX5_init 241 = .ok (.putfield 100, 3) := dk_181 0 100 (dk_at dksX5_init_10 6 rfl rfl)
theorem dX5_init_244 : decode cX5_init 244 = .ok (.aload_n 0, 1) := dk_42 (dk_at dksX5_init_10 9 rfl rfl)
theorem dX5_init_245 : decode cX5_init 245 = .ok (.sipush 2304, 3) := dk_17 9 0 (dk_at dksX5_init_10 10 rfl rfl)
theorem dX5_init_248 : decode cX5_init 248 = .ok (.newarray .int, 2) := dk_188_10 (dk_at dksX5_init_10 13 rfl rfl)
theorem dX5_init_250 : decode cX5_init 250 = .ok (.putfield 103, 3) := dk_181 0 103 (dk_at dksX5_init_10 15 rfl rfl)
theorem dX5_init_253 : decode cX5_init 253 = .ok (.aload_n 0, 1) := dk_42 (dk_at dksX5_init_10 18 rfl rfl)
theorem dX5_init_254 : decode cX5_init 254 = .ok (.bipush 8, 2) := dk_16 8 (dk_at dksX5_init_10 19 rfl rfl)
theorem dX5_init_256 : decode cX5_init 256 = .ok (.newarray .int, 2) := dk_188_10 (dk_at dksX5_init_10 21 rfl rfl)
theorem dX5_init_258 : decode cX5_init 258 = .ok (.putfield 106, 3) := dk_181 0 106 (dk_at dksX5_init_11 0 rfl rfl)
theorem dX5_init_261 : decode cX5_init 261 = .ok (.aload_n 0, 1) := dk_42 (dk_at dksX5_init_11 3 rfl rfl)
theorem dX5_init_262 : decode cX5_init 262 = .ok (.bipush 64, 2) := dk_16 64 (dk_at dksX5_init_11 4 rfl rfl)
theorem dX5_init_264 : decode cX5_init 264 = .ok (.newarray .boolean, 2) := dk_188_4 (dk_at dksX5_init_11 6 rfl rfl)
theorem dX5_init_266 : decode cX5_init 266 = .ok (.putfield 109, 3) := dk_181 0 109 (dk_at dksX5_init_11 8 rfl rfl)
theorem dX5_init_269 : decode cX5_init 269 = .ok (.aload_n 0, 1) := dk_42 (dk_at dksX5_init_11 11 rfl rfl)
theorem dX5_init_270 : decode cX5_init 270 = .ok (.bipush 8, 2) := dk_16 8 (dk_at dksX5_init_11 12 rfl rfl)
theorem dX5_init_272 : decode cX5_init 272 = .ok (.newarray .int, 2) := dk_188_10 (dk_at dksX5_init_11 14 rfl rfl)
theorem dX5_init_274 : decode cX5_init 274 = .ok (.putfield 112, 3) := dk_181 0 112 (dk_at dksX5_init_11 16 rfl rfl)
theorem dX5_init_277 : decode cX5_init 277 = .ok (.aload_n 0, 1) := dk_42 (dk_at dksX5_init_11 19 rfl rfl)
theorem dX5_init_278 : decode cX5_init 278 = .ok (.bipush 41, 2) := dk_16 41 (dk_at dksX5_init_11 20 rfl rfl)
theorem dX5_init_280 : decode cX5_init 280 = .ok (.newarray .int, 2) := dk_188_10 (dk_at dksX5_init_11 22 rfl rfl)
theorem dX5_init_282 : decode cX5_init 282 = .ok (.putfield 115, 3) := dk_181 0 115 (dk_at dksX5_init_12 0 rfl rfl)
theorem dX5_init_285 : decode cX5_init 285 = .ok (.aload_n 0, 1) := dk_42 (dk_at dksX5_init_12 3 rfl rfl)
theorem dX5_init_286 : decode cX5_init 286 = .ok (.bipush 30, 2) := dk_16 30 (dk_at dksX5_init_12 4 rfl rfl)
theorem dX5_init_288 : decode cX5_init 288 = .ok (.newarray .int, 2) := dk_188_10 (dk_at dksX5_init_12 6 rfl rfl)
theorem dX5_init_290 : decode cX5_init 290 = .ok (.putfield 118, 3) := dk_181 0 118 (dk_at dksX5_init_12 8 rfl rfl)
theorem dX5_init_293 : decode cX5_init 293 = .ok (.aload_n 0, 1) := dk_42 (dk_at dksX5_init_12 11 rfl rfl)
theorem dX5_init_294 : decode cX5_init 294 = .ok (.bipush 30, 2) := dk_16 30 (dk_at dksX5_init_12 12 rfl rfl)
theorem dX5_init_296 : decode cX5_init 296 = .ok (.newarray .int, 2) := dk_188_10 (dk_at dksX5_init_12 14 rfl rfl)
theorem dX5_init_298 : decode cX5_init 298 = .ok (.putfield 121, 3) := dk_181 0 121 (dk_at dksX5_init_12 16 rfl rfl)
theorem dX5_init_301 : decode cX5_init 301 = .ok (.aload_n 0, 1) := dk_42 (dk_at dksX5_init_12 19 rfl rfl)
theorem dX5_init_302 : decode cX5_init 302 = .ok (.bipush 30, 2) := dk_16 30 (dk_at dksX5_init_12 20 rfl rfl)
theorem dX5_init_304 : decode cX5_init 304 = .ok (.newarray .int, 2) := dk_188_10 (dk_at dksX5_init_12 22 rfl rfl)
theorem dX5_init_306 : decode cX5_init 306 = .ok (.putfield 124, 3) := dk_181 0 124 (dk_at dksX5_init_13 0 rfl rfl)
theorem dX5_init_309 : decode cX5_init 309 = .ok (.aload_n 0, 1) := dk_42 (dk_at dksX5_init_13 3 rfl rfl)
theorem dX5_init_310 : decode cX5_init 310 = .ok (.bipush 30, 2) := dk_16 30 (dk_at dksX5_init_13 4 rfl rfl)
theorem dX5_init_312 : decode cX5_init 312 = .ok (.newarray .int, 2) := dk_188_10 (dk_at dksX5_init_13 6 rfl rfl)
theorem dX5_init_314 : decode cX5_init 314 = .ok (.putfield 127, 3) := dk_181 0 127 (dk_at dksX5_init_13 8 rfl rfl)
theorem dX5_init_317 : decode cX5_init 317 = .ok (.aload_n 0, 1) := dk_42 (dk_at dksX5_init_13 11 rfl rfl)
theorem dX5_init_318 : decode cX5_init 318 = .ok (.bipush 30, 2) := dk_16 30 (dk_at dksX5_init_13 12 rfl rfl)
theorem dX5_init_320 : decode cX5_init 320 = .ok (.newarray .boolean, 2) := dk_188_4 (dk_at dksX5_init_13 14 rfl rfl)
theorem dX5_init_322 : decode cX5_init 322 = .ok (.putfield 130, 3) := dk_181 0 130 (dk_at dksX5_init_13 16 rfl rfl)
theorem dX5_init_325 : decode cX5_init 325 = .ok (.aload_n 0, 1) := dk_42 (dk_at dksX5_init_13 19 rfl rfl)
theorem dX5_init_326 : decode cX5_init 326 = .ok (.bipush 21, 2) := dk_16 21 (dk_at dksX5_init_13 20 rfl rfl)
theorem dX5_init_328 : decode cX5_init 328 = .ok (.newarray .int, 2) := dk_188_10 (dk_at dksX5_init_13 22 rfl rfl)
theorem dX5_init_330 : decode cX5_init 330 = .ok (.putfield 133, 3) := dk_181 0 133 (dk_at dksX5_init_14 0 rfl rfl)
theorem dX5_init_333 : decode cX5_init 333 = .ok (.aload_n 0, 1) := dk_42 (dk_at dksX5_init_14 3 rfl rfl)
theorem dX5_init_334 : decode cX5_init 334 = .ok (.iconst 3, 1) := dk_6 (dk_at dksX5_init_14 4 rfl rfl)
theorem dX5_init_335 : decode cX5_init 335 = .ok (.newarray .boolean, 2) := dk_188_4 (dk_at dksX5_init_14 5 rfl rfl)
theorem dX5_init_337 : decode cX5_init 337 = .ok (.putfield 136, 3) := dk_181 0 136 (dk_at dksX5_init_14 7 rfl rfl)
theorem dX5_init_340 : decode cX5_init 340 = .ok (.aload_n 0, 1) := dk_42 (dk_at dksX5_init_14 10 rfl rfl)
theorem dX5_init_341 : decode cX5_init 341 = .ok (.bipush 84, 2) := dk_16 84 (dk_at dksX5_init_14 11 rfl rfl)
theorem dX5_init_343 : decode cX5_init 343 = .ok (.newarray .int, 2) := dk_188_10 (dk_at dksX5_init_14 13 rfl rfl)
theorem dX5_init_345 : decode cX5_init 345 = .ok (.putfield 139, 3) := dk_181 0 139 (dk_at dksX5_init_14 15 rfl rfl)
theorem dX5_init_348 : decode cX5_init 348 = .ok (.return_, 1) := dk_177 (dk_at dksX5_init_14 18 rfl rfl)
abbrev cX5_feed : ByteArray := prog_17_method_2_code
def yX5_feed : MethodName := ⟨RX5, "feed", "(IIIII)I"⟩
def dkwX5_feed_2 : List UInt8 := [172]
abbrev dktX5_feed_2 : List UInt8 := dkwX5_feed_2 ++ []
def dkwX5_feed_1 : List UInt8 := [182, 0, 145, 42, 29, 182, 0, 145, 42, 21, 4, 182, 0, 145, 42, 21, 5, 182, 0, 145, 42, 180, 0, 142]
abbrev dktX5_feed_1 : List UInt8 := dkwX5_feed_1 ++ dktX5_feed_2
def dkwX5_feed_0 : List UInt8 := [42, 180, 0, 142, 16, 20, 96, 17, 6, 64, 164, 0, 5, 2, 172, 42, 27, 182, 0, 145, 42, 28]
abbrev dktX5_feed_0 : List UInt8 := dkwX5_feed_0 ++ dktX5_feed_1
theorem dksX5_feed_0 : cX5_feed.data.toList.drop 0 = dktX5_feed_0 := by decide +kernel
theorem dksX5_feed_1 : cX5_feed.data.toList.drop 22 = dktX5_feed_1 := dk_seg dksX5_feed_0 22 rfl rfl
theorem dksX5_feed_2 : cX5_feed.data.toList.drop 46 = dktX5_feed_2 := dk_seg dksX5_feed_1 24 rfl rfl
theorem dX5_feed_0 : decode cX5_feed 0 = .ok (.aload_n 0, 1) := dk_42 (dk_at dksX5_feed_0 0 rfl rfl)
theorem dX5_feed_1 : decode cX5_feed 1 = .ok (.getfield 142, 3) := dk_180 0 142 (dk_at dksX5_feed_0 1 rfl rfl)
theorem dX5_feed_4 : decode cX5_feed 4 = .ok (.bipush 20, 2) := dk_16 20 (dk_at dksX5_feed_0 4 rfl rfl)
theorem dX5_feed_6 : decode cX5_feed 6 = .ok (.iadd, 1) := dk_96 (dk_at dksX5_feed_0 6 rfl rfl)
theorem dX5_feed_7 : decode cX5_feed 7 = .ok (.sipush 1600, 3) := dk_17 6 64 (dk_at dksX5_feed_0 7 rfl rfl)
theorem dX5_feed_10 : decode cX5_feed 10 = .ok (.if_icmp .le 5, 3) := dk_164 0 5 (dk_at dksX5_feed_0 10 rfl rfl)
theorem dX5_feed_13 : decode cX5_feed 13 = .ok (.iconst (-1), 1) := dk_2 (dk_at dksX5_feed_0 13 rfl rfl)
theorem dX5_feed_14 : decode cX5_feed 14 = .ok (.ireturn, 1) := dk_172 (dk_at dksX5_feed_0 14 rfl rfl)
theorem dX5_feed_15 : decode cX5_feed 15 = .ok (.aload_n 0, 1) := dk_42 (dk_at dksX5_feed_0 15 rfl rfl)
theorem dX5_feed_16 : decode cX5_feed 16 = .ok (.iload_n 1, 1) := dk_27 (dk_at dksX5_feed_0 16 rfl rfl)
theorem dX5_feed_17 : decode cX5_feed 17 = .ok (.invokevirtual 145, 3) := dk_182 0 145 (dk_at dksX5_feed_0 17 rfl rfl)
theorem dX5_feed_20 : decode cX5_feed 20 = .ok (.aload_n 0, 1) := dk_42 (dk_at dksX5_feed_0 20 rfl rfl)
theorem dX5_feed_21 : decode cX5_feed 21 = .ok (.iload_n 2, 1) := dk_28 (dk_at dksX5_feed_0 21 rfl rfl)
theorem dX5_feed_22 : decode cX5_feed 22 = .ok (.invokevirtual 145, 3) := dk_182 0 145 (dk_at dksX5_feed_1 0 rfl rfl)
theorem dX5_feed_25 : decode cX5_feed 25 = .ok (.aload_n 0, 1) := dk_42 (dk_at dksX5_feed_1 3 rfl rfl)
theorem dX5_feed_26 : decode cX5_feed 26 = .ok (.iload_n 3, 1) := dk_29 (dk_at dksX5_feed_1 4 rfl rfl)
theorem dX5_feed_27 : decode cX5_feed 27 = .ok (.invokevirtual 145, 3) := dk_182 0 145 (dk_at dksX5_feed_1 5 rfl rfl)
theorem dX5_feed_30 : decode cX5_feed 30 = .ok (.aload_n 0, 1) := dk_42 (dk_at dksX5_feed_1 8 rfl rfl)
theorem dX5_feed_31 : decode cX5_feed 31 = .ok (.iload 4, 2) := dk_21 4 (dk_at dksX5_feed_1 9 rfl rfl)
theorem dX5_feed_33 : decode cX5_feed 33 = .ok (.invokevirtual 145, 3) := dk_182 0 145 (dk_at dksX5_feed_1 11 rfl rfl)
theorem dX5_feed_36 : decode cX5_feed 36 = .ok (.aload_n 0, 1) := dk_42 (dk_at dksX5_feed_1 14 rfl rfl)
theorem dX5_feed_37 : decode cX5_feed 37 = .ok (.iload 5, 2) := dk_21 5 (dk_at dksX5_feed_1 15 rfl rfl)
theorem dX5_feed_39 : decode cX5_feed 39 = .ok (.invokevirtual 145, 3) := dk_182 0 145 (dk_at dksX5_feed_1 17 rfl rfl)
theorem dX5_feed_42 : decode cX5_feed 42 = .ok (.aload_n 0, 1) := dk_42 (dk_at dksX5_feed_1 20 rfl rfl)
theorem dX5_feed_43 : decode cX5_feed 43 = .ok (.getfield 142, 3) := dk_180 0 142 (dk_at dksX5_feed_1 21 rfl rfl)
theorem dX5_feed_46 : decode cX5_feed 46 = .ok (.ireturn, 1) := dk_172 (dk_at dksX5_feed_2 0 rfl rfl)
abbrev cX5_four : ByteArray := prog_17_method_3_code
def yX5_four : MethodName := ⟨RX5, "four", "(I)V"⟩
def dkwX5_four_1 : List UInt8 := [89, 180, 0, 142, 4, 96, 181, 0, 142, 132, 2, 248, 167, 255, 223, 177]
abbrev dktX5_four_1 : List UInt8 := dkwX5_four_1 ++ []
def dkwX5_four_0 : List UInt8 := [16, 24, 61, 28, 155, 0, 35, 42, 180, 0, 7, 42, 180, 0, 142, 27, 28, 122, 17, 0, 255, 126, 79, 42]
abbrev dktX5_four_0 : List UInt8 := dkwX5_four_0 ++ dktX5_four_1
theorem dksX5_four_0 : cX5_four.data.toList.drop 0 = dktX5_four_0 := by decide +kernel
theorem dksX5_four_1 : cX5_four.data.toList.drop 24 = dktX5_four_1 := dk_seg dksX5_four_0 24 rfl rfl
theorem dX5_four_0 : decode cX5_four 0 = .ok (.bipush 24, 2) := dk_16 24 (dk_at dksX5_four_0 0 rfl rfl)
theorem dX5_four_2 : decode cX5_four 2 = .ok (.istore_n 2, 1) := dk_61 (dk_at dksX5_four_0 2 rfl rfl)
theorem dX5_four_3 : decode cX5_four 3 = .ok (.iload_n 2, 1) := dk_28 (dk_at dksX5_four_0 3 rfl rfl)
theorem dX5_four_4 : decode cX5_four 4 = .ok (.ifCond .lt 35, 3) := dk_155 0 35 (dk_at dksX5_four_0 4 rfl rfl)
theorem dX5_four_7 : decode cX5_four 7 = .ok (.aload_n 0, 1) := dk_42 (dk_at dksX5_four_0 7 rfl rfl)
theorem dX5_four_8 : decode cX5_four 8 = .ok (.getfield 7, 3) := dk_180 0 7 (dk_at dksX5_four_0 8 rfl rfl)
theorem dX5_four_11 : decode cX5_four 11 = .ok (.aload_n 0, 1) := dk_42 (dk_at dksX5_four_0 11 rfl rfl)
theorem dX5_four_12 : decode cX5_four 12 = .ok (.getfield 142, 3) := dk_180 0 142 (dk_at dksX5_four_0 12 rfl rfl)
theorem dX5_four_15 : decode cX5_four 15 = .ok (.iload_n 1, 1) := dk_27 (dk_at dksX5_four_0 15 rfl rfl)
theorem dX5_four_16 : decode cX5_four 16 = .ok (.iload_n 2, 1) := dk_28 (dk_at dksX5_four_0 16 rfl rfl)
theorem dX5_four_17 : decode cX5_four 17 = .ok (.ishr, 1) := dk_122 (dk_at dksX5_four_0 17 rfl rfl)
theorem dX5_four_18 : decode cX5_four 18 = .ok (.sipush 255, 3) := dk_17 0 255 (dk_at dksX5_four_0 18 rfl rfl)
theorem dX5_four_21 : decode cX5_four 21 = .ok (.iand, 1) := dk_126 (dk_at dksX5_four_0 21 rfl rfl)
theorem dX5_four_22 : decode cX5_four 22 = .ok (.iastore, 1) := dk_79 (dk_at dksX5_four_0 22 rfl rfl)
theorem dX5_four_23 : decode cX5_four 23 = .ok (.aload_n 0, 1) := dk_42 (dk_at dksX5_four_0 23 rfl rfl)
theorem dX5_four_24 : decode cX5_four 24 = .ok (.dup, 1) := dk_89 (dk_at dksX5_four_1 0 rfl rfl)
theorem dX5_four_25 : decode cX5_four 25 = .ok (.getfield 142, 3) := dk_180 0 142 (dk_at dksX5_four_1 1 rfl rfl)
theorem dX5_four_28 : decode cX5_four 28 = .ok (.iconst 1, 1) := dk_4 (dk_at dksX5_four_1 4 rfl rfl)
theorem dX5_four_29 : decode cX5_four 29 = .ok (.iadd, 1) := dk_96 (dk_at dksX5_four_1 5 rfl rfl)
theorem dX5_four_30 : decode cX5_four 30 = .ok (.putfield 142, 3) := dk_181 0 142 (dk_at dksX5_four_1 6 rfl rfl)
theorem dX5_four_33 : decode cX5_four 33 = .ok (.iinc 2 (-8), 3) := dk_132 2 248 (dk_at dksX5_four_1 9 rfl rfl)
theorem dX5_four_36 : decode cX5_four 36 = .ok (.goto (-33), 3) := dk_167 255 223 (dk_at dksX5_four_1 12 rfl rfl)
theorem dX5_four_39 : decode cX5_four 39 = .ok (.return_, 1) := dk_177 (dk_at dksX5_four_1 15 rfl rfl)
abbrev cX5_end : ByteArray := prog_17_method_4_code
def yX5_end : MethodName := ⟨RX5, "end", "(I)I"⟩
def dkwX5_end_0 : List UInt8 := [27, 155, 0, 11, 27, 42, 180, 0, 142, 164, 0, 5, 2, 172, 42, 27, 181, 0, 142, 27, 172]
abbrev dktX5_end_0 : List UInt8 := dkwX5_end_0 ++ []
theorem dksX5_end_0 : cX5_end.data.toList.drop 0 = dktX5_end_0 := by decide +kernel
theorem dX5_end_0 : decode cX5_end 0 = .ok (.iload_n 1, 1) := dk_27 (dk_at dksX5_end_0 0 rfl rfl)
theorem dX5_end_1 : decode cX5_end 1 = .ok (.ifCond .lt 11, 3) := dk_155 0 11 (dk_at dksX5_end_0 1 rfl rfl)
theorem dX5_end_4 : decode cX5_end 4 = .ok (.iload_n 1, 1) := dk_27 (dk_at dksX5_end_0 4 rfl rfl)
theorem dX5_end_5 : decode cX5_end 5 = .ok (.aload_n 0, 1) := dk_42 (dk_at dksX5_end_0 5 rfl rfl)
theorem dX5_end_6 : decode cX5_end 6 = .ok (.getfield 142, 3) := dk_180 0 142 (dk_at dksX5_end_0 6 rfl rfl)
theorem dX5_end_9 : decode cX5_end 9 = .ok (.if_icmp .le 5, 3) := dk_164 0 5 (dk_at dksX5_end_0 9 rfl rfl)
theorem dX5_end_12 : decode cX5_end 12 = .ok (.iconst (-1), 1) := dk_2 (dk_at dksX5_end_0 12 rfl rfl)
theorem dX5_end_13 : decode cX5_end 13 = .ok (.ireturn, 1) := dk_172 (dk_at dksX5_end_0 13 rfl rfl)
theorem dX5_end_14 : decode cX5_end 14 = .ok (.aload_n 0, 1) := dk_42 (dk_at dksX5_end_0 14 rfl rfl)
theorem dX5_end_15 : decode cX5_end 15 = .ok (.iload_n 1, 1) := dk_27 (dk_at dksX5_end_0 15 rfl rfl)
theorem dX5_end_16 : decode cX5_end 16 = .ok (.putfield 142, 3) := dk_181 0 142 (dk_at dksX5_end_0 16 rfl rfl)
theorem dX5_end_19 : decode cX5_end 19 = .ok (.iload_n 1, 1) := dk_27 (dk_at dksX5_end_0 19 rfl rfl)
theorem dX5_end_20 : decode cX5_end 20 = .ok (.ireturn, 1) := dk_172 (dk_at dksX5_end_0 20 rfl rfl)
abbrev cX5_house : ByteArray := prog_17_method_40_code
def yX5_house : MethodName := ⟨RX5, "house", "()I"⟩
def dkwX5_house_12 : List UInt8 := [6, 162, 0, 16, 42, 180, 0, 136, 27, 3, 84, 132, 1, 1, 167, 255, 241, 42, 180, 1, 94, 172]
abbrev dktX5_house_12 : List UInt8 := dkwX5_house_12 ++ []
def dkwX5_house_11 : List UInt8 := [79, 42, 3, 181, 1, 100, 42, 3, 181, 1, 103, 42, 3, 181, 1, 106, 42, 3, 181, 1, 109, 3, 60, 27]
abbrev dktX5_house_11 : List UInt8 := dkwX5_house_11 ++ dktX5_house_12
def dkwX5_house_10 : List UInt8 := [167, 255, 173, 42, 180, 0, 85, 16, 25, 42, 180, 1, 63, 79, 42, 180, 0, 85, 16, 27, 42, 180, 1, 85]
abbrev dktX5_house_10 : List UInt8 := dkwX5_house_10 ++ dktX5_house_11
def dkwX5_house_9 : List UInt8 := [42, 180, 0, 64, 27, 46, 79, 42, 180, 0, 85, 27, 42, 180, 0, 70, 27, 46, 79, 132, 1, 1]
abbrev dktX5_house_9 : List UInt8 := dkwX5_house_9 ++ dktX5_house_10
def dkwX5_house_8 : List UInt8 := [42, 180, 0, 58, 27, 46, 79, 42, 180, 0, 76, 27, 42, 180, 0, 61, 27, 46, 79, 42, 180, 0, 79, 27]
abbrev dktX5_house_8 : List UInt8 := dkwX5_house_8 ++ dktX5_house_9
def dkwX5_house_7 : List UInt8 := [42, 180, 0, 52, 27, 46, 79, 42, 180, 0, 70, 27, 42, 180, 0, 55, 27, 46, 79, 42, 180, 0, 73, 27]
abbrev dktX5_house_7 : List UInt8 := dkwX5_house_7 ++ dktX5_house_8
def dkwX5_house_6 : List UInt8 := [27, 3, 79, 132, 1, 1, 167, 255, 240, 3, 60, 27, 42, 180, 1, 94, 162, 0, 81, 42, 180, 0, 67, 27]
abbrev dktX5_house_6 : List UInt8 := dkwX5_house_6 ++ dktX5_house_7
def dkwX5_house_5 : List UInt8 := [132, 2, 1, 167, 255, 213, 132, 1, 1, 167, 255, 171, 3, 60, 27, 16, 28, 162, 0, 16, 42, 180, 0, 85]
abbrev dktX5_house_5 : List UInt8 := dkwX5_house_5 ++ dktX5_house_6
def dkwX5_house_4 : List UInt8 := [180, 0, 30, 28, 42, 180, 0, 21, 28, 46, 79, 42, 180, 0, 33, 28, 42, 180, 0, 24, 28, 46, 79]
abbrev dktX5_house_4 : List UInt8 := dkwX5_house_4 ++ dktX5_house_5
def dkwX5_house_3 : List UInt8 := [17, 1, 64, 27, 104, 61, 28, 17, 1, 64, 27, 104, 42, 180, 0, 36, 27, 46, 96, 162, 0, 33, 42]
abbrev dktX5_house_3 : List UInt8 := dkwX5_house_3 ++ dktX5_house_4
def dkwX5_house_2 : List UInt8 := [180, 0, 36, 27, 42, 180, 0, 45, 27, 51, 153, 0, 12, 42, 180, 0, 27, 27, 46, 167, 0, 4, 3, 79]
abbrev dktX5_house_2 : List UInt8 := dkwX5_house_2 ++ dktX5_house_3
def dkwX5_house_1 : List UInt8 := [180, 0, 248, 181, 1, 94, 42, 42, 180, 1, 11, 181, 1, 97, 3, 60, 27, 5, 162, 0, 86, 42]
abbrev dktX5_house_1 : List UInt8 := dkwX5_house_1 ++ dktX5_house_2
def dkwX5_house_0 : List UInt8 := [42, 182, 1, 91, 42, 180, 0, 182, 158, 0, 5, 2, 172, 42, 42, 180, 1, 56, 181, 0, 82, 42, 42]
abbrev dktX5_house_0 : List UInt8 := dkwX5_house_0 ++ dktX5_house_1
theorem dksX5_house_0 : cX5_house.data.toList.drop 0 = dktX5_house_0 := by decide +kernel
theorem dksX5_house_1 : cX5_house.data.toList.drop 23 = dktX5_house_1 := dk_seg dksX5_house_0 23 rfl rfl
theorem dksX5_house_2 : cX5_house.data.toList.drop 45 = dktX5_house_2 := dk_seg dksX5_house_1 22 rfl rfl
theorem dksX5_house_3 : cX5_house.data.toList.drop 69 = dktX5_house_3 := dk_seg dksX5_house_2 24 rfl rfl
theorem dksX5_house_4 : cX5_house.data.toList.drop 92 = dktX5_house_4 := dk_seg dksX5_house_3 23 rfl rfl
theorem dksX5_house_5 : cX5_house.data.toList.drop 115 = dktX5_house_5 := dk_seg dksX5_house_4 23 rfl rfl
theorem dksX5_house_6 : cX5_house.data.toList.drop 139 = dktX5_house_6 := dk_seg dksX5_house_5 24 rfl rfl
theorem dksX5_house_7 : cX5_house.data.toList.drop 163 = dktX5_house_7 := dk_seg dksX5_house_6 24 rfl rfl
theorem dksX5_house_8 : cX5_house.data.toList.drop 187 = dktX5_house_8 := dk_seg dksX5_house_7 24 rfl rfl
theorem dksX5_house_9 : cX5_house.data.toList.drop 211 = dktX5_house_9 := dk_seg dksX5_house_8 24 rfl rfl
theorem dksX5_house_10 : cX5_house.data.toList.drop 233 = dktX5_house_10 := dk_seg dksX5_house_9 22 rfl rfl
theorem dksX5_house_11 : cX5_house.data.toList.drop 257 = dktX5_house_11 := dk_seg dksX5_house_10 24 rfl rfl
theorem dksX5_house_12 : cX5_house.data.toList.drop 281 = dktX5_house_12 := dk_seg dksX5_house_11 24 rfl rfl
theorem dX5_house_0 : decode cX5_house 0 = .ok (.aload_n 0, 1) := dk_42 (dk_at dksX5_house_0 0 rfl rfl)
theorem dX5_house_1 : decode cX5_house 1 = .ok (.invokevirtual 347, 3) := dk_182 1 91 (dk_at dksX5_house_0 1 rfl rfl)
theorem dX5_house_4 : decode cX5_house 4 = .ok (.aload_n 0, 1) := dk_42 (dk_at dksX5_house_0 4 rfl rfl)
theorem dX5_house_5 : decode cX5_house 5 = .ok (.getfield 182, 3) := dk_180 0 182 (dk_at dksX5_house_0 5 rfl rfl)
theorem dX5_house_8 : decode cX5_house 8 = .ok (.ifCond .le 5, 3) := dk_158 0 5 (dk_at dksX5_house_0 8 rfl rfl)
theorem dX5_house_11 : decode cX5_house 11 = .ok (.iconst (-1), 1) := dk_2 (dk_at dksX5_house_0 11 rfl rfl)
theorem dX5_house_12 : decode cX5_house 12 = .ok (.ireturn, 1) := dk_172 (dk_at dksX5_house_0 12 rfl rfl)
theorem dX5_house_13 : decode cX5_house 13 = .ok (.aload_n 0, 1) := dk_42 (dk_at dksX5_house_0 13 rfl rfl)
theorem dX5_house_14 : decode cX5_house 14 = .ok (.aload_n 0, 1) := dk_42 (dk_at dksX5_house_0 14 rfl rfl)
theorem dX5_house_15 : decode cX5_house 15 = .ok (.getfield 312, 3) := dk_180 1 56 (dk_at dksX5_house_0 15 rfl rfl)
theorem dX5_house_18 : decode cX5_house 18 = .ok (.putfield 82, 3) := dk_181 0 82 (dk_at dksX5_house_0 18 rfl rfl)
theorem dX5_house_21 : decode cX5_house 21 = .ok (.aload_n 0, 1) := dk_42 (dk_at dksX5_house_0 21 rfl rfl)
theorem dX5_house_22 : decode cX5_house 22 = .ok (.aload_n 0, 1) := dk_42 (dk_at dksX5_house_0 22 rfl rfl)
theorem dX5_house_23 : decode cX5_house 23 = .ok (.getfield 248, 3) := dk_180 0 248 (dk_at dksX5_house_1 0 rfl rfl)
theorem dX5_house_26 : decode cX5_house 26 = .ok (.putfield 350, 3) := dk_181 1 94 (dk_at dksX5_house_1 3 rfl rfl)
theorem dX5_house_29 : decode cX5_house 29 = .ok (.aload_n 0, 1) := dk_42 (dk_at dksX5_house_1 6 rfl rfl)
theorem dX5_house_30 : decode cX5_house 30 = .ok (.aload_n 0, 1) := dk_42 (dk_at dksX5_house_1 7 rfl rfl)
theorem dX5_house_31 : decode cX5_house 31 = .ok (.getfield 267, 3) := dk_180 1 11 (dk_at dksX5_house_1 8 rfl rfl)
theorem dX5_house_34 : decode cX5_house 34 = .ok (.putfield 353, 3) := dk_181 1 97 (dk_at dksX5_house_1 11 rfl rfl)
theorem dX5_house_37 : decode cX5_house 37 = .ok (.iconst 0, 1) := dk_3 (dk_at dksX5_house_1 14 rfl rfl)
theorem dX5_house_38 : decode cX5_house 38 = .ok (.istore_n 1, 1) := dk_60 (dk_at dksX5_house_1 15 rfl rfl)
theorem dX5_house_39 : decode cX5_house 39 = .ok (.iload_n 1, 1) := dk_27 (dk_at dksX5_house_1 16 rfl rfl)
theorem dX5_house_40 : decode cX5_house 40 = .ok (.iconst 2, 1) := dk_5 (dk_at dksX5_house_1 17 rfl rfl)
theorem dX5_house_41 : decode cX5_house 41 = .ok (.if_icmp .ge 86, 3) := dk_162 0 86 (dk_at dksX5_house_1 18 rfl rfl)
theorem dX5_house_44 : decode cX5_house 44 = .ok (.aload_n 0, 1) := dk_42 (dk_at dksX5_house_1 21 rfl rfl)
theorem dX5_house_45 : decode cX5_house 45 = .ok (.getfield 36, 3) := dk_180 0 36 (dk_at dksX5_house_2 0 rfl rfl)
theorem dX5_house_48 : decode cX5_house 48 = .ok (.iload_n 1, 1) := dk_27 (dk_at dksX5_house_2 3 rfl rfl)
theorem dX5_house_49 : decode cX5_house 49 = .ok (.aload_n 0, 1) := dk_42 (dk_at dksX5_house_2 4 rfl rfl)
theorem dX5_house_50 : decode cX5_house 50 = .ok (.getfield 45, 3) := dk_180 0 45 (dk_at dksX5_house_2 5 rfl rfl)
theorem dX5_house_53 : decode cX5_house 53 = .ok (.iload_n 1, 1) := dk_27 (dk_at dksX5_house_2 8 rfl rfl)
theorem dX5_house_54 : decode cX5_house 54 = .ok (.baload, 1) := dk_51 (dk_at dksX5_house_2 9 rfl rfl)
theorem dX5_house_55 : decode cX5_house 55 = .ok (.ifCond .eq 12, 3) := dk_153 0 12 (dk_at dksX5_house_2 10 rfl rfl)
theorem dX5_house_58 : decode cX5_house 58 = .ok (.aload_n 0, 1) := dk_42 (dk_at dksX5_house_2 13 rfl rfl)
theorem dX5_house_59 : decode cX5_house 59 = .ok (.getfield 27, 3) := dk_180 0 27 (dk_at dksX5_house_2 14 rfl rfl)
theorem dX5_house_62 : decode cX5_house 62 = .ok (.iload_n 1, 1) := dk_27 (dk_at dksX5_house_2 17 rfl rfl)
theorem dX5_house_63 : decode cX5_house 63 = .ok (.iaload, 1) := dk_46 (dk_at dksX5_house_2 18 rfl rfl)
theorem dX5_house_64 : decode cX5_house 64 = .ok (.goto 4, 3) := dk_167 0 4 (dk_at dksX5_house_2 19 rfl rfl)
theorem dX5_house_67 : decode cX5_house 67 = .ok (.iconst 0, 1) := dk_3 (dk_at dksX5_house_2 22 rfl rfl)
theorem dX5_house_68 : decode cX5_house 68 = .ok (.iastore, 1) := dk_79 (dk_at dksX5_house_2 23 rfl rfl)
theorem dX5_house_69 : decode cX5_house 69 = .ok (.sipush 320, 3) := dk_17 1 64 (dk_at dksX5_house_3 0 rfl rfl)
theorem dX5_house_72 : decode cX5_house 72 = .ok (.iload_n 1, 1) := dk_27 (dk_at dksX5_house_3 3 rfl rfl)
theorem dX5_house_73 : decode cX5_house 73 = .ok (.imul, 1) := dk_104 (dk_at dksX5_house_3 4 rfl rfl)
theorem dX5_house_74 : decode cX5_house 74 = .ok (.istore_n 2, 1) := dk_61 (dk_at dksX5_house_3 5 rfl rfl)
theorem dX5_house_75 : decode cX5_house 75 = .ok (.iload_n 2, 1) := dk_28 (dk_at dksX5_house_3 6 rfl rfl)
theorem dX5_house_76 : decode cX5_house 76 = .ok (.sipush 320, 3) := dk_17 1 64 (dk_at dksX5_house_3 7 rfl rfl)
theorem dX5_house_79 : decode cX5_house 79 = .ok (.iload_n 1, 1) := dk_27 (dk_at dksX5_house_3 10 rfl rfl)
theorem dX5_house_80 : decode cX5_house 80 = .ok (.imul, 1) := dk_104 (dk_at dksX5_house_3 11 rfl rfl)
theorem dX5_house_81 : decode cX5_house 81 = .ok (.aload_n 0, 1) := dk_42 (dk_at dksX5_house_3 12 rfl rfl)
theorem dX5_house_82 : decode cX5_house 82 = .ok (.getfield 36, 3) := dk_180 0 36 (dk_at dksX5_house_3 13 rfl rfl)
theorem dX5_house_85 : decode cX5_house 85 = .ok (.iload_n 1, 1) := dk_27 (dk_at dksX5_house_3 16 rfl rfl)
theorem dX5_house_86 : decode cX5_house 86 = .ok (.iaload, 1) := dk_46 (dk_at dksX5_house_3 17 rfl rfl)
theorem dX5_house_87 : decode cX5_house 87 = .ok (.iadd, 1) := dk_96 (dk_at dksX5_house_3 18 rfl rfl)
theorem dX5_house_88 : decode cX5_house 88 = .ok (.if_icmp .ge 33, 3) := dk_162 0 33 (dk_at dksX5_house_3 19 rfl rfl)
theorem dX5_house_91 : decode cX5_house 91 = .ok (.aload_n 0, 1) := dk_42 (dk_at dksX5_house_3 22 rfl rfl)
theorem dX5_house_92 : decode cX5_house 92 = .ok (.getfield 30, 3) := dk_180 0 30 (dk_at dksX5_house_4 0 rfl rfl)
theorem dX5_house_95 : decode cX5_house 95 = .ok (.iload_n 2, 1) := dk_28 (dk_at dksX5_house_4 3 rfl rfl)
theorem dX5_house_96 : decode cX5_house 96 = .ok (.aload_n 0, 1) := dk_42 (dk_at dksX5_house_4 4 rfl rfl)
theorem dX5_house_97 : decode cX5_house 97 = .ok (.getfield 21, 3) := dk_180 0 21 (dk_at dksX5_house_4 5 rfl rfl)
theorem dX5_house_100 : decode cX5_house 100 = .ok (.iload_n 2, 1) := dk_28 (dk_at dksX5_house_4 8 rfl rfl)
theorem dX5_house_101 : decode cX5_house 101 = .ok (.iaload, 1) := dk_46 (dk_at dksX5_house_4 9 rfl rfl)
theorem dX5_house_102 : decode cX5_house 102 = .ok (.iastore, 1) := dk_79 (dk_at dksX5_house_4 10 rfl rfl)
theorem dX5_house_103 : decode cX5_house 103 = .ok (.aload_n 0, 1) := dk_42 (dk_at dksX5_house_4 11 rfl rfl)
theorem dX5_house_104 : decode cX5_house 104 = .ok (.getfield 33, 3) := dk_180 0 33 (dk_at dksX5_house_4 12 rfl rfl)
theorem dX5_house_107 : decode cX5_house 107 = .ok (.iload_n 2, 1) := dk_28 (dk_at dksX5_house_4 15 rfl rfl)
theorem dX5_house_108 : decode cX5_house 108 = .ok (.aload_n 0, 1) := dk_42 (dk_at dksX5_house_4 16 rfl rfl)
theorem dX5_house_109 : decode cX5_house 109 = .ok (.getfield 24, 3) := dk_180 0 24 (dk_at dksX5_house_4 17 rfl rfl)
theorem dX5_house_112 : decode cX5_house 112 = .ok (.iload_n 2, 1) := dk_28 (dk_at dksX5_house_4 20 rfl rfl)
theorem dX5_house_113 : decode cX5_house 113 = .ok (.iaload, 1) := dk_46 (dk_at dksX5_house_4 21 rfl rfl)
theorem dX5_house_114 : decode cX5_house 114 = .ok (.iastore, 1) := dk_79 (dk_at dksX5_house_4 22 rfl rfl)
theorem dX5_house_115 : decode cX5_house 115 = .ok (.iinc 2 1, 3) := dk_132 2 1 (dk_at dksX5_house_5 0 rfl rfl)
theorem dX5_house_118 : decode cX5_house 118 = .ok (.goto (-43), 3) := dk_167 255 213 (dk_at dksX5_house_5 3 rfl rfl)
theorem dX5_house_121 : decode cX5_house 121 = .ok (.iinc 1 1, 3) := dk_132 1 1 (dk_at dksX5_house_5 6 rfl rfl)
theorem dX5_house_124 : decode cX5_house 124 = .ok (.goto (-85), 3) := dk_167 255 171 (dk_at dksX5_house_5 9 rfl rfl)
theorem dX5_house_127 : decode cX5_house 127 = .ok (.iconst 0, 1) := dk_3 (dk_at dksX5_house_5 12 rfl rfl)
theorem dX5_house_128 : decode cX5_house 128 = .ok (.istore_n 1, 1) := dk_60 (dk_at dksX5_house_5 13 rfl rfl)
theorem dX5_house_129 : decode cX5_house 129 = .ok (.iload_n 1, 1) := dk_27 (dk_at dksX5_house_5 14 rfl rfl)
theorem dX5_house_130 : decode cX5_house 130 = .ok (.bipush 28, 2) := dk_16 28 (dk_at dksX5_house_5 15 rfl rfl)
theorem dX5_house_132 : decode cX5_house 132 = .ok (.if_icmp .ge 16, 3) := dk_162 0 16 (dk_at dksX5_house_5 17 rfl rfl)
theorem dX5_house_135 : decode cX5_house 135 = .ok (.aload_n 0, 1) := dk_42 (dk_at dksX5_house_5 20 rfl rfl)
theorem dX5_house_136 : decode cX5_house 136 = .ok (.getfield 85, 3) := dk_180 0 85 (dk_at dksX5_house_5 21 rfl rfl)
theorem dX5_house_139 : decode cX5_house 139 = .ok (.iload_n 1, 1) := dk_27 (dk_at dksX5_house_6 0 rfl rfl)
theorem dX5_house_140 : decode cX5_house 140 = .ok (.iconst 0, 1) := dk_3 (dk_at dksX5_house_6 1 rfl rfl)
theorem dX5_house_141 : decode cX5_house 141 = .ok (.iastore, 1) := dk_79 (dk_at dksX5_house_6 2 rfl rfl)
theorem dX5_house_142 : decode cX5_house 142 = .ok (.iinc 1 1, 3) := dk_132 1 1 (dk_at dksX5_house_6 3 rfl rfl)
theorem dX5_house_145 : decode cX5_house 145 = .ok (.goto (-16), 3) := dk_167 255 240 (dk_at dksX5_house_6 6 rfl rfl)
theorem dX5_house_148 : decode cX5_house 148 = .ok (.iconst 0, 1) := dk_3 (dk_at dksX5_house_6 9 rfl rfl)
theorem dX5_house_149 : decode cX5_house 149 = .ok (.istore_n 1, 1) := dk_60 (dk_at dksX5_house_6 10 rfl rfl)
theorem dX5_house_150 : decode cX5_house 150 = .ok (.iload_n 1, 1) := dk_27 (dk_at dksX5_house_6 11 rfl rfl)
theorem dX5_house_151 : decode cX5_house 151 = .ok (.aload_n 0, 1) := dk_42 (dk_at dksX5_house_6 12 rfl rfl)
theorem dX5_house_152 : decode cX5_house 152 = .ok (.getfield 350, 3) := dk_180 1 94 (dk_at dksX5_house_6 13 rfl rfl)
theorem dX5_house_155 : decode cX5_house 155 = .ok (.if_icmp .ge 81, 3) := dk_162 0 81 (dk_at dksX5_house_6 16 rfl rfl)
theorem dX5_house_158 : decode cX5_house 158 = .ok (.aload_n 0, 1) := dk_42 (dk_at dksX5_house_6 19 rfl rfl)
theorem dX5_house_159 : decode cX5_house 159 = .ok (.getfield 67, 3) := dk_180 0 67 (dk_at dksX5_house_6 20 rfl rfl)
theorem dX5_house_162 : decode cX5_house 162 = .ok (.iload_n 1, 1) := dk_27 (dk_at dksX5_house_6 23 rfl rfl)
theorem dX5_house_163 : decode cX5_house 163 = .ok (.aload_n 0, 1) := dk_42 (dk_at dksX5_house_7 0 rfl rfl)
theorem dX5_house_164 : decode cX5_house 164 = .ok (.getfield 52, 3) := dk_180 0 52 (dk_at dksX5_house_7 1 rfl rfl)
theorem dX5_house_167 : decode cX5_house 167 = .ok (.iload_n 1, 1) := dk_27 (dk_at dksX5_house_7 4 rfl rfl)
theorem dX5_house_168 : decode cX5_house 168 = .ok (.iaload, 1) := dk_46 (dk_at dksX5_house_7 5 rfl rfl)
theorem dX5_house_169 : decode cX5_house 169 = .ok (.iastore, 1) := dk_79 (dk_at dksX5_house_7 6 rfl rfl)
theorem dX5_house_170 : decode cX5_house 170 = .ok (.aload_n 0, 1) := dk_42 (dk_at dksX5_house_7 7 rfl rfl)
theorem dX5_house_171 : decode cX5_house 171 = .ok (.getfield 70, 3) := dk_180 0 70 (dk_at dksX5_house_7 8 rfl rfl)
theorem dX5_house_174 : decode cX5_house 174 = .ok (.iload_n 1, 1) := dk_27 (dk_at dksX5_house_7 11 rfl rfl)
theorem dX5_house_175 : decode cX5_house 175 = .ok (.aload_n 0, 1) := dk_42 (dk_at dksX5_house_7 12 rfl rfl)
theorem dX5_house_176 : decode cX5_house 176 = .ok (.getfield 55, 3) := dk_180 0 55 (dk_at dksX5_house_7 13 rfl rfl)
theorem dX5_house_179 : decode cX5_house 179 = .ok (.iload_n 1, 1) := dk_27 (dk_at dksX5_house_7 16 rfl rfl)
theorem dX5_house_180 : decode cX5_house 180 = .ok (.iaload, 1) := dk_46 (dk_at dksX5_house_7 17 rfl rfl)
theorem dX5_house_181 : decode cX5_house 181 = .ok (.iastore, 1) := dk_79 (dk_at dksX5_house_7 18 rfl rfl)
theorem dX5_house_182 : decode cX5_house 182 = .ok (.aload_n 0, 1) := dk_42 (dk_at dksX5_house_7 19 rfl rfl)
theorem dX5_house_183 : decode cX5_house 183 = .ok (.getfield 73, 3) := dk_180 0 73 (dk_at dksX5_house_7 20 rfl rfl)
theorem dX5_house_186 : decode cX5_house 186 = .ok (.iload_n 1, 1) := dk_27 (dk_at dksX5_house_7 23 rfl rfl)
theorem dX5_house_187 : decode cX5_house 187 = .ok (.aload_n 0, 1) := dk_42 (dk_at dksX5_house_8 0 rfl rfl)
theorem dX5_house_188 : decode cX5_house 188 = .ok (.getfield 58, 3) := dk_180 0 58 (dk_at dksX5_house_8 1 rfl rfl)
theorem dX5_house_191 : decode cX5_house 191 = .ok (.iload_n 1, 1) := dk_27 (dk_at dksX5_house_8 4 rfl rfl)
theorem dX5_house_192 : decode cX5_house 192 = .ok (.iaload, 1) := dk_46 (dk_at dksX5_house_8 5 rfl rfl)
theorem dX5_house_193 : decode cX5_house 193 = .ok (.iastore, 1) := dk_79 (dk_at dksX5_house_8 6 rfl rfl)
theorem dX5_house_194 : decode cX5_house 194 = .ok (.aload_n 0, 1) := dk_42 (dk_at dksX5_house_8 7 rfl rfl)
theorem dX5_house_195 : decode cX5_house 195 = .ok (.getfield 76, 3) := dk_180 0 76 (dk_at dksX5_house_8 8 rfl rfl)
theorem dX5_house_198 : decode cX5_house 198 = .ok (.iload_n 1, 1) := dk_27 (dk_at dksX5_house_8 11 rfl rfl)
theorem dX5_house_199 : decode cX5_house 199 = .ok (.aload_n 0, 1) := dk_42 (dk_at dksX5_house_8 12 rfl rfl)
theorem dX5_house_200 : decode cX5_house 200 = .ok (.getfield 61, 3) := dk_180 0 61 (dk_at dksX5_house_8 13 rfl rfl)
theorem dX5_house_203 : decode cX5_house 203 = .ok (.iload_n 1, 1) := dk_27 (dk_at dksX5_house_8 16 rfl rfl)
theorem dX5_house_204 : decode cX5_house 204 = .ok (.iaload, 1) := dk_46 (dk_at dksX5_house_8 17 rfl rfl)
theorem dX5_house_205 : decode cX5_house 205 = .ok (.iastore, 1) := dk_79 (dk_at dksX5_house_8 18 rfl rfl)
theorem dX5_house_206 : decode cX5_house 206 = .ok (.aload_n 0, 1) := dk_42 (dk_at dksX5_house_8 19 rfl rfl)
theorem dX5_house_207 : decode cX5_house 207 = .ok (.getfield 79, 3) := dk_180 0 79 (dk_at dksX5_house_8 20 rfl rfl)
theorem dX5_house_210 : decode cX5_house 210 = .ok (.iload_n 1, 1) := dk_27 (dk_at dksX5_house_8 23 rfl rfl)
theorem dX5_house_211 : decode cX5_house 211 = .ok (.aload_n 0, 1) := dk_42 (dk_at dksX5_house_9 0 rfl rfl)
theorem dX5_house_212 : decode cX5_house 212 = .ok (.getfield 64, 3) := dk_180 0 64 (dk_at dksX5_house_9 1 rfl rfl)
theorem dX5_house_215 : decode cX5_house 215 = .ok (.iload_n 1, 1) := dk_27 (dk_at dksX5_house_9 4 rfl rfl)
theorem dX5_house_216 : decode cX5_house 216 = .ok (.iaload, 1) := dk_46 (dk_at dksX5_house_9 5 rfl rfl)
theorem dX5_house_217 : decode cX5_house 217 = .ok (.iastore, 1) := dk_79 (dk_at dksX5_house_9 6 rfl rfl)
theorem dX5_house_218 : decode cX5_house 218 = .ok (.aload_n 0, 1) := dk_42 (dk_at dksX5_house_9 7 rfl rfl)
theorem dX5_house_219 : decode cX5_house 219 = .ok (.getfield 85, 3) := dk_180 0 85 (dk_at dksX5_house_9 8 rfl rfl)
theorem dX5_house_222 : decode cX5_house 222 = .ok (.iload_n 1, 1) := dk_27 (dk_at dksX5_house_9 11 rfl rfl)
theorem dX5_house_223 : decode cX5_house 223 = .ok (.aload_n 0, 1) := dk_42 (dk_at dksX5_house_9 12 rfl rfl)
theorem dX5_house_224 : decode cX5_house 224 = .ok (.getfield 70, 3) := dk_180 0 70 (dk_at dksX5_house_9 13 rfl rfl)
theorem dX5_house_227 : decode cX5_house 227 = .ok (.iload_n 1, 1) := dk_27 (dk_at dksX5_house_9 16 rfl rfl)
theorem dX5_house_228 : decode cX5_house 228 = .ok (.iaload, 1) := dk_46 (dk_at dksX5_house_9 17 rfl rfl)
theorem dX5_house_229 : decode cX5_house 229 = .ok (.iastore, 1) := dk_79 (dk_at dksX5_house_9 18 rfl rfl)
theorem dX5_house_230 : decode cX5_house 230 = .ok (.iinc 1 1, 3) := dk_132 1 1 (dk_at dksX5_house_9 19 rfl rfl)
theorem dX5_house_233 : decode cX5_house 233 = .ok (.goto (-83), 3) := dk_167 255 173 (dk_at dksX5_house_10 0 rfl rfl)
theorem dX5_house_236 : decode cX5_house 236 = .ok (.aload_n 0, 1) := dk_42 (dk_at dksX5_house_10 3 rfl rfl)
theorem dX5_house_237 : decode cX5_house 237 = .ok (.getfield 85, 3) := dk_180 0 85 (dk_at dksX5_house_10 4 rfl rfl)
theorem dX5_house_240 : decode cX5_house 240 = .ok (.bipush 25, 2) := dk_16 25 (dk_at dksX5_house_10 7 rfl rfl)
theorem dX5_house_242 : decode cX5_house 242 = .ok (.aload_n 0, 1) := dk_42 (dk_at dksX5_house_10 9 rfl rfl)
theorem dX5_house_243 : decode cX5_house 243 = .ok (.getfield 319, 3) := dk_180 1 63 (dk_at dksX5_house_10 10 rfl rfl)
theorem dX5_house_246 : decode cX5_house 246 = .ok (.iastore, 1) := dk_79 (dk_at dksX5_house_10 13 rfl rfl)
theorem dX5_house_247 : decode cX5_house 247 = .ok (.aload_n 0, 1) := dk_42 (dk_at dksX5_house_10 14 rfl rfl)
theorem dX5_house_248 : decode cX5_house 248 = .ok (.getfield 85, 3) := dk_180 0 85 (dk_at dksX5_house_10 15 rfl rfl)
theorem dX5_house_251 : decode cX5_house 251 = .ok (.bipush 27, 2) := dk_16 27 (dk_at dksX5_house_10 18 rfl rfl)
theorem dX5_house_253 : decode cX5_house 253 = .ok (.aload_n 0, 1) := dk_42 (dk_at dksX5_house_10 20 rfl rfl)
theorem dX5_house_254 : decode cX5_house 254 = .ok (.getfield 341, 3) := dk_180 1 85 (dk_at dksX5_house_10 21 rfl rfl)
theorem dX5_house_257 : decode cX5_house 257 = .ok (.iastore, 1) := dk_79 (dk_at dksX5_house_11 0 rfl rfl)
theorem dX5_house_258 : decode cX5_house 258 = .ok (.aload_n 0, 1) := dk_42 (dk_at dksX5_house_11 1 rfl rfl)
theorem dX5_house_259 : decode cX5_house 259 = .ok (.iconst 0, 1) := dk_3 (dk_at dksX5_house_11 2 rfl rfl)
theorem dX5_house_260 : decode cX5_house 260 = .ok (.putfield 356, 3) := dk_181 1 100 (dk_at dksX5_house_11 3 rfl rfl)
theorem dX5_house_263 : decode cX5_house 263 = .ok (.aload_n 0, 1) := dk_42 (dk_at dksX5_house_11 6 rfl rfl)
theorem dX5_house_264 : decode cX5_house 264 = .ok (.iconst 0, 1) := dk_3 (dk_at dksX5_house_11 7 rfl rfl)
theorem dX5_house_265 : decode cX5_house 265 = .ok (.putfield 359, 3) := dk_181 1 103 (dk_at dksX5_house_11 8 rfl rfl)
theorem dX5_house_268 : decode cX5_house 268 = .ok (.aload_n 0, 1) := dk_42 (dk_at dksX5_house_11 11 rfl rfl)
theorem dX5_house_269 : decode cX5_house 269 = .ok (.iconst 0, 1) := dk_3 (dk_at dksX5_house_11 12 rfl rfl)
theorem dX5_house_270 : decode cX5_house 270 = .ok (.putfield 362, 3) := dk_181 1 106 (dk_at dksX5_house_11 13 rfl rfl)
theorem dX5_house_273 : decode cX5_house 273 = .ok (.aload_n 0, 1) := dk_42 (dk_at dksX5_house_11 16 rfl rfl)
theorem dX5_house_274 : decode cX5_house 274 = .ok (.iconst 0, 1) := dk_3 (dk_at dksX5_house_11 17 rfl rfl)
theorem dX5_house_275 : decode cX5_house 275 = .ok (.putfield 365, 3) := dk_181 1 109 (dk_at dksX5_house_11 18 rfl rfl)
theorem dX5_house_278 : decode cX5_house 278 = .ok (.iconst 0, 1) := dk_3 (dk_at dksX5_house_11 21 rfl rfl)
theorem dX5_house_279 : decode cX5_house 279 = .ok (.istore_n 1, 1) := dk_60 (dk_at dksX5_house_11 22 rfl rfl)
theorem dX5_house_280 : decode cX5_house 280 = .ok (.iload_n 1, 1) := dk_27 (dk_at dksX5_house_11 23 rfl rfl)
theorem dX5_house_281 : decode cX5_house 281 = .ok (.iconst 3, 1) := dk_6 (dk_at dksX5_house_12 0 rfl rfl)
theorem dX5_house_282 : decode cX5_house 282 = .ok (.if_icmp .ge 16, 3) := dk_162 0 16 (dk_at dksX5_house_12 1 rfl rfl)
theorem dX5_house_285 : decode cX5_house 285 = .ok (.aload_n 0, 1) := dk_42 (dk_at dksX5_house_12 4 rfl rfl)
theorem dX5_house_286 : decode cX5_house 286 = .ok (.getfield 136, 3) := dk_180 0 136 (dk_at dksX5_house_12 5 rfl rfl)
theorem dX5_house_289 : decode cX5_house 289 = .ok (.iload_n 1, 1) := dk_27 (dk_at dksX5_house_12 8 rfl rfl)
theorem dX5_house_290 : decode cX5_house 290 = .ok (.iconst 0, 1) := dk_3 (dk_at dksX5_house_12 9 rfl rfl)
theorem dX5_house_291 : decode cX5_house 291 = .ok (.bastore, 1) := dk_84 (dk_at dksX5_house_12 10 rfl rfl)
theorem dX5_house_292 : decode cX5_house 292 = .ok (.iinc 1 1, 3) := dk_132 1 1 (dk_at dksX5_house_12 11 rfl rfl)
theorem dX5_house_295 : decode cX5_house 295 = .ok (.goto (-15), 3) := dk_167 255 241 (dk_at dksX5_house_12 14 rfl rfl)
theorem dX5_house_298 : decode cX5_house 298 = .ok (.aload_n 0, 1) := dk_42 (dk_at dksX5_house_12 17 rfl rfl)
theorem dX5_house_299 : decode cX5_house 299 = .ok (.getfield 350, 3) := dk_180 1 94 (dk_at dksX5_house_12 18 rfl rfl)
theorem dX5_house_302 : decode cX5_house 302 = .ok (.ireturn, 1) := dk_172 (dk_at dksX5_house_12 21 rfl rfl)
abbrev cX5_readAll : ByteArray := prog_17_method_39_code
def yX5_readAll : MethodName := ⟨RX5, "readAll", "()V"⟩
def dkwX5_readAll_4 : List UInt8 := [153, 0, 10, 42, 182, 1, 88, 167, 255, 238, 177]
abbrev dktX5_readAll_4 : List UInt8 := dkwX5_readAll_4 ++ []
def dkwX5_readAll_3 : List UInt8 := [4, 3, 84, 42, 3, 181, 1, 11, 42, 182, 0, 230, 42, 180, 0, 182, 154, 0, 17, 42, 180, 0, 169]
abbrev dktX5_readAll_3 : List UInt8 := dkwX5_readAll_3 ++ dktX5_readAll_4
def dkwX5_readAll_2 : List UInt8 := [181, 1, 85, 42, 3, 181, 1, 69, 42, 3, 181, 1, 82, 42, 180, 0, 45, 3, 3, 84, 42, 180, 0, 45]
abbrev dktX5_readAll_2 : List UInt8 := dkwX5_readAll_2 ++ dktX5_readAll_3
def dkwX5_readAll_1 : List UInt8 := [2, 181, 0, 13, 42, 16, 9, 181, 1, 56, 42, 3, 181, 1, 63, 42, 3, 181, 0, 248, 42, 3]
abbrev dktX5_readAll_1 : List UInt8 := dkwX5_readAll_1 ++ dktX5_readAll_2
def dkwX5_readAll_0 : List UInt8 := [42, 42, 180, 0, 142, 181, 0, 152, 42, 3, 181, 0, 142, 42, 3, 181, 0, 149, 42, 3, 181, 0, 182, 42]
abbrev dktX5_readAll_0 : List UInt8 := dkwX5_readAll_0 ++ dktX5_readAll_1
theorem dksX5_readAll_0 : cX5_readAll.data.toList.drop 0 = dktX5_readAll_0 := by decide +kernel
theorem dksX5_readAll_1 : cX5_readAll.data.toList.drop 24 = dktX5_readAll_1 := dk_seg dksX5_readAll_0 24 rfl rfl
theorem dksX5_readAll_2 : cX5_readAll.data.toList.drop 46 = dktX5_readAll_2 := dk_seg dksX5_readAll_1 22 rfl rfl
theorem dksX5_readAll_3 : cX5_readAll.data.toList.drop 70 = dktX5_readAll_3 := dk_seg dksX5_readAll_2 24 rfl rfl
theorem dksX5_readAll_4 : cX5_readAll.data.toList.drop 93 = dktX5_readAll_4 := dk_seg dksX5_readAll_3 23 rfl rfl
theorem dX5_readAll_0 : decode cX5_readAll 0 = .ok (.aload_n 0, 1) := dk_42 (dk_at dksX5_readAll_0 0 rfl rfl)
theorem dX5_readAll_1 : decode cX5_readAll 1 = .ok (.aload_n 0, 1) := dk_42 (dk_at dksX5_readAll_0 1 rfl rfl)
theorem dX5_readAll_2 : decode cX5_readAll 2 = .ok (.getfield 142, 3) := dk_180 0 142 (dk_at dksX5_readAll_0 2 rfl rfl)
theorem dX5_readAll_5 : decode cX5_readAll 5 = .ok (.putfield 152, 3) := dk_181 0 152 (dk_at dksX5_readAll_0 5 rfl rfl)
theorem dX5_readAll_8 : decode cX5_readAll 8 = .ok (.aload_n 0, 1) := dk_42 (dk_at dksX5_readAll_0 8 rfl rfl)
theorem dX5_readAll_9 : decode cX5_readAll 9 = .ok (.iconst 0, 1) := dk_3 (dk_at dksX5_readAll_0 9 rfl rfl)
theorem dX5_readAll_10 : decode cX5_readAll 10 = .ok (.putfield 142, 3) := dk_181 0 142 (dk_at dksX5_readAll_0 10 rfl rfl)
theorem dX5_readAll_13 : decode cX5_readAll 13 = .ok (.aload_n 0, 1) := dk_42 (dk_at dksX5_readAll_0 13 rfl rfl)
theorem dX5_readAll_14 : decode cX5_readAll 14 = .ok (.iconst 0, 1) := dk_3 (dk_at dksX5_readAll_0 14 rfl rfl)
theorem dX5_readAll_15 : decode cX5_readAll 15 = .ok (.putfield 149, 3) := dk_181 0 149 (dk_at dksX5_readAll_0 15 rfl rfl)
theorem dX5_readAll_18 : decode cX5_readAll 18 = .ok (.aload_n 0, 1) := dk_42 (dk_at dksX5_readAll_0 18 rfl rfl)
theorem dX5_readAll_19 : decode cX5_readAll 19 = .ok (.iconst 0, 1) := dk_3 (dk_at dksX5_readAll_0 19 rfl rfl)
theorem dX5_readAll_20 : decode cX5_readAll 20 = .ok (.putfield 182, 3) := dk_181 0 182 (dk_at dksX5_readAll_0 20 rfl rfl)
theorem dX5_readAll_23 : decode cX5_readAll 23 = .ok (.aload_n 0, 1) := dk_42 (dk_at dksX5_readAll_0 23 rfl rfl)
theorem dX5_readAll_24 : decode cX5_readAll 24 = .ok (.iconst (-1), 1) := dk_2 (dk_at dksX5_readAll_1 0 rfl rfl)
theorem dX5_readAll_25 : decode cX5_readAll 25 = .ok (.putfield 13, 3) := dk_181 0 13 (dk_at dksX5_readAll_1 1 rfl rfl)
theorem dX5_readAll_28 : decode cX5_readAll 28 = .ok (.aload_n 0, 1) := dk_42 (dk_at dksX5_readAll_1 4 rfl rfl)
theorem dX5_readAll_29 : decode cX5_readAll 29 = .ok (.bipush 9, 2) := dk_16 9 (dk_at dksX5_readAll_1 5 rfl rfl)
theorem dX5_readAll_31 : decode cX5_readAll 31 = .ok (.putfield 312, 3) := dk_181 1 56 (dk_at dksX5_readAll_1 7 rfl rfl)
theorem dX5_readAll_34 : decode cX5_readAll 34 = .ok (.aload_n 0, 1) := dk_42 (dk_at dksX5_readAll_1 10 rfl rfl)
theorem dX5_readAll_35 : decode cX5_readAll 35 = .ok (.iconst 0, 1) := dk_3 (dk_at dksX5_readAll_1 11 rfl rfl)
theorem dX5_readAll_36 : decode cX5_readAll 36 = .ok (.putfield 319, 3) := dk_181 1 63 (dk_at dksX5_readAll_1 12 rfl rfl)
theorem dX5_readAll_39 : decode cX5_readAll 39 = .ok (.aload_n 0, 1) := dk_42 (dk_at dksX5_readAll_1 15 rfl rfl)
theorem dX5_readAll_40 : decode cX5_readAll 40 = .ok (.iconst 0, 1) := dk_3 (dk_at dksX5_readAll_1 16 rfl rfl)
theorem dX5_readAll_41 : decode cX5_readAll 41 = .ok (.putfield 248, 3) := dk_181 0 248 (dk_at dksX5_readAll_1 17 rfl rfl)
theorem dX5_readAll_44 : decode cX5_readAll 44 = .ok (.aload_n 0, 1) := dk_42 (dk_at dksX5_readAll_1 20 rfl rfl)
theorem dX5_readAll_45 : decode cX5_readAll 45 = .ok (.iconst 0, 1) := dk_3 (dk_at dksX5_readAll_1 21 rfl rfl)
theorem dX5_readAll_46 : decode cX5_readAll 46 = .ok (.putfield 341, 3) := dk_181 1 85 (dk_at dksX5_readAll_2 0 rfl rfl)
theorem dX5_readAll_49 : decode cX5_readAll 49 = .ok (.aload_n 0, 1) := dk_42 (dk_at dksX5_readAll_2 3 rfl rfl)
theorem dX5_readAll_50 : decode cX5_readAll 50 = .ok (.iconst 0, 1) := dk_3 (dk_at dksX5_readAll_2 4 rfl rfl)
theorem dX5_readAll_51 : decode cX5_readAll 51 = .ok (.putfield 325, 3) := dk_181 1 69 (dk_at dksX5_readAll_2 5 rfl rfl)
theorem dX5_readAll_54 : decode cX5_readAll 54 = .ok (.aload_n 0, 1) := dk_42 (dk_at dksX5_readAll_2 8 rfl rfl)
theorem dX5_readAll_55 : decode cX5_readAll 55 = .ok (.iconst 0, 1) := dk_3 (dk_at dksX5_readAll_2 9 rfl rfl)
theorem dX5_readAll_56 : decode cX5_readAll 56 = .ok (.putfield 338, 3) := dk_181 1 82 (dk_at dksX5_readAll_2 10 rfl rfl)
theorem dX5_readAll_59 : decode cX5_readAll 59 = .ok (.aload_n 0, 1) := dk_42 (dk_at dksX5_readAll_2 13 rfl rfl)
theorem dX5_readAll_60 : decode cX5_readAll 60 = .ok (.getfield 45, 3) := dk_180 0 45 (dk_at dksX5_readAll_2 14 rfl rfl)
theorem dX5_readAll_63 : decode cX5_readAll 63 = .ok (.iconst 0, 1) := dk_3 (dk_at dksX5_readAll_2 17 rfl rfl)
theorem dX5_readAll_64 : decode cX5_readAll 64 = .ok (.iconst 0, 1) := dk_3 (dk_at dksX5_readAll_2 18 rfl rfl)
theorem dX5_readAll_65 : decode cX5_readAll 65 = .ok (.bastore, 1) := dk_84 (dk_at dksX5_readAll_2 19 rfl rfl)
theorem dX5_readAll_66 : decode cX5_readAll 66 = .ok (.aload_n 0, 1) := dk_42 (dk_at dksX5_readAll_2 20 rfl rfl)
theorem dX5_readAll_67 : decode cX5_readAll 67 = .ok (.getfield 45, 3) := dk_180 0 45 (dk_at dksX5_readAll_2 21 rfl rfl)
theorem dX5_readAll_70 : decode cX5_readAll 70 = .ok (.iconst 1, 1) := dk_4 (dk_at dksX5_readAll_3 0 rfl rfl)
theorem dX5_readAll_71 : decode cX5_readAll 71 = .ok (.iconst 0, 1) := dk_3 (dk_at dksX5_readAll_3 1 rfl rfl)
theorem dX5_readAll_72 : decode cX5_readAll 72 = .ok (.bastore, 1) := dk_84 (dk_at dksX5_readAll_3 2 rfl rfl)
theorem dX5_readAll_73 : decode cX5_readAll 73 = .ok (.aload_n 0, 1) := dk_42 (dk_at dksX5_readAll_3 3 rfl rfl)
theorem dX5_readAll_74 : decode cX5_readAll 74 = .ok (.iconst 0, 1) := dk_3 (dk_at dksX5_readAll_3 4 rfl rfl)
theorem dX5_readAll_75 : decode cX5_readAll 75 = .ok (.putfield 267, 3) := dk_181 1 11 (dk_at dksX5_readAll_3 5 rfl rfl)
theorem dX5_readAll_78 : decode cX5_readAll 78 = .ok (.aload_n 0, 1) := dk_42 (dk_at dksX5_readAll_3 8 rfl rfl)
theorem dX5_readAll_79 : decode cX5_readAll 79 = .ok (.invokevirtual 230, 3) := dk_182 0 230 (dk_at dksX5_readAll_3 9 rfl rfl)
theorem dX5_readAll_82 : decode cX5_readAll 82 = .ok (.aload_n 0, 1) := dk_42 (dk_at dksX5_readAll_3 12 rfl rfl)
theorem dX5_readAll_83 : decode cX5_readAll 83 = .ok (.getfield 182, 3) := dk_180 0 182 (dk_at dksX5_readAll_3 13 rfl rfl)
theorem dX5_readAll_86 : decode cX5_readAll 86 = .ok (.ifCond .ne 17, 3) := dk_154 0 17 (dk_at dksX5_readAll_3 16 rfl rfl)
theorem dX5_readAll_89 : decode cX5_readAll 89 = .ok (.aload_n 0, 1) := dk_42 (dk_at dksX5_readAll_3 19 rfl rfl)
theorem dX5_readAll_90 : decode cX5_readAll 90 = .ok (.getfield 169, 3) := dk_180 0 169 (dk_at dksX5_readAll_3 20 rfl rfl)
theorem dX5_readAll_93 : decode cX5_readAll 93 = .ok (.ifCond .eq 10, 3) := dk_153 0 10 (dk_at dksX5_readAll_4 0 rfl rfl)
theorem dX5_readAll_96 : decode cX5_readAll 96 = .ok (.aload_n 0, 1) := dk_42 (dk_at dksX5_readAll_4 3 rfl rfl)
theorem dX5_readAll_97 : decode cX5_readAll 97 = .ok (.invokevirtual 344, 3) := dk_182 1 88 (dk_at dksX5_readAll_4 4 rfl rfl)
theorem dX5_readAll_100 : decode cX5_readAll 100 = .ok (.goto (-18), 3) := dk_167 255 238 (dk_at dksX5_readAll_4 7 rfl rfl)
theorem dX5_readAll_103 : decode cX5_readAll 103 = .ok (.return_, 1) := dk_177 (dk_at dksX5_readAll_4 10 rfl rfl)
abbrev cX5_token : ByteArray := prog_17_method_9_code
def yX5_token : MethodName := ⟨RX5, "token", "()V"⟩
def dkwX5_token_10 : List UInt8 := [181, 0, 169, 42, 180, 0, 169, 6, 159, 0, 13, 42, 89, 180, 0, 149, 28, 96, 181, 0, 149, 177]
abbrev dktX5_token_10 : List UInt8 := dkwX5_token_10 ++ []
def dkwX5_token_9 : List UInt8 := [5, 181, 0, 169, 167, 0, 21, 4, 61, 42, 27, 184, 0, 179, 153, 0, 7, 27, 167, 0, 4, 6]
abbrev dktX5_token_9 : List UInt8 := dkwX5_token_9 ++ dktX5_token_10
def dkwX5_token_8 : List UInt8 := [167, 255, 217, 42, 28, 7, 163, 0, 14, 42, 28, 182, 0, 155, 184, 0, 172, 153, 0, 7, 6, 167, 0, 4]
abbrev dktX5_token_8 : List UInt8 := dkwX5_token_8 ++ dktX5_token_9
def dkwX5_token_7 : List UInt8 := [16, 10, 42, 180, 0, 166, 104, 42, 28, 182, 0, 155, 96, 16, 48, 100, 181, 0, 166, 132, 2, 1]
abbrev dktX5_token_7 : List UInt8 := dkwX5_token_7 ++ dktX5_token_8
def dkwX5_token_6 : List UInt8 := [184, 0, 176, 153, 0, 73, 42, 28, 182, 0, 155, 184, 0, 176, 153, 0, 34, 28, 7, 162, 0, 23, 42]
abbrev dktX5_token_6 : List UInt8 := dkwX5_token_6 ++ dktX5_token_7
def dkwX5_token_5 : List UInt8 := [167, 255, 218, 42, 28, 16, 8, 164, 0, 7, 6, 167, 0, 4, 4, 181, 0, 169, 167, 0, 98, 27]
abbrev dktX5_token_5 : List UInt8 := dkwX5_token_5 ++ dktX5_token_6
def dkwX5_token_4 : List UInt8 := [162, 0, 21, 42, 42, 180, 0, 162, 16, 8, 121, 42, 28, 182, 0, 155, 133, 129, 181, 0, 162, 132, 2, 1]
abbrev dktX5_token_4 : List UInt8 := dkwX5_token_4 ++ dktX5_token_5
def dkwX5_token_3 : List UInt8 := [167, 0, 164, 27, 184, 0, 172, 153, 0, 62, 42, 28, 182, 0, 155, 184, 0, 172, 153, 0, 33, 28, 16, 8]
abbrev dktX5_token_3 : List UInt8 := dkwX5_token_3 ++ dktX5_token_4
def dkwX5_token_2 : List UInt8 := [60, 3, 61, 42, 9, 181, 0, 162, 42, 3, 181, 0, 166, 27, 156, 0, 11, 42, 3, 181, 0, 169]
abbrev dktX5_token_2 : List UInt8 := dkwX5_token_2 ++ dktX5_token_3
def dkwX5_token_1 : List UInt8 := [180, 0, 149, 4, 96, 181, 0, 149, 167, 255, 226, 42, 42, 180, 0, 149, 181, 0, 159, 42, 3, 182, 0, 155]
abbrev dktX5_token_1 : List UInt8 := dkwX5_token_1 ++ dktX5_token_2
def dkwX5_token_0 : List UInt8 := [42, 3, 182, 0, 155, 16, 32, 159, 0, 13, 42, 3, 182, 0, 155, 16, 10, 160, 0, 16, 42, 89]
abbrev dktX5_token_0 : List UInt8 := dkwX5_token_0 ++ dktX5_token_1
theorem dksX5_token_0 : cX5_token.data.toList.drop 0 = dktX5_token_0 := by decide +kernel
theorem dksX5_token_1 : cX5_token.data.toList.drop 22 = dktX5_token_1 := dk_seg dksX5_token_0 22 rfl rfl
theorem dksX5_token_2 : cX5_token.data.toList.drop 46 = dktX5_token_2 := dk_seg dksX5_token_1 24 rfl rfl
theorem dksX5_token_3 : cX5_token.data.toList.drop 68 = dktX5_token_3 := dk_seg dksX5_token_2 22 rfl rfl
theorem dksX5_token_4 : cX5_token.data.toList.drop 92 = dktX5_token_4 := dk_seg dksX5_token_3 24 rfl rfl
theorem dksX5_token_5 : cX5_token.data.toList.drop 116 = dktX5_token_5 := dk_seg dksX5_token_4 24 rfl rfl
theorem dksX5_token_6 : cX5_token.data.toList.drop 138 = dktX5_token_6 := dk_seg dksX5_token_5 22 rfl rfl
theorem dksX5_token_7 : cX5_token.data.toList.drop 161 = dktX5_token_7 := dk_seg dksX5_token_6 23 rfl rfl
theorem dksX5_token_8 : cX5_token.data.toList.drop 183 = dktX5_token_8 := dk_seg dksX5_token_7 22 rfl rfl
theorem dksX5_token_9 : cX5_token.data.toList.drop 207 = dktX5_token_9 := dk_seg dksX5_token_8 24 rfl rfl
theorem dksX5_token_10 : cX5_token.data.toList.drop 229 = dktX5_token_10 := dk_seg dksX5_token_9 22 rfl rfl
theorem dX5_token_0 : decode cX5_token 0 = .ok (.aload_n 0, 1) := dk_42 (dk_at dksX5_token_0 0 rfl rfl)
theorem dX5_token_1 : decode cX5_token 1 = .ok (.iconst 0, 1) := dk_3 (dk_at dksX5_token_0 1 rfl rfl)
theorem dX5_token_2 : decode cX5_token 2 = .ok (.invokevirtual 155, 3) := dk_182 0 155 (dk_at dksX5_token_0 2 rfl rfl)
theorem dX5_token_5 : decode cX5_token 5 = .ok (.bipush 32, 2) := dk_16 32 (dk_at dksX5_token_0 5 rfl rfl)
theorem dX5_token_7 : decode cX5_token 7 = .ok (.if_icmp .eq 13, 3) := dk_159 0 13 (dk_at dksX5_token_0 7 rfl rfl)
theorem dX5_token_10 : decode cX5_token 10 = .ok (.aload_n 0, 1) := dk_42 (dk_at dksX5_token_0 10 rfl rfl)
theorem dX5_token_11 : decode cX5_token 11 = .ok (.iconst 0, 1) := dk_3 (dk_at dksX5_token_0 11 rfl rfl)
theorem dX5_token_12 : decode cX5_token 12 = .ok (.invokevirtual 155, 3) := dk_182 0 155 (dk_at dksX5_token_0 12 rfl rfl)
theorem dX5_token_15 : decode cX5_token 15 = .ok (.bipush 10, 2) := dk_16 10 (dk_at dksX5_token_0 15 rfl rfl)
theorem dX5_token_17 : decode cX5_token 17 = .ok (.if_icmp .ne 16, 3) := dk_160 0 16 (dk_at dksX5_token_0 17 rfl rfl)
theorem dX5_token_20 : decode cX5_token 20 = .ok (.aload_n 0, 1) := dk_42 (dk_at dksX5_token_0 20 rfl rfl)
theorem dX5_token_21 : decode cX5_token 21 = .ok (.dup, 1) := dk_89 (dk_at dksX5_token_0 21 rfl rfl)
theorem dX5_token_22 : decode cX5_token 22 = .ok (.getfield 149, 3) := dk_180 0 149 (dk_at dksX5_token_1 0 rfl rfl)
theorem dX5_token_25 : decode cX5_token 25 = .ok (.iconst 1, 1) := dk_4 (dk_at dksX5_token_1 3 rfl rfl)
theorem dX5_token_26 : decode cX5_token 26 = .ok (.iadd, 1) := dk_96 (dk_at dksX5_token_1 4 rfl rfl)
theorem dX5_token_27 : decode cX5_token 27 = .ok (.putfield 149, 3) := dk_181 0 149 (dk_at dksX5_token_1 5 rfl rfl)
theorem dX5_token_30 : decode cX5_token 30 = .ok (.goto (-30), 3) := dk_167 255 226 (dk_at dksX5_token_1 8 rfl rfl)
theorem dX5_token_33 : decode cX5_token 33 = .ok (.aload_n 0, 1) := dk_42 (dk_at dksX5_token_1 11 rfl rfl)
theorem dX5_token_34 : decode cX5_token 34 = .ok (.aload_n 0, 1) := dk_42 (dk_at dksX5_token_1 12 rfl rfl)
theorem dX5_token_35 : decode cX5_token 35 = .ok (.getfield 149, 3) := dk_180 0 149 (dk_at dksX5_token_1 13 rfl rfl)
theorem dX5_token_38 : decode cX5_token 38 = .ok (.putfield 159, 3) := dk_181 0 159 (dk_at dksX5_token_1 16 rfl rfl)
theorem dX5_token_41 : decode cX5_token 41 = .ok (.aload_n 0, 1) := dk_42 (dk_at dksX5_token_1 19 rfl rfl)
theorem dX5_token_42 : decode cX5_token 42 = .ok (.iconst 0, 1) := dk_3 (dk_at dksX5_token_1 20 rfl rfl)
theorem dX5_token_43 : decode cX5_token 43 = .ok (.invokevirtual 155, 3) := dk_182 0 155 (dk_at dksX5_token_1 21 rfl rfl)
theorem dX5_token_46 : decode cX5_token 46 = .ok (.istore_n 1, 1) := dk_60 (dk_at dksX5_token_2 0 rfl rfl)
theorem dX5_token_47 : decode cX5_token 47 = .ok (.iconst 0, 1) := dk_3 (dk_at dksX5_token_2 1 rfl rfl)
theorem dX5_token_48 : decode cX5_token 48 = .ok (.istore_n 2, 1) := dk_61 (dk_at dksX5_token_2 2 rfl rfl)
theorem dX5_token_49 : decode cX5_token 49 = .ok (.aload_n 0, 1) := dk_42 (dk_at dksX5_token_2 3 rfl rfl)
theorem dX5_token_50 : decode cX5_token 50 = .ok (.lconst 0, 1) := dk_9 (dk_at dksX5_token_2 4 rfl rfl)
theorem dX5_token_51 : decode cX5_token 51 = .ok (.putfield 162, 3) := dk_181 0 162 (dk_at dksX5_token_2 5 rfl rfl)
theorem dX5_token_54 : decode cX5_token 54 = .ok (.aload_n 0, 1) := dk_42 (dk_at dksX5_token_2 8 rfl rfl)
theorem dX5_token_55 : decode cX5_token 55 = .ok (.iconst 0, 1) := dk_3 (dk_at dksX5_token_2 9 rfl rfl)
theorem dX5_token_56 : decode cX5_token 56 = .ok (.putfield 166, 3) := dk_181 0 166 (dk_at dksX5_token_2 10 rfl rfl)
theorem dX5_token_59 : decode cX5_token 59 = .ok (.iload_n 1, 1) := dk_27 (dk_at dksX5_token_2 13 rfl rfl)
theorem dX5_token_60 : decode cX5_token 60 = .ok (.ifCond .ge 11, 3) := dk_156 0 11 (dk_at dksX5_token_2 14 rfl rfl)
theorem dX5_token_63 : decode cX5_token 63 = .ok (.aload_n 0, 1) := dk_42 (dk_at dksX5_token_2 17 rfl rfl)
theorem dX5_token_64 : decode cX5_token 64 = .ok (.iconst 0, 1) := dk_3 (dk_at dksX5_token_2 18 rfl rfl)
theorem dX5_token_65 : decode cX5_token 65 = .ok (.putfield 169, 3) := dk_181 0 169 (dk_at dksX5_token_2 19 rfl rfl)
theorem dX5_token_68 : decode cX5_token 68 = .ok (.goto 164, 3) := dk_167 0 164 (dk_at dksX5_token_3 0 rfl rfl)
theorem dX5_token_71 : decode cX5_token 71 = .ok (.iload_n 1, 1) := dk_27 (dk_at dksX5_token_3 3 rfl rfl)
theorem dX5_token_72 : decode cX5_token 72 = .ok (.invokestatic 172, 3) := dk_184 0 172 (dk_at dksX5_token_3 4 rfl rfl)
theorem dX5_token_75 : decode cX5_token 75 = .ok (.ifCond .eq 62, 3) := dk_153 0 62 (dk_at dksX5_token_3 7 rfl rfl)
theorem dX5_token_78 : decode cX5_token 78 = .ok (.aload_n 0, 1) := dk_42 (dk_at dksX5_token_3 10 rfl rfl)
theorem dX5_token_79 : decode cX5_token 79 = .ok (.iload_n 2, 1) := dk_28 (dk_at dksX5_token_3 11 rfl rfl)
theorem dX5_token_80 : decode cX5_token 80 = .ok (.invokevirtual 155, 3) := dk_182 0 155 (dk_at dksX5_token_3 12 rfl rfl)
theorem dX5_token_83 : decode cX5_token 83 = .ok (.invokestatic 172, 3) := dk_184 0 172 (dk_at dksX5_token_3 15 rfl rfl)
theorem dX5_token_86 : decode cX5_token 86 = .ok (.ifCond .eq 33, 3) := dk_153 0 33 (dk_at dksX5_token_3 18 rfl rfl)
theorem dX5_token_89 : decode cX5_token 89 = .ok (.iload_n 2, 1) := dk_28 (dk_at dksX5_token_3 21 rfl rfl)
theorem dX5_token_90 : decode cX5_token 90 = .ok (.bipush 8, 2) := dk_16 8 (dk_at dksX5_token_3 22 rfl rfl)
theorem dX5_token_92 : decode cX5_token 92 = .ok (.if_icmp .ge 21, 3) := dk_162 0 21 (dk_at dksX5_token_4 0 rfl rfl)
theorem dX5_token_95 : decode cX5_token 95 = .ok (.aload_n 0, 1) := dk_42 (dk_at dksX5_token_4 3 rfl rfl)
theorem dX5_token_96 : decode cX5_token 96 = .ok (.aload_n 0, 1) := dk_42 (dk_at dksX5_token_4 4 rfl rfl)
theorem dX5_token_97 : decode cX5_token 97 = .ok (.getfield 162, 3) := dk_180 0 162 (dk_at dksX5_token_4 5 rfl rfl)
theorem dX5_token_100 : decode cX5_token 100 = .ok (.bipush 8, 2) := dk_16 8 (dk_at dksX5_token_4 8 rfl rfl)
theorem dX5_token_102 : decode cX5_token 102 = .ok (.lshl, 1) := dk_121 (dk_at dksX5_token_4 10 rfl rfl)
theorem dX5_token_103 : decode cX5_token 103 = .ok (.aload_n 0, 1) := dk_42 (dk_at dksX5_token_4 11 rfl rfl)
theorem dX5_token_104 : decode cX5_token 104 = .ok (.iload_n 2, 1) := dk_28 (dk_at dksX5_token_4 12 rfl rfl)
theorem dX5_token_105 : decode cX5_token 105 = .ok (.invokevirtual 155, 3) := dk_182 0 155 (dk_at dksX5_token_4 13 rfl rfl)
theorem dX5_token_108 : decode cX5_token 108 = .ok (.i2l, 1) := dk_133 (dk_at dksX5_token_4 16 rfl rfl)
theorem dX5_token_109 : decode cX5_token 109 = .ok (.lor, 1) := dk_129 (dk_at dksX5_token_4 17 rfl rfl)
theorem dX5_token_110 : decode cX5_token 110 = .ok (.putfield 162, 3) := dk_181 0 162 (dk_at dksX5_token_4 18 rfl rfl)
theorem dX5_token_113 : decode cX5_token 113 = .ok (.iinc 2 1, 3) := dk_132 2 1 (dk_at dksX5_token_4 21 rfl rfl)
theorem dX5_token_116 : decode cX5_token 116 = .ok (.goto (-38), 3) := dk_167 255 218 (dk_at dksX5_token_5 0 rfl rfl)
theorem dX5_token_119 : decode cX5_token 119 = .ok (.aload_n 0, 1) := dk_42 (dk_at dksX5_token_5 3 rfl rfl)
theorem dX5_token_120 : decode cX5_token 120 = .ok (.iload_n 2, 1) := dk_28 (dk_at dksX5_token_5 4 rfl rfl)
theorem dX5_token_121 : decode cX5_token 121 = .ok (.bipush 8, 2) := dk_16 8 (dk_at dksX5_token_5 5 rfl rfl)
theorem dX5_token_123 : decode cX5_token 123 = .ok (.if_icmp .le 7, 3) := dk_164 0 7 (dk_at dksX5_token_5 7 rfl rfl)
theorem dX5_token_126 : decode cX5_token 126 = .ok (.iconst 3, 1) := dk_6 (dk_at dksX5_token_5 10 rfl rfl)
theorem dX5_token_127 : decode cX5_token 127 = .ok (.goto 4, 3) := dk_167 0 4 (dk_at dksX5_token_5 11 rfl rfl)
theorem dX5_token_130 : decode cX5_token 130 = .ok (.iconst 1, 1) := dk_4 (dk_at dksX5_token_5 14 rfl rfl)
theorem dX5_token_131 : decode cX5_token 131 = .ok (.putfield 169, 3) := dk_181 0 169 (dk_at dksX5_token_5 15 rfl rfl)
theorem dX5_token_134 : decode cX5_token 134 = .ok (.goto 98, 3) := dk_167 0 98 (dk_at dksX5_token_5 18 rfl rfl)
theorem dX5_token_137 : decode cX5_token 137 = .ok (.iload_n 1, 1) := dk_27 (dk_at dksX5_token_5 21 rfl rfl)
theorem dX5_token_138 : decode cX5_token 138 = .ok (.invokestatic 176, 3) := dk_184 0 176 (dk_at dksX5_token_6 0 rfl rfl)
theorem dX5_token_141 : decode cX5_token 141 = .ok (.ifCond .eq 73, 3) := dk_153 0 73 (dk_at dksX5_token_6 3 rfl rfl)
theorem dX5_token_144 : decode cX5_token 144 = .ok (.aload_n 0, 1) := dk_42 (dk_at dksX5_token_6 6 rfl rfl)
theorem dX5_token_145 : decode cX5_token 145 = .ok (.iload_n 2, 1) := dk_28 (dk_at dksX5_token_6 7 rfl rfl)
theorem dX5_token_146 : decode cX5_token 146 = .ok (.invokevirtual 155, 3) := dk_182 0 155 (dk_at dksX5_token_6 8 rfl rfl)
theorem dX5_token_149 : decode cX5_token 149 = .ok (.invokestatic 176, 3) := dk_184 0 176 (dk_at dksX5_token_6 11 rfl rfl)
theorem dX5_token_152 : decode cX5_token 152 = .ok (.ifCond .eq 34, 3) := dk_153 0 34 (dk_at dksX5_token_6 14 rfl rfl)
theorem dX5_token_155 : decode cX5_token 155 = .ok (.iload_n 2, 1) := dk_28 (dk_at dksX5_token_6 17 rfl rfl)
theorem dX5_token_156 : decode cX5_token 156 = .ok (.iconst 4, 1) := dk_7 (dk_at dksX5_token_6 18 rfl rfl)
theorem dX5_token_157 : decode cX5_token 157 = .ok (.if_icmp .ge 23, 3) := dk_162 0 23 (dk_at dksX5_token_6 19 rfl rfl)
theorem dX5_token_160 : decode cX5_token 160 = .ok (.aload_n 0, 1) := dk_42 (dk_at dksX5_token_6 22 rfl rfl)
theorem dX5_token_161 : decode cX5_token 161 = .ok (.bipush 10, 2) := dk_16 10 (dk_at dksX5_token_7 0 rfl rfl)
theorem dX5_token_163 : decode cX5_token 163 = .ok (.aload_n 0, 1) := dk_42 (dk_at dksX5_token_7 2 rfl rfl)
theorem dX5_token_164 : decode cX5_token 164 = .ok (.getfield 166, 3) := dk_180 0 166 (dk_at dksX5_token_7 3 rfl rfl)
theorem dX5_token_167 : decode cX5_token 167 = .ok (.imul, 1) := dk_104 (dk_at dksX5_token_7 6 rfl rfl)
theorem dX5_token_168 : decode cX5_token 168 = .ok (.aload_n 0, 1) := dk_42 (dk_at dksX5_token_7 7 rfl rfl)
theorem dX5_token_169 : decode cX5_token 169 = .ok (.iload_n 2, 1) := dk_28 (dk_at dksX5_token_7 8 rfl rfl)
theorem dX5_token_170 : decode cX5_token 170 = .ok (.invokevirtual 155, 3) := dk_182 0 155 (dk_at dksX5_token_7 9 rfl rfl)
theorem dX5_token_173 : decode cX5_token 173 = .ok (.iadd, 1) := dk_96 (dk_at dksX5_token_7 12 rfl rfl)
theorem dX5_token_174 : decode cX5_token 174 = .ok (.bipush 48, 2) := dk_16 48 (dk_at dksX5_token_7 13 rfl rfl)
theorem dX5_token_176 : decode cX5_token 176 = .ok (.isub, 1) := dk_100 (dk_at dksX5_token_7 15 rfl rfl)
theorem dX5_token_177 : decode cX5_token 177 = .ok (.putfield 166, 3) := dk_181 0 166 (dk_at dksX5_token_7 16 rfl rfl)
theorem dX5_token_180 : decode cX5_token 180 = .ok (.iinc 2 1, 3) := dk_132 2 1 (dk_at dksX5_token_7 19 rfl rfl)
theorem dX5_token_183 : decode cX5_token 183 = .ok (.goto (-39), 3) := dk_167 255 217 (dk_at dksX5_token_8 0 rfl rfl)
theorem dX5_token_186 : decode cX5_token 186 = .ok (.aload_n 0, 1) := dk_42 (dk_at dksX5_token_8 3 rfl rfl)
theorem dX5_token_187 : decode cX5_token 187 = .ok (.iload_n 2, 1) := dk_28 (dk_at dksX5_token_8 4 rfl rfl)
theorem dX5_token_188 : decode cX5_token 188 = .ok (.iconst 4, 1) := dk_7 (dk_at dksX5_token_8 5 rfl rfl)
theorem dX5_token_189 : decode cX5_token 189 = .ok (.if_icmp .gt 14, 3) := dk_163 0 14 (dk_at dksX5_token_8 6 rfl rfl)
theorem dX5_token_192 : decode cX5_token 192 = .ok (.aload_n 0, 1) := dk_42 (dk_at dksX5_token_8 9 rfl rfl)
theorem dX5_token_193 : decode cX5_token 193 = .ok (.iload_n 2, 1) := dk_28 (dk_at dksX5_token_8 10 rfl rfl)
theorem dX5_token_194 : decode cX5_token 194 = .ok (.invokevirtual 155, 3) := dk_182 0 155 (dk_at dksX5_token_8 11 rfl rfl)
theorem dX5_token_197 : decode cX5_token 197 = .ok (.invokestatic 172, 3) := dk_184 0 172 (dk_at dksX5_token_8 14 rfl rfl)
theorem dX5_token_200 : decode cX5_token 200 = .ok (.ifCond .eq 7, 3) := dk_153 0 7 (dk_at dksX5_token_8 17 rfl rfl)
theorem dX5_token_203 : decode cX5_token 203 = .ok (.iconst 3, 1) := dk_6 (dk_at dksX5_token_8 20 rfl rfl)
theorem dX5_token_204 : decode cX5_token 204 = .ok (.goto 4, 3) := dk_167 0 4 (dk_at dksX5_token_8 21 rfl rfl)
theorem dX5_token_207 : decode cX5_token 207 = .ok (.iconst 2, 1) := dk_5 (dk_at dksX5_token_9 0 rfl rfl)
theorem dX5_token_208 : decode cX5_token 208 = .ok (.putfield 169, 3) := dk_181 0 169 (dk_at dksX5_token_9 1 rfl rfl)
theorem dX5_token_211 : decode cX5_token 211 = .ok (.goto 21, 3) := dk_167 0 21 (dk_at dksX5_token_9 4 rfl rfl)
theorem dX5_token_214 : decode cX5_token 214 = .ok (.iconst 1, 1) := dk_4 (dk_at dksX5_token_9 7 rfl rfl)
theorem dX5_token_215 : decode cX5_token 215 = .ok (.istore_n 2, 1) := dk_61 (dk_at dksX5_token_9 8 rfl rfl)
theorem dX5_token_216 : decode cX5_token 216 = .ok (.aload_n 0, 1) := dk_42 (dk_at dksX5_token_9 9 rfl rfl)
theorem dX5_token_217 : decode cX5_token 217 = .ok (.iload_n 1, 1) := dk_27 (dk_at dksX5_token_9 10 rfl rfl)
theorem dX5_token_218 : decode cX5_token 218 = .ok (.invokestatic 179, 3) := dk_184 0 179 (dk_at dksX5_token_9 11 rfl rfl)
theorem dX5_token_221 : decode cX5_token 221 = .ok (.ifCond .eq 7, 3) := dk_153 0 7 (dk_at dksX5_token_9 14 rfl rfl)
theorem dX5_token_224 : decode cX5_token 224 = .ok (.iload_n 1, 1) := dk_27 (dk_at dksX5_token_9 17 rfl rfl)
theorem dX5_token_225 : decode cX5_token 225 = .ok (.goto 4, 3) := dk_167 0 4 (dk_at dksX5_token_9 18 rfl rfl)
theorem dX5_token_228 : decode cX5_token 228 = .ok (.iconst 3, 1) := dk_6 (dk_at dksX5_token_9 21 rfl rfl)
theorem dX5_token_229 : decode cX5_token 229 = .ok (.putfield 169, 3) := dk_181 0 169 (dk_at dksX5_token_10 0 rfl rfl)
theorem dX5_token_232 : decode cX5_token 232 = .ok (.aload_n 0, 1) := dk_42 (dk_at dksX5_token_10 3 rfl rfl)
theorem dX5_token_233 : decode cX5_token 233 = .ok (.getfield 169, 3) := dk_180 0 169 (dk_at dksX5_token_10 4 rfl rfl)
theorem dX5_token_236 : decode cX5_token 236 = .ok (.iconst 3, 1) := dk_6 (dk_at dksX5_token_10 7 rfl rfl)
theorem dX5_token_237 : decode cX5_token 237 = .ok (.if_icmp .eq 13, 3) := dk_159 0 13 (dk_at dksX5_token_10 8 rfl rfl)
theorem dX5_token_240 : decode cX5_token 240 = .ok (.aload_n 0, 1) := dk_42 (dk_at dksX5_token_10 11 rfl rfl)
theorem dX5_token_241 : decode cX5_token 241 = .ok (.dup, 1) := dk_89 (dk_at dksX5_token_10 12 rfl rfl)
theorem dX5_token_242 : decode cX5_token 242 = .ok (.getfield 149, 3) := dk_180 0 149 (dk_at dksX5_token_10 13 rfl rfl)
theorem dX5_token_245 : decode cX5_token 245 = .ok (.iload_n 2, 1) := dk_28 (dk_at dksX5_token_10 16 rfl rfl)
theorem dX5_token_246 : decode cX5_token 246 = .ok (.iadd, 1) := dk_96 (dk_at dksX5_token_10 17 rfl rfl)
theorem dX5_token_247 : decode cX5_token 247 = .ok (.putfield 149, 3) := dk_181 0 149 (dk_at dksX5_token_10 18 rfl rfl)
theorem dX5_token_250 : decode cX5_token 250 = .ok (.return_, 1) := dk_177 (dk_at dksX5_token_10 21 rfl rfl)
abbrev cX5_here : ByteArray := prog_17_method_5_code
def yX5_here : MethodName := ⟨RX5, "here", "(I)I"⟩
def dkwX5_here_1 : List UInt8 := [167, 0, 4, 2, 172]
abbrev dktX5_here_1 : List UInt8 := dkwX5_here_1 ++ []
def dkwX5_here_0 : List UInt8 := [42, 180, 0, 149, 27, 96, 42, 180, 0, 152, 162, 0, 17, 42, 180, 0, 7, 42, 180, 0, 149, 27, 96, 46]
abbrev dktX5_here_0 : List UInt8 := dkwX5_here_0 ++ dktX5_here_1
theorem dksX5_here_0 : cX5_here.data.toList.drop 0 = dktX5_here_0 := by decide +kernel
theorem dksX5_here_1 : cX5_here.data.toList.drop 24 = dktX5_here_1 := dk_seg dksX5_here_0 24 rfl rfl
theorem dX5_here_0 : decode cX5_here 0 = .ok (.aload_n 0, 1) := dk_42 (dk_at dksX5_here_0 0 rfl rfl)
theorem dX5_here_1 : decode cX5_here 1 = .ok (.getfield 149, 3) := dk_180 0 149 (dk_at dksX5_here_0 1 rfl rfl)
theorem dX5_here_4 : decode cX5_here 4 = .ok (.iload_n 1, 1) := dk_27 (dk_at dksX5_here_0 4 rfl rfl)
theorem dX5_here_5 : decode cX5_here 5 = .ok (.iadd, 1) := dk_96 (dk_at dksX5_here_0 5 rfl rfl)
theorem dX5_here_6 : decode cX5_here 6 = .ok (.aload_n 0, 1) := dk_42 (dk_at dksX5_here_0 6 rfl rfl)
theorem dX5_here_7 : decode cX5_here 7 = .ok (.getfield 152, 3) := dk_180 0 152 (dk_at dksX5_here_0 7 rfl rfl)
theorem dX5_here_10 : decode cX5_here 10 = .ok (.if_icmp .ge 17, 3) := dk_162 0 17 (dk_at dksX5_here_0 10 rfl rfl)
theorem dX5_here_13 : decode cX5_here 13 = .ok (.aload_n 0, 1) := dk_42 (dk_at dksX5_here_0 13 rfl rfl)
theorem dX5_here_14 : decode cX5_here 14 = .ok (.getfield 7, 3) := dk_180 0 7 (dk_at dksX5_here_0 14 rfl rfl)
theorem dX5_here_17 : decode cX5_here 17 = .ok (.aload_n 0, 1) := dk_42 (dk_at dksX5_here_0 17 rfl rfl)
theorem dX5_here_18 : decode cX5_here 18 = .ok (.getfield 149, 3) := dk_180 0 149 (dk_at dksX5_here_0 18 rfl rfl)
theorem dX5_here_21 : decode cX5_here 21 = .ok (.iload_n 1, 1) := dk_27 (dk_at dksX5_here_0 21 rfl rfl)
theorem dX5_here_22 : decode cX5_here 22 = .ok (.iadd, 1) := dk_96 (dk_at dksX5_here_0 22 rfl rfl)
theorem dX5_here_23 : decode cX5_here 23 = .ok (.iaload, 1) := dk_46 (dk_at dksX5_here_0 23 rfl rfl)
theorem dX5_here_24 : decode cX5_here 24 = .ok (.goto 4, 3) := dk_167 0 4 (dk_at dksX5_here_1 0 rfl rfl)
theorem dX5_here_27 : decode cX5_here 27 = .ok (.iconst (-1), 1) := dk_2 (dk_at dksX5_here_1 3 rfl rfl)
theorem dX5_here_28 : decode cX5_here 28 = .ok (.ireturn, 1) := dk_172 (dk_at dksX5_here_1 4 rfl rfl)
abbrev cX5_isLetter : ByteArray := prog_17_method_6_code
def yX5_isLetter : MethodName := ⟨RX5, "isLetter", "(I)Z"⟩
def dkwX5_isLetter_0 : List UInt8 := [26, 16, 97, 161, 0, 13, 26, 16, 122, 163, 0, 7, 4, 167, 0, 4, 3, 172]
abbrev dktX5_isLetter_0 : List UInt8 := dkwX5_isLetter_0 ++ []
theorem dksX5_isLetter_0 : cX5_isLetter.data.toList.drop 0 = dktX5_isLetter_0 := by decide +kernel
theorem dX5_isLetter_0 : decode cX5_isLetter 0 = .ok (.iload_n 0, 1) := dk_26 (dk_at dksX5_isLetter_0 0 rfl rfl)
theorem dX5_isLetter_1 : decode cX5_isLetter 1 = .ok (.bipush 97, 2) := dk_16 97 (dk_at dksX5_isLetter_0 1 rfl rfl)
theorem dX5_isLetter_3 : decode cX5_isLetter 3 = .ok (.if_icmp .lt 13, 3) := dk_161 0 13 (dk_at dksX5_isLetter_0 3 rfl rfl)
theorem dX5_isLetter_6 : decode cX5_isLetter 6 = .ok (.iload_n 0, 1) := dk_26 (dk_at dksX5_isLetter_0 6 rfl rfl)
theorem dX5_isLetter_7 : decode cX5_isLetter 7 = .ok (.bipush 122, 2) := dk_16 122 (dk_at dksX5_isLetter_0 7 rfl rfl)
theorem dX5_isLetter_9 : decode cX5_isLetter 9 = .ok (.if_icmp .gt 7, 3) := dk_163 0 7 (dk_at dksX5_isLetter_0 9 rfl rfl)
theorem dX5_isLetter_12 : decode cX5_isLetter 12 = .ok (.iconst 1, 1) := dk_4 (dk_at dksX5_isLetter_0 12 rfl rfl)
theorem dX5_isLetter_13 : decode cX5_isLetter 13 = .ok (.goto 4, 3) := dk_167 0 4 (dk_at dksX5_isLetter_0 13 rfl rfl)
theorem dX5_isLetter_16 : decode cX5_isLetter 16 = .ok (.iconst 0, 1) := dk_3 (dk_at dksX5_isLetter_0 16 rfl rfl)
theorem dX5_isLetter_17 : decode cX5_isLetter 17 = .ok (.ireturn, 1) := dk_172 (dk_at dksX5_isLetter_0 17 rfl rfl)
abbrev cX5_isDigit : ByteArray := prog_17_method_7_code
def yX5_isDigit : MethodName := ⟨RX5, "isDigit", "(I)Z"⟩
def dkwX5_isDigit_0 : List UInt8 := [26, 16, 48, 161, 0, 13, 26, 16, 57, 163, 0, 7, 4, 167, 0, 4, 3, 172]
abbrev dktX5_isDigit_0 : List UInt8 := dkwX5_isDigit_0 ++ []
theorem dksX5_isDigit_0 : cX5_isDigit.data.toList.drop 0 = dktX5_isDigit_0 := by decide +kernel
theorem dX5_isDigit_0 : decode cX5_isDigit 0 = .ok (.iload_n 0, 1) := dk_26 (dk_at dksX5_isDigit_0 0 rfl rfl)
theorem dX5_isDigit_1 : decode cX5_isDigit 1 = .ok (.bipush 48, 2) := dk_16 48 (dk_at dksX5_isDigit_0 1 rfl rfl)
theorem dX5_isDigit_3 : decode cX5_isDigit 3 = .ok (.if_icmp .lt 13, 3) := dk_161 0 13 (dk_at dksX5_isDigit_0 3 rfl rfl)
theorem dX5_isDigit_6 : decode cX5_isDigit 6 = .ok (.iload_n 0, 1) := dk_26 (dk_at dksX5_isDigit_0 6 rfl rfl)
theorem dX5_isDigit_7 : decode cX5_isDigit 7 = .ok (.bipush 57, 2) := dk_16 57 (dk_at dksX5_isDigit_0 7 rfl rfl)
theorem dX5_isDigit_9 : decode cX5_isDigit 9 = .ok (.if_icmp .gt 7, 3) := dk_163 0 7 (dk_at dksX5_isDigit_0 9 rfl rfl)
theorem dX5_isDigit_12 : decode cX5_isDigit 12 = .ok (.iconst 1, 1) := dk_4 (dk_at dksX5_isDigit_0 12 rfl rfl)
theorem dX5_isDigit_13 : decode cX5_isDigit 13 = .ok (.goto 4, 3) := dk_167 0 4 (dk_at dksX5_isDigit_0 13 rfl rfl)
theorem dX5_isDigit_16 : decode cX5_isDigit 16 = .ok (.iconst 0, 1) := dk_3 (dk_at dksX5_isDigit_0 16 rfl rfl)
theorem dX5_isDigit_17 : decode cX5_isDigit 17 = .ok (.ireturn, 1) := dk_172 (dk_at dksX5_isDigit_0 17 rfl rfl)
abbrev cX5_isSign : ByteArray := prog_17_method_8_code
def yX5_isSign : MethodName := ⟨RX5, "isSign", "(I)Z"⟩
def dkwX5_isSign_2 : List UInt8 := [26, 16, 42, 159, 0, 15, 26, 16, 47, 159, 0, 9, 26, 16, 37, 160, 0, 7, 4, 167, 0, 4, 3, 172]
abbrev dktX5_isSign_2 : List UInt8 := dkwX5_isSign_2 ++ []
def dkwX5_isSign_1 : List UInt8 := [26, 16, 62, 159, 0, 39, 26, 16, 61, 159, 0, 33, 26, 16, 43, 159, 0, 27, 26, 16, 45, 159, 0, 21]
abbrev dktX5_isSign_1 : List UInt8 := dkwX5_isSign_1 ++ dktX5_isSign_2
def dkwX5_isSign_0 : List UInt8 := [26, 16, 59, 159, 0, 63, 26, 16, 40, 159, 0, 57, 26, 16, 41, 159, 0, 51, 26, 16, 60, 159, 0, 45]
abbrev dktX5_isSign_0 : List UInt8 := dkwX5_isSign_0 ++ dktX5_isSign_1
theorem dksX5_isSign_0 : cX5_isSign.data.toList.drop 0 = dktX5_isSign_0 := by decide +kernel
theorem dksX5_isSign_1 : cX5_isSign.data.toList.drop 24 = dktX5_isSign_1 := dk_seg dksX5_isSign_0 24 rfl rfl
theorem dksX5_isSign_2 : cX5_isSign.data.toList.drop 48 = dktX5_isSign_2 := dk_seg dksX5_isSign_1 24 rfl rfl
theorem dX5_isSign_0 : decode cX5_isSign 0 = .ok (.iload_n 0, 1) := dk_26 (dk_at dksX5_isSign_0 0 rfl rfl)
theorem dX5_isSign_1 : decode cX5_isSign 1 = .ok (.bipush 59, 2) := dk_16 59 (dk_at dksX5_isSign_0 1 rfl rfl)
theorem dX5_isSign_3 : decode cX5_isSign 3 = .ok (.if_icmp .eq 63, 3) := dk_159 0 63 (dk_at dksX5_isSign_0 3 rfl rfl)
theorem dX5_isSign_6 : decode cX5_isSign 6 = .ok (.iload_n 0, 1) := dk_26 (dk_at dksX5_isSign_0 6 rfl rfl)
theorem dX5_isSign_7 : decode cX5_isSign 7 = .ok (.bipush 40, 2) := dk_16 40 (dk_at dksX5_isSign_0 7 rfl rfl)
theorem dX5_isSign_9 : decode cX5_isSign 9 = .ok (.if_icmp .eq 57, 3) := dk_159 0 57 (dk_at dksX5_isSign_0 9 rfl rfl)
theorem dX5_isSign_12 : decode cX5_isSign 12 = .ok (.iload_n 0, 1) := dk_26 (dk_at dksX5_isSign_0 12 rfl rfl)
theorem dX5_isSign_13 : decode cX5_isSign 13 = .ok (.bipush 41, 2) := dk_16 41 (dk_at dksX5_isSign_0 13 rfl rfl)
theorem dX5_isSign_15 : decode cX5_isSign 15 = .ok (.if_icmp .eq 51, 3) := dk_159 0 51 (dk_at dksX5_isSign_0 15 rfl rfl)
theorem dX5_isSign_18 : decode cX5_isSign 18 = .ok (.iload_n 0, 1) := dk_26 (dk_at dksX5_isSign_0 18 rfl rfl)
theorem dX5_isSign_19 : decode cX5_isSign 19 = .ok (.bipush 60, 2) := dk_16 60 (dk_at dksX5_isSign_0 19 rfl rfl)
theorem dX5_isSign_21 : decode cX5_isSign 21 = .ok (.if_icmp .eq 45, 3) := dk_159 0 45 (dk_at dksX5_isSign_0 21 rfl rfl)
theorem dX5_isSign_24 : decode cX5_isSign 24 = .ok (.iload_n 0, 1) := dk_26 (dk_at dksX5_isSign_1 0 rfl rfl)
theorem dX5_isSign_25 : decode cX5_isSign 25 = .ok (.bipush 62, 2) := dk_16 62 (dk_at dksX5_isSign_1 1 rfl rfl)
theorem dX5_isSign_27 : decode cX5_isSign 27 = .ok (.if_icmp .eq 39, 3) := dk_159 0 39 (dk_at dksX5_isSign_1 3 rfl rfl)
theorem dX5_isSign_30 : decode cX5_isSign 30 = .ok (.iload_n 0, 1) := dk_26 (dk_at dksX5_isSign_1 6 rfl rfl)
theorem dX5_isSign_31 : decode cX5_isSign 31 = .ok (.bipush 61, 2) := dk_16 61 (dk_at dksX5_isSign_1 7 rfl rfl)
theorem dX5_isSign_33 : decode cX5_isSign 33 = .ok (.if_icmp .eq 33, 3) := dk_159 0 33 (dk_at dksX5_isSign_1 9 rfl rfl)
theorem dX5_isSign_36 : decode cX5_isSign 36 = .ok (.iload_n 0, 1) := dk_26 (dk_at dksX5_isSign_1 12 rfl rfl)
theorem dX5_isSign_37 : decode cX5_isSign 37 = .ok (.bipush 43, 2) := dk_16 43 (dk_at dksX5_isSign_1 13 rfl rfl)
theorem dX5_isSign_39 : decode cX5_isSign 39 = .ok (.if_icmp .eq 27, 3) := dk_159 0 27 (dk_at dksX5_isSign_1 15 rfl rfl)
theorem dX5_isSign_42 : decode cX5_isSign 42 = .ok (.iload_n 0, 1) := dk_26 (dk_at dksX5_isSign_1 18 rfl rfl)
theorem dX5_isSign_43 : decode cX5_isSign 43 = .ok (.bipush 45, 2) := dk_16 45 (dk_at dksX5_isSign_1 19 rfl rfl)
theorem dX5_isSign_45 : decode cX5_isSign 45 = .ok (.if_icmp .eq 21, 3) := dk_159 0 21 (dk_at dksX5_isSign_1 21 rfl rfl)
theorem dX5_isSign_48 : decode cX5_isSign 48 = .ok (.iload_n 0, 1) := dk_26 (dk_at dksX5_isSign_2 0 rfl rfl)
theorem dX5_isSign_49 : decode cX5_isSign 49 = .ok (.bipush 42, 2) := dk_16 42 (dk_at dksX5_isSign_2 1 rfl rfl)
theorem dX5_isSign_51 : decode cX5_isSign 51 = .ok (.if_icmp .eq 15, 3) := dk_159 0 15 (dk_at dksX5_isSign_2 3 rfl rfl)
theorem dX5_isSign_54 : decode cX5_isSign 54 = .ok (.iload_n 0, 1) := dk_26 (dk_at dksX5_isSign_2 6 rfl rfl)
theorem dX5_isSign_55 : decode cX5_isSign 55 = .ok (.bipush 47, 2) := dk_16 47 (dk_at dksX5_isSign_2 7 rfl rfl)
theorem dX5_isSign_57 : decode cX5_isSign 57 = .ok (.if_icmp .eq 9, 3) := dk_159 0 9 (dk_at dksX5_isSign_2 9 rfl rfl)
theorem dX5_isSign_60 : decode cX5_isSign 60 = .ok (.iload_n 0, 1) := dk_26 (dk_at dksX5_isSign_2 12 rfl rfl)
theorem dX5_isSign_61 : decode cX5_isSign 61 = .ok (.bipush 37, 2) := dk_16 37 (dk_at dksX5_isSign_2 13 rfl rfl)
theorem dX5_isSign_63 : decode cX5_isSign 63 = .ok (.if_icmp .ne 7, 3) := dk_160 0 7 (dk_at dksX5_isSign_2 15 rfl rfl)
theorem dX5_isSign_66 : decode cX5_isSign 66 = .ok (.iconst 1, 1) := dk_4 (dk_at dksX5_isSign_2 18 rfl rfl)
theorem dX5_isSign_67 : decode cX5_isSign 67 = .ok (.goto 4, 3) := dk_167 0 4 (dk_at dksX5_isSign_2 19 rfl rfl)
theorem dX5_isSign_70 : decode cX5_isSign 70 = .ok (.iconst 0, 1) := dk_3 (dk_at dksX5_isSign_2 22 rfl rfl)
theorem dX5_isSign_71 : decode cX5_isSign 71 = .ok (.ireturn, 1) := dk_172 (dk_at dksX5_isSign_2 23 rfl rfl)
abbrev cX5_readLine : ByteArray := prog_17_method_38_code
def yX5_readLine : MethodName := ⟨RX5, "readLine", "()V"⟩
def dkwX5_readLine_8 : List UInt8 := [177]
abbrev dktX5_readLine_8 : List UInt8 := dkwX5_readLine_8 ++ []
def dkwX5_readLine_7 : List UInt8 := [180, 0, 169, 16, 59, 159, 0, 8, 42, 5, 182, 0, 227, 42, 180, 0, 182, 154, 0, 7, 42, 182, 0, 230]
abbrev dktX5_readLine_7 : List UInt8 := dkwX5_readLine_7 ++ dktX5_readLine_8
def dkwX5_readLine_6 : List UInt8 := [181, 1, 85, 167, 0, 8, 42, 5, 182, 0, 227, 42, 4, 181, 1, 69, 42, 180, 0, 182, 154, 0, 17, 42]
abbrev dktX5_readLine_6 : List UInt8 := dkwX5_readLine_6 ++ dktX5_readLine_7
def dkwX5_readLine_5 : List UInt8 := [180, 1, 82, 154, 0, 26, 42, 4, 181, 1, 82, 42, 42, 20, 0, 205, 3, 17, 3, 231, 182, 0, 241]
abbrev dktX5_readLine_5 : List UInt8 := dkwX5_readLine_5 ++ dktX5_readLine_6
def dkwX5_readLine_4 : List UInt8 := [154, 0, 11, 42, 4, 182, 1, 79, 167, 0, 48, 42, 20, 0, 205, 182, 0, 223, 153, 0, 33, 42]
abbrev dktX5_readLine_4 : List UInt8 := dkwX5_readLine_4 ++ dktX5_readLine_5
def dkwX5_readLine_3 : List UInt8 := [182, 1, 79, 167, 0, 75, 42, 20, 0, 203, 182, 0, 223, 153, 0, 20, 42, 180, 0, 45, 4, 51]
abbrev dktX5_readLine_3 : List UInt8 := dkwX5_readLine_3 ++ dktX5_readLine_4
def dkwX5_readLine_2 : List UInt8 := [167, 0, 102, 42, 20, 0, 201, 182, 0, 223, 153, 0, 20, 42, 180, 0, 45, 3, 51, 154, 0, 11, 42, 3]
abbrev dktX5_readLine_2 : List UInt8 := dkwX5_readLine_2 ++ dktX5_readLine_3
def dkwX5_readLine_1 : List UInt8 := [42, 20, 0, 189, 182, 0, 223, 153, 0, 19, 42, 180, 0, 248, 16, 8, 162, 0, 10, 42, 182, 1, 76]
abbrev dktX5_readLine_1 : List UInt8 := dkwX5_readLine_1 ++ dktX5_readLine_2
def dkwX5_readLine_0 : List UInt8 := [42, 20, 0, 185, 182, 0, 223, 153, 0, 17, 42, 180, 1, 69, 154, 0, 10, 42, 182, 1, 73, 167, 0, 128]
abbrev dktX5_readLine_0 : List UInt8 := dkwX5_readLine_0 ++ dktX5_readLine_1
theorem dksX5_readLine_0 : cX5_readLine.data.toList.drop 0 = dktX5_readLine_0 := by decide +kernel
theorem dksX5_readLine_1 : cX5_readLine.data.toList.drop 24 = dktX5_readLine_1 := dk_seg dksX5_readLine_0 24 rfl rfl
theorem dksX5_readLine_2 : cX5_readLine.data.toList.drop 47 = dktX5_readLine_2 := dk_seg dksX5_readLine_1 23 rfl rfl
theorem dksX5_readLine_3 : cX5_readLine.data.toList.drop 71 = dktX5_readLine_3 := dk_seg dksX5_readLine_2 24 rfl rfl
theorem dksX5_readLine_4 : cX5_readLine.data.toList.drop 93 = dktX5_readLine_4 := dk_seg dksX5_readLine_3 22 rfl rfl
theorem dksX5_readLine_5 : cX5_readLine.data.toList.drop 115 = dktX5_readLine_5 := dk_seg dksX5_readLine_4 22 rfl rfl
theorem dksX5_readLine_6 : cX5_readLine.data.toList.drop 138 = dktX5_readLine_6 := dk_seg dksX5_readLine_5 23 rfl rfl
theorem dksX5_readLine_7 : cX5_readLine.data.toList.drop 162 = dktX5_readLine_7 := dk_seg dksX5_readLine_6 24 rfl rfl
theorem dksX5_readLine_8 : cX5_readLine.data.toList.drop 186 = dktX5_readLine_8 := dk_seg dksX5_readLine_7 24 rfl rfl
theorem dX5_readLine_0 : decode cX5_readLine 0 = .ok (.aload_n 0, 1) := dk_42 (dk_at dksX5_readLine_0 0 rfl rfl)
theorem dX5_readLine_1 : decode cX5_readLine 1 = .ok (.ldc2_w 185, 3) := dk_20 0 185 (dk_at dksX5_readLine_0 1 rfl rfl)
theorem dX5_readLine_4 : decode cX5_readLine 4 = .ok (.invokevirtual 223, 3) := dk_182 0 223 (dk_at dksX5_readLine_0 4 rfl rfl)
theorem dX5_readLine_7 : decode cX5_readLine 7 = .ok (.ifCond .eq 17, 3) := dk_153 0 17 (dk_at dksX5_readLine_0 7 rfl rfl)
theorem dX5_readLine_10 : decode cX5_readLine 10 = .ok (.aload_n 0, 1) := dk_42 (dk_at dksX5_readLine_0 10 rfl rfl)
theorem dX5_readLine_11 : decode cX5_readLine 11 = .ok (.getfield 325, 3) := dk_180 1 69 (dk_at dksX5_readLine_0 11 rfl rfl)
theorem dX5_readLine_14 : decode cX5_readLine 14 = .ok (.ifCond .ne 10, 3) := dk_154 0 10 (dk_at dksX5_readLine_0 14 rfl rfl)
theorem dX5_readLine_17 : decode cX5_readLine 17 = .ok (.aload_n 0, 1) := dk_42 (dk_at dksX5_readLine_0 17 rfl rfl)
theorem dX5_readLine_18 : decode cX5_readLine 18 = .ok (.invokevirtual 329, 3) := dk_182 1 73 (dk_at dksX5_readLine_0 18 rfl rfl)
theorem dX5_readLine_21 : decode cX5_readLine 21 = .ok (.goto 128, 3) := dk_167 0 128 (dk_at dksX5_readLine_0 21 rfl rfl)
theorem dX5_readLine_24 : decode cX5_readLine 24 = .ok (.aload_n 0, 1) := dk_42 (dk_at dksX5_readLine_1 0 rfl rfl)
theorem dX5_readLine_25 : decode cX5_readLine 25 = .ok (.ldc2_w 189, 3) := dk_20 0 189 (dk_at dksX5_readLine_1 1 rfl rfl)
theorem dX5_readLine_28 : decode cX5_readLine 28 = .ok (.invokevirtual 223, 3) := dk_182 0 223 (dk_at dksX5_readLine_1 4 rfl rfl)
theorem dX5_readLine_31 : decode cX5_readLine 31 = .ok (.ifCond .eq 19, 3) := dk_153 0 19 (dk_at dksX5_readLine_1 7 rfl rfl)
theorem dX5_readLine_34 : decode cX5_readLine 34 = .ok (.aload_n 0, 1) := dk_42 (dk_at dksX5_readLine_1 10 rfl rfl)
theorem dX5_readLine_35 : decode cX5_readLine 35 = .ok (.getfield 248, 3) := dk_180 0 248 (dk_at dksX5_readLine_1 11 rfl rfl)
theorem dX5_readLine_38 : decode cX5_readLine 38 = .ok (.bipush 8, 2) := dk_16 8 (dk_at dksX5_readLine_1 14 rfl rfl)
theorem dX5_readLine_40 : decode cX5_readLine 40 = .ok (.if_icmp .ge 10, 3) := dk_162 0 10 (dk_at dksX5_readLine_1 16 rfl rfl)
theorem dX5_readLine_43 : decode cX5_readLine 43 = .ok (.aload_n 0, 1) := dk_42 (dk_at dksX5_readLine_1 19 rfl rfl)
theorem dX5_readLine_44 : decode cX5_readLine 44 = .ok (.invokevirtual 332, 3) := dk_182 1 76 (dk_at dksX5_readLine_1 20 rfl rfl)
theorem dX5_readLine_47 : decode cX5_readLine 47 = .ok (.goto 102, 3) := dk_167 0 102 (dk_at dksX5_readLine_2 0 rfl rfl)
theorem dX5_readLine_50 : decode cX5_readLine 50 = .ok (.aload_n 0, 1) := dk_42 (dk_at dksX5_readLine_2 3 rfl rfl)
theorem dX5_readLine_51 : decode cX5_readLine 51 = .ok (.ldc2_w 201, 3) := dk_20 0 201 (dk_at dksX5_readLine_2 4 rfl rfl)
theorem dX5_readLine_54 : decode cX5_readLine 54 = .ok (.invokevirtual 223, 3) := dk_182 0 223 (dk_at dksX5_readLine_2 7 rfl rfl)
theorem dX5_readLine_57 : decode cX5_readLine 57 = .ok (.ifCond .eq 20, 3) := dk_153 0 20 (dk_at dksX5_readLine_2 10 rfl rfl)
theorem dX5_readLine_60 : decode cX5_readLine 60 = .ok (.aload_n 0, 1) := dk_42 (dk_at dksX5_readLine_2 13 rfl rfl)
theorem dX5_readLine_61 : decode cX5_readLine 61 = .ok (.getfield 45, 3) := dk_180 0 45 (dk_at dksX5_readLine_2 14 rfl rfl)
theorem dX5_readLine_64 : decode cX5_readLine 64 = .ok (.iconst 0, 1) := dk_3 (dk_at dksX5_readLine_2 17 rfl rfl)
theorem dX5_readLine_65 : decode cX5_readLine 65 = .ok (.baload, 1) := dk_51 (dk_at dksX5_readLine_2 18 rfl rfl)
theorem dX5_readLine_66 : decode cX5_readLine 66 = .ok (.ifCond .ne 11, 3) := dk_154 0 11 (dk_at dksX5_readLine_2 19 rfl rfl)
theorem dX5_readLine_69 : decode cX5_readLine 69 = .ok (.aload_n 0, 1) := dk_42 (dk_at dksX5_readLine_2 22 rfl rfl)
theorem dX5_readLine_70 : decode cX5_readLine 70 = .ok (.iconst 0, 1) := dk_3 (dk_at dksX5_readLine_2 23 rfl rfl)
theorem dX5_readLine_71 : decode cX5_readLine 71 = .ok (.invokevirtual 335, 3) := dk_182 1 79 (dk_at dksX5_readLine_3 0 rfl rfl)
theorem dX5_readLine_74 : decode cX5_readLine 74 = .ok (.goto 75, 3) := dk_167 0 75 (dk_at dksX5_readLine_3 3 rfl rfl)
theorem dX5_readLine_77 : decode cX5_readLine 77 = .ok (.aload_n 0, 1) := dk_42 (dk_at dksX5_readLine_3 6 rfl rfl)
theorem dX5_readLine_78 : decode cX5_readLine 78 = .ok (.ldc2_w 203, 3) := dk_20 0 203 (dk_at dksX5_readLine_3 7 rfl rfl)
theorem dX5_readLine_81 : decode cX5_readLine 81 = .ok (.invokevirtual 223, 3) := dk_182 0 223 (dk_at dksX5_readLine_3 10 rfl rfl)
theorem dX5_readLine_84 : decode cX5_readLine 84 = .ok (.ifCond .eq 20, 3) := dk_153 0 20 (dk_at dksX5_readLine_3 13 rfl rfl)
theorem dX5_readLine_87 : decode cX5_readLine 87 = .ok (.aload_n 0, 1) := dk_42 (dk_at dksX5_readLine_3 16 rfl rfl)
theorem dX5_readLine_88 : decode cX5_readLine 88 = .ok (.getfield 45, 3) := dk_180 0 45 (dk_at dksX5_readLine_3 17 rfl rfl)
theorem dX5_readLine_91 : decode cX5_readLine 91 = .ok (.iconst 1, 1) := dk_4 (dk_at dksX5_readLine_3 20 rfl rfl)
theorem dX5_readLine_92 : decode cX5_readLine 92 = .ok (.baload, 1) := dk_51 (dk_at dksX5_readLine_3 21 rfl rfl)
theorem dX5_readLine_93 : decode cX5_readLine 93 = .ok (.ifCond .ne 11, 3) := dk_154 0 11 (dk_at dksX5_readLine_4 0 rfl rfl)
theorem dX5_readLine_96 : decode cX5_readLine 96 = .ok (.aload_n 0, 1) := dk_42 (dk_at dksX5_readLine_4 3 rfl rfl)
theorem dX5_readLine_97 : decode cX5_readLine 97 = .ok (.iconst 1, 1) := dk_4 (dk_at dksX5_readLine_4 4 rfl rfl)
theorem dX5_readLine_98 : decode cX5_readLine 98 = .ok (.invokevirtual 335, 3) := dk_182 1 79 (dk_at dksX5_readLine_4 5 rfl rfl)
theorem dX5_readLine_101 : decode cX5_readLine 101 = .ok (.goto 48, 3) := dk_167 0 48 (dk_at dksX5_readLine_4 8 rfl rfl)
theorem dX5_readLine_104 : decode cX5_readLine 104 = .ok (.aload_n 0, 1) := dk_42 (dk_at dksX5_readLine_4 11 rfl rfl)
theorem dX5_readLine_105 : decode cX5_readLine 105 = .ok (.ldc2_w 205, 3) := dk_20 0 205 (dk_at dksX5_readLine_4 12 rfl rfl)
theorem dX5_readLine_108 : decode cX5_readLine 108 = .ok (.invokevirtual 223, 3) := dk_182 0 223 (dk_at dksX5_readLine_4 15 rfl rfl)
theorem dX5_readLine_111 : decode cX5_readLine 111 = .ok (.ifCond .eq 33, 3) := dk_153 0 33 (dk_at dksX5_readLine_4 18 rfl rfl)
theorem dX5_readLine_114 : decode cX5_readLine 114 = .ok (.aload_n 0, 1) := dk_42 (dk_at dksX5_readLine_4 21 rfl rfl)
theorem dX5_readLine_115 : decode cX5_readLine 115 = .ok (.getfield 338, 3) := dk_180 1 82 (dk_at dksX5_readLine_5 0 rfl rfl)
theorem dX5_readLine_118 : decode cX5_readLine 118 = .ok (.ifCond .ne 26, 3) := dk_154 0 26 (dk_at dksX5_readLine_5 3 rfl rfl)
theorem dX5_readLine_121 : decode cX5_readLine 121 = .ok (.aload_n 0, 1) := dk_42 (dk_at dksX5_readLine_5 6 rfl rfl)
theorem dX5_readLine_122 : decode cX5_readLine 122 = .ok (.iconst 1, 1) := dk_4 (dk_at dksX5_readLine_5 7 rfl rfl)
theorem dX5_readLine_123 : decode cX5_readLine 123 = .ok (.putfield 338, 3) := dk_181 1 82 (dk_at dksX5_readLine_5 8 rfl rfl)
theorem dX5_readLine_126 : decode cX5_readLine 126 = .ok (.aload_n 0, 1) := dk_42 (dk_at dksX5_readLine_5 11 rfl rfl)
theorem dX5_readLine_127 : decode cX5_readLine 127 = .ok (.aload_n 0, 1) := dk_42 (dk_at dksX5_readLine_5 12 rfl rfl)
theorem dX5_readLine_128 : decode cX5_readLine 128 = .ok (.ldc2_w 205, 3) := dk_20 0 205 (dk_at dksX5_readLine_5 13 rfl rfl)
theorem dX5_readLine_131 : decode cX5_readLine 131 = .ok (.iconst 0, 1) := dk_3 (dk_at dksX5_readLine_5 16 rfl rfl)
theorem dX5_readLine_132 : decode cX5_readLine 132 = .ok (.sipush 999, 3) := dk_17 3 231 (dk_at dksX5_readLine_5 17 rfl rfl)
theorem dX5_readLine_135 : decode cX5_readLine 135 = .ok (.invokevirtual 241, 3) := dk_182 0 241 (dk_at dksX5_readLine_5 20 rfl rfl)
theorem dX5_readLine_138 : decode cX5_readLine 138 = .ok (.putfield 341, 3) := dk_181 1 85 (dk_at dksX5_readLine_6 0 rfl rfl)
theorem dX5_readLine_141 : decode cX5_readLine 141 = .ok (.goto 8, 3) := dk_167 0 8 (dk_at dksX5_readLine_6 3 rfl rfl)
theorem dX5_readLine_144 : decode cX5_readLine 144 = .ok (.aload_n 0, 1) := dk_42 (dk_at dksX5_readLine_6 6 rfl rfl)
theorem dX5_readLine_145 : decode cX5_readLine 145 = .ok (.iconst 2, 1) := dk_5 (dk_at dksX5_readLine_6 7 rfl rfl)
theorem dX5_readLine_146 : decode cX5_readLine 146 = .ok (.invokevirtual 227, 3) := dk_182 0 227 (dk_at dksX5_readLine_6 8 rfl rfl)
theorem dX5_readLine_149 : decode cX5_readLine 149 = .ok (.aload_n 0, 1) := dk_42 (dk_at dksX5_readLine_6 11 rfl rfl)
theorem dX5_readLine_150 : decode cX5_readLine 150 = .ok (.iconst 1, 1) := dk_4 (dk_at dksX5_readLine_6 12 rfl rfl)
theorem dX5_readLine_151 : decode cX5_readLine 151 = .ok (.putfield 325, 3) := dk_181 1 69 (dk_at dksX5_readLine_6 13 rfl rfl)
theorem dX5_readLine_154 : decode cX5_readLine 154 = .ok (.aload_n 0, 1) := dk_42 (dk_at dksX5_readLine_6 16 rfl rfl)
theorem dX5_readLine_155 : decode cX5_readLine 155 = .ok (.getfield 182, 3) := dk_180 0 182 (dk_at dksX5_readLine_6 17 rfl rfl)
theorem dX5_readLine_158 : decode cX5_readLine 158 = .ok (.ifCond .ne 17, 3) := dk_154 0 17 (dk_at dksX5_readLine_6 20 rfl rfl)
theorem dX5_readLine_161 : decode cX5_readLine 161 = .ok (.aload_n 0, 1) := dk_42 (dk_at dksX5_readLine_6 23 rfl rfl)
theorem dX5_readLine_162 : decode cX5_readLine 162 = .ok (.getfield 169, 3) := dk_180 0 169 (dk_at dksX5_readLine_7 0 rfl rfl)
theorem dX5_readLine_165 : decode cX5_readLine 165 = .ok (.bipush 59, 2) := dk_16 59 (dk_at dksX5_readLine_7 3 rfl rfl)
theorem dX5_readLine_167 : decode cX5_readLine 167 = .ok (.if_icmp .eq 8, 3) := dk_159 0 8 (dk_at dksX5_readLine_7 5 rfl rfl)
theorem dX5_readLine_170 : decode cX5_readLine 170 = .ok (.aload_n 0, 1) := dk_42 (dk_at dksX5_readLine_7 8 rfl rfl)
theorem dX5_readLine_171 : decode cX5_readLine 171 = .ok (.iconst 2, 1) := dk_5 (dk_at dksX5_readLine_7 9 rfl rfl)
theorem dX5_readLine_172 : decode cX5_readLine 172 = .ok (.invokevirtual 227, 3) := dk_182 0 227 (dk_at dksX5_readLine_7 10 rfl rfl)
theorem dX5_readLine_175 : decode cX5_readLine 175 = .ok (.aload_n 0, 1) := dk_42 (dk_at dksX5_readLine_7 13 rfl rfl)
theorem dX5_readLine_176 : decode cX5_readLine 176 = .ok (.getfield 182, 3) := dk_180 0 182 (dk_at dksX5_readLine_7 14 rfl rfl)
theorem dX5_readLine_179 : decode cX5_readLine 179 = .ok (.ifCond .ne 7, 3) := dk_154 0 7 (dk_at dksX5_readLine_7 17 rfl rfl)
theorem dX5_readLine_182 : decode cX5_readLine 182 = .ok (.aload_n 0, 1) := dk_42 (dk_at dksX5_readLine_7 20 rfl rfl)
theorem dX5_readLine_183 : decode cX5_readLine 183 = .ok (.invokevirtual 230, 3) := dk_182 0 230 (dk_at dksX5_readLine_7 21 rfl rfl)
theorem dX5_readLine_186 : decode cX5_readLine 186 = .ok (.return_, 1) := dk_177 (dk_at dksX5_readLine_8 0 rfl rfl)
abbrev cX5_isWord : ByteArray := prog_17_method_11_code
def yX5_isWord : MethodName := ⟨RX5, "isWord", "(J)Z"⟩
def dkwX5_isWord_0 : List UInt8 := [42, 180, 0, 169, 4, 160, 0, 16, 42, 180, 0, 162, 31, 148, 154, 0, 7, 4, 167, 0, 4, 3, 172]
abbrev dktX5_isWord_0 : List UInt8 := dkwX5_isWord_0 ++ []
theorem dksX5_isWord_0 : cX5_isWord.data.toList.drop 0 = dktX5_isWord_0 := by decide +kernel
theorem dX5_isWord_0 : decode cX5_isWord 0 = .ok (.aload_n 0, 1) := dk_42 (dk_at dksX5_isWord_0 0 rfl rfl)
theorem dX5_isWord_1 : decode cX5_isWord 1 = .ok (.getfield 169, 3) := dk_180 0 169 (dk_at dksX5_isWord_0 1 rfl rfl)
theorem dX5_isWord_4 : decode cX5_isWord 4 = .ok (.iconst 1, 1) := dk_4 (dk_at dksX5_isWord_0 4 rfl rfl)
theorem dX5_isWord_5 : decode cX5_isWord 5 = .ok (.if_icmp .ne 16, 3) := dk_160 0 16 (dk_at dksX5_isWord_0 5 rfl rfl)
theorem dX5_isWord_8 : decode cX5_isWord 8 = .ok (.aload_n 0, 1) := dk_42 (dk_at dksX5_isWord_0 8 rfl rfl)
theorem dX5_isWord_9 : decode cX5_isWord 9 = .ok (.getfield 162, 3) := dk_180 0 162 (dk_at dksX5_isWord_0 9 rfl rfl)
theorem dX5_isWord_12 : decode cX5_isWord 12 = .ok (.lload_n 1, 1) := dk_31 (dk_at dksX5_isWord_0 12 rfl rfl)
theorem dX5_isWord_13 : decode cX5_isWord 13 = .ok (.lcmp, 1) := dk_148 (dk_at dksX5_isWord_0 13 rfl rfl)
theorem dX5_isWord_14 : decode cX5_isWord 14 = .ok (.ifCond .ne 7, 3) := dk_154 0 7 (dk_at dksX5_isWord_0 14 rfl rfl)
theorem dX5_isWord_17 : decode cX5_isWord 17 = .ok (.iconst 1, 1) := dk_4 (dk_at dksX5_isWord_0 17 rfl rfl)
theorem dX5_isWord_18 : decode cX5_isWord 18 = .ok (.goto 4, 3) := dk_167 0 4 (dk_at dksX5_isWord_0 18 rfl rfl)
theorem dX5_isWord_21 : decode cX5_isWord 21 = .ok (.iconst 0, 1) := dk_3 (dk_at dksX5_isWord_0 21 rfl rfl)
theorem dX5_isWord_22 : decode cX5_isWord 22 = .ok (.ireturn, 1) := dk_172 (dk_at dksX5_isWord_0 22 rfl rfl)
abbrev cX5_readStoreys : ByteArray := prog_17_method_36_code
def yX5_readStoreys : MethodName := ⟨RX5, "readStoreys", "()V"⟩
def dkwX5_readStoreys_1 : List UInt8 := [182, 1, 59, 181, 1, 63, 177]
abbrev dktX5_readStoreys_1 : List UInt8 := dkwX5_readStoreys_1 ++ []
def dkwX5_readStoreys_0 : List UInt8 := [42, 182, 0, 230, 42, 42, 4, 16, 20, 182, 0, 237, 181, 1, 56, 42, 42, 20, 0, 187, 42, 180, 1, 56]
abbrev dktX5_readStoreys_0 : List UInt8 := dkwX5_readStoreys_0 ++ dktX5_readStoreys_1
theorem dksX5_readStoreys_0 : cX5_readStoreys.data.toList.drop 0 = dktX5_readStoreys_0 := by decide +kernel
theorem dksX5_readStoreys_1 : cX5_readStoreys.data.toList.drop 24 = dktX5_readStoreys_1 := dk_seg dksX5_readStoreys_0 24 rfl rfl
theorem dX5_readStoreys_0 : decode cX5_readStoreys 0 = .ok (.aload_n 0, 1) := dk_42 (dk_at dksX5_readStoreys_0 0 rfl rfl)
theorem dX5_readStoreys_1 : decode cX5_readStoreys 1 = .ok (.invokevirtual 230, 3) := dk_182 0 230 (dk_at dksX5_readStoreys_0 1 rfl rfl)
theorem dX5_readStoreys_4 : decode cX5_readStoreys 4 = .ok (.aload_n 0, 1) := dk_42 (dk_at dksX5_readStoreys_0 4 rfl rfl)
theorem dX5_readStoreys_5 : decode cX5_readStoreys 5 = .ok (.aload_n 0, 1) := dk_42 (dk_at dksX5_readStoreys_0 5 rfl rfl)
theorem dX5_readStoreys_6 : decode cX5_readStoreys 6 = .ok (.iconst 1, 1) := dk_4 (dk_at dksX5_readStoreys_0 6 rfl rfl)
theorem dX5_readStoreys_7 : decode cX5_readStoreys 7 = .ok (.bipush 20, 2) := dk_16 20 (dk_at dksX5_readStoreys_0 7 rfl rfl)
theorem dX5_readStoreys_9 : decode cX5_readStoreys 9 = .ok (.invokevirtual 237, 3) := dk_182 0 237 (dk_at dksX5_readStoreys_0 9 rfl rfl)
theorem dX5_readStoreys_12 : decode cX5_readStoreys 12 = .ok (.putfield 312, 3) := dk_181 1 56 (dk_at dksX5_readStoreys_0 12 rfl rfl)
theorem dX5_readStoreys_15 : decode cX5_readStoreys 15 = .ok (.aload_n 0, 1) := dk_42 (dk_at dksX5_readStoreys_0 15 rfl rfl)
theorem dX5_readStoreys_16 : decode cX5_readStoreys 16 = .ok (.aload_n 0, 1) := dk_42 (dk_at dksX5_readStoreys_0 16 rfl rfl)
theorem dX5_readStoreys_17 : decode cX5_readStoreys 17 = .ok (.ldc2_w 187, 3) := dk_20 0 187 (dk_at dksX5_readStoreys_0 17 rfl rfl)
theorem dX5_readStoreys_20 : decode cX5_readStoreys 20 = .ok (.aload_n 0, 1) := dk_42 (dk_at dksX5_readStoreys_0 20 rfl rfl)
theorem dX5_readStoreys_21 : decode cX5_readStoreys 21 = .ok (.getfield 312, 3) := dk_180 1 56 (dk_at dksX5_readStoreys_0 21 rfl rfl)
theorem dX5_readStoreys_24 : decode cX5_readStoreys 24 = .ok (.invokevirtual 315, 3) := dk_182 1 59 (dk_at dksX5_readStoreys_1 0 rfl rfl)
theorem dX5_readStoreys_27 : decode cX5_readStoreys 27 = .ok (.putfield 319, 3) := dk_181 1 63 (dk_at dksX5_readStoreys_1 3 rfl rfl)
theorem dX5_readStoreys_30 : decode cX5_readStoreys 30 = .ok (.return_, 1) := dk_177 (dk_at dksX5_readStoreys_1 6 rfl rfl)
abbrev cX5_toldNumber : ByteArray := prog_17_method_15_code
def yX5_toldNumber : MethodName := ⟨RX5, "toldNumber", "(II)I"⟩
def dkwX5_toldNumber_2 : List UInt8 := [42, 180, 0, 166, 62, 42, 180, 0, 182, 154, 0, 7, 42, 182, 0, 230, 29, 172]
abbrev dktX5_toldNumber_2 : List UInt8 := dkwX5_toldNumber_2 ++ []
def dkwX5_toldNumber_1 : List UInt8 := [167, 0, 24, 42, 180, 0, 166, 27, 161, 0, 11, 42, 180, 0, 166, 28, 164, 0, 8, 42, 7, 182, 0, 227]
abbrev dktX5_toldNumber_1 : List UInt8 := dkwX5_toldNumber_1 ++ dktX5_toldNumber_2
def dkwX5_toldNumber_0 : List UInt8 := [42, 180, 0, 182, 158, 0, 5, 3, 172, 42, 180, 0, 169, 5, 159, 0, 11, 42, 5, 182, 0, 227]
abbrev dktX5_toldNumber_0 : List UInt8 := dkwX5_toldNumber_0 ++ dktX5_toldNumber_1
theorem dksX5_toldNumber_0 : cX5_toldNumber.data.toList.drop 0 = dktX5_toldNumber_0 := by decide +kernel
theorem dksX5_toldNumber_1 : cX5_toldNumber.data.toList.drop 22 = dktX5_toldNumber_1 := dk_seg dksX5_toldNumber_0 22 rfl rfl
theorem dksX5_toldNumber_2 : cX5_toldNumber.data.toList.drop 46 = dktX5_toldNumber_2 := dk_seg dksX5_toldNumber_1 24 rfl rfl
theorem dX5_toldNumber_0 : decode cX5_toldNumber 0 = .ok (.aload_n 0, 1) := dk_42 (dk_at dksX5_toldNumber_0 0 rfl rfl)
theorem dX5_toldNumber_1 : decode cX5_toldNumber 1 = .ok (.getfield 182, 3) := dk_180 0 182 (dk_at dksX5_toldNumber_0 1 rfl rfl)
theorem dX5_toldNumber_4 : decode cX5_toldNumber 4 = .ok (.ifCond .le 5, 3) := dk_158 0 5 (dk_at dksX5_toldNumber_0 4 rfl rfl)
theorem dX5_toldNumber_7 : decode cX5_toldNumber 7 = .ok (.iconst 0, 1) := dk_3 (dk_at dksX5_toldNumber_0 7 rfl rfl)
theorem dX5_toldNumber_8 : decode cX5_toldNumber 8 = .ok (.ireturn, 1) := dk_172 (dk_at dksX5_toldNumber_0 8 rfl rfl)
theorem dX5_toldNumber_9 : decode cX5_toldNumber 9 = .ok (.aload_n 0, 1) := dk_42 (dk_at dksX5_toldNumber_0 9 rfl rfl)
theorem dX5_toldNumber_10 : decode cX5_toldNumber 10 = .ok (.getfield 169, 3) := dk_180 0 169 (dk_at dksX5_toldNumber_0 10 rfl rfl)
theorem dX5_toldNumber_13 : decode cX5_toldNumber 13 = .ok (.iconst 2, 1) := dk_5 (dk_at dksX5_toldNumber_0 13 rfl rfl)
theorem dX5_toldNumber_14 : decode cX5_toldNumber 14 = .ok (.if_icmp .eq 11, 3) := dk_159 0 11 (dk_at dksX5_toldNumber_0 14 rfl rfl)
theorem dX5_toldNumber_17 : decode cX5_toldNumber 17 = .ok (.aload_n 0, 1) := dk_42 (dk_at dksX5_toldNumber_0 17 rfl rfl)
theorem dX5_toldNumber_18 : decode cX5_toldNumber 18 = .ok (.iconst 2, 1) := dk_5 (dk_at dksX5_toldNumber_0 18 rfl rfl)
theorem dX5_toldNumber_19 : decode cX5_toldNumber 19 = .ok (.invokevirtual 227, 3) := dk_182 0 227 (dk_at dksX5_toldNumber_0 19 rfl rfl)
theorem dX5_toldNumber_22 : decode cX5_toldNumber 22 = .ok (.goto 24, 3) := dk_167 0 24 (dk_at dksX5_toldNumber_1 0 rfl rfl)
theorem dX5_toldNumber_25 : decode cX5_toldNumber 25 = .ok (.aload_n 0, 1) := dk_42 (dk_at dksX5_toldNumber_1 3 rfl rfl)
theorem dX5_toldNumber_26 : decode cX5_toldNumber 26 = .ok (.getfield 166, 3) := dk_180 0 166 (dk_at dksX5_toldNumber_1 4 rfl rfl)
theorem dX5_toldNumber_29 : decode cX5_toldNumber 29 = .ok (.iload_n 1, 1) := dk_27 (dk_at dksX5_toldNumber_1 7 rfl rfl)
theorem dX5_toldNumber_30 : decode cX5_toldNumber 30 = .ok (.if_icmp .lt 11, 3) := dk_161 0 11 (dk_at dksX5_toldNumber_1 8 rfl rfl)
theorem dX5_toldNumber_33 : decode cX5_toldNumber 33 = .ok (.aload_n 0, 1) := dk_42 (dk_at dksX5_toldNumber_1 11 rfl rfl)
theorem dX5_toldNumber_34 : decode cX5_toldNumber 34 = .ok (.getfield 166, 3) := dk_180 0 166 (dk_at dksX5_toldNumber_1 12 rfl rfl)
theorem dX5_toldNumber_37 : decode cX5_toldNumber 37 = .ok (.iload_n 2, 1) := dk_28 (dk_at dksX5_toldNumber_1 15 rfl rfl)
theorem dX5_toldNumber_38 : decode cX5_toldNumber 38 = .ok (.if_icmp .le 8, 3) := dk_164 0 8 (dk_at dksX5_toldNumber_1 16 rfl rfl)
theorem dX5_toldNumber_41 : decode cX5_toldNumber 41 = .ok (.aload_n 0, 1) := dk_42 (dk_at dksX5_toldNumber_1 19 rfl rfl)
theorem dX5_toldNumber_42 : decode cX5_toldNumber 42 = .ok (.iconst 4, 1) := dk_7 (dk_at dksX5_toldNumber_1 20 rfl rfl)
theorem dX5_toldNumber_43 : decode cX5_toldNumber 43 = .ok (.invokevirtual 227, 3) := dk_182 0 227 (dk_at dksX5_toldNumber_1 21 rfl rfl)
theorem dX5_toldNumber_46 : decode cX5_toldNumber 46 = .ok (.aload_n 0, 1) := dk_42 (dk_at dksX5_toldNumber_2 0 rfl rfl)
theorem dX5_toldNumber_47 : decode cX5_toldNumber 47 = .ok (.getfield 166, 3) := dk_180 0 166 (dk_at dksX5_toldNumber_2 1 rfl rfl)
theorem dX5_toldNumber_50 : decode cX5_toldNumber 50 = .ok (.istore_n 3, 1) := dk_62 (dk_at dksX5_toldNumber_2 4 rfl rfl)
theorem dX5_toldNumber_51 : decode cX5_toldNumber 51 = .ok (.aload_n 0, 1) := dk_42 (dk_at dksX5_toldNumber_2 5 rfl rfl)
theorem dX5_toldNumber_52 : decode cX5_toldNumber 52 = .ok (.getfield 182, 3) := dk_180 0 182 (dk_at dksX5_toldNumber_2 6 rfl rfl)
theorem dX5_toldNumber_55 : decode cX5_toldNumber 55 = .ok (.ifCond .ne 7, 3) := dk_154 0 7 (dk_at dksX5_toldNumber_2 9 rfl rfl)
theorem dX5_toldNumber_58 : decode cX5_toldNumber 58 = .ok (.aload_n 0, 1) := dk_42 (dk_at dksX5_toldNumber_2 12 rfl rfl)
theorem dX5_toldNumber_59 : decode cX5_toldNumber 59 = .ok (.invokevirtual 230, 3) := dk_182 0 230 (dk_at dksX5_toldNumber_2 13 rfl rfl)
theorem dX5_toldNumber_62 : decode cX5_toldNumber 62 = .ok (.iload_n 3, 1) := dk_29 (dk_at dksX5_toldNumber_2 16 rfl rfl)
theorem dX5_toldNumber_63 : decode cX5_toldNumber 63 = .ok (.ireturn, 1) := dk_172 (dk_at dksX5_toldNumber_2 17 rfl rfl)
abbrev cX5_wrong : ByteArray := prog_17_method_10_code
def yX5_wrong : MethodName := ⟨RX5, "wrong", "(I)V"⟩
def dkwX5_wrong_1 : List UInt8 := [181, 0, 182, 42, 42, 180, 0, 159, 181, 0, 13, 177]
abbrev dktX5_wrong_1 : List UInt8 := dkwX5_wrong_1 ++ []
def dkwX5_wrong_0 : List UInt8 := [42, 180, 0, 182, 158, 0, 4, 177, 42, 42, 180, 0, 169, 6, 160, 0, 7, 4, 167, 0, 4, 27]
abbrev dktX5_wrong_0 : List UInt8 := dkwX5_wrong_0 ++ dktX5_wrong_1
theorem dksX5_wrong_0 : cX5_wrong.data.toList.drop 0 = dktX5_wrong_0 := by decide +kernel
theorem dksX5_wrong_1 : cX5_wrong.data.toList.drop 22 = dktX5_wrong_1 := dk_seg dksX5_wrong_0 22 rfl rfl
theorem dX5_wrong_0 : decode cX5_wrong 0 = .ok (.aload_n 0, 1) := dk_42 (dk_at dksX5_wrong_0 0 rfl rfl)
theorem dX5_wrong_1 : decode cX5_wrong 1 = .ok (.getfield 182, 3) := dk_180 0 182 (dk_at dksX5_wrong_0 1 rfl rfl)
theorem dX5_wrong_4 : decode cX5_wrong 4 = .ok (.ifCond .le 4, 3) := dk_158 0 4 (dk_at dksX5_wrong_0 4 rfl rfl)
theorem dX5_wrong_7 : decode cX5_wrong 7 = .ok (.return_, 1) := dk_177 (dk_at dksX5_wrong_0 7 rfl rfl)
theorem dX5_wrong_8 : decode cX5_wrong 8 = .ok (.aload_n 0, 1) := dk_42 (dk_at dksX5_wrong_0 8 rfl rfl)
theorem dX5_wrong_9 : decode cX5_wrong 9 = .ok (.aload_n 0, 1) := dk_42 (dk_at dksX5_wrong_0 9 rfl rfl)
theorem dX5_wrong_10 : decode cX5_wrong 10 = .ok (.getfield 169, 3) := dk_180 0 169 (dk_at dksX5_wrong_0 10 rfl rfl)
theorem dX5_wrong_13 : decode cX5_wrong 13 = .ok (.iconst 3, 1) := dk_6 (dk_at dksX5_wrong_0 13 rfl rfl)
theorem dX5_wrong_14 : decode cX5_wrong 14 = .ok (.if_icmp .ne 7, 3) := dk_160 0 7 (dk_at dksX5_wrong_0 14 rfl rfl)
theorem dX5_wrong_17 : decode cX5_wrong 17 = .ok (.iconst 1, 1) := dk_4 (dk_at dksX5_wrong_0 17 rfl rfl)
theorem dX5_wrong_18 : decode cX5_wrong 18 = .ok (.goto 4, 3) := dk_167 0 4 (dk_at dksX5_wrong_0 18 rfl rfl)
theorem dX5_wrong_21 : decode cX5_wrong 21 = .ok (.iload_n 1, 1) := dk_27 (dk_at dksX5_wrong_0 21 rfl rfl)
theorem dX5_wrong_22 : decode cX5_wrong 22 = .ok (.putfield 182, 3) := dk_181 0 182 (dk_at dksX5_wrong_1 0 rfl rfl)
theorem dX5_wrong_25 : decode cX5_wrong 25 = .ok (.aload_n 0, 1) := dk_42 (dk_at dksX5_wrong_1 3 rfl rfl)
theorem dX5_wrong_26 : decode cX5_wrong 26 = .ok (.aload_n 0, 1) := dk_42 (dk_at dksX5_wrong_1 4 rfl rfl)
theorem dX5_wrong_27 : decode cX5_wrong 27 = .ok (.getfield 159, 3) := dk_180 0 159 (dk_at dksX5_wrong_1 5 rfl rfl)
theorem dX5_wrong_30 : decode cX5_wrong 30 = .ok (.putfield 13, 3) := dk_181 0 13 (dk_at dksX5_wrong_1 8 rfl rfl)
theorem dX5_wrong_33 : decode cX5_wrong 33 = .ok (.return_, 1) := dk_177 (dk_at dksX5_wrong_1 11 rfl rfl)
abbrev cX5_option : ByteArray := prog_17_method_17_code
def yX5_option : MethodName := ⟨RX5, "option", "(JI)I"⟩
def dkwX5_option_1 : List UInt8 := [167, 0, 4, 3, 172]
abbrev dktX5_option_1 : List UInt8 := dkwX5_option_1 ++ []
def dkwX5_option_0 : List UInt8 := [42, 180, 0, 182, 154, 0, 21, 42, 31, 182, 0, 223, 153, 0, 13, 42, 31, 3, 29, 182, 0, 241]
abbrev dktX5_option_0 : List UInt8 := dkwX5_option_0 ++ dktX5_option_1
theorem dksX5_option_0 : cX5_option.data.toList.drop 0 = dktX5_option_0 := by decide +kernel
theorem dksX5_option_1 : cX5_option.data.toList.drop 22 = dktX5_option_1 := dk_seg dksX5_option_0 22 rfl rfl
theorem dX5_option_0 : decode cX5_option 0 = .ok (.aload_n 0, 1) := dk_42 (dk_at dksX5_option_0 0 rfl rfl)
theorem dX5_option_1 : decode cX5_option 1 = .ok (.getfield 182, 3) := dk_180 0 182 (dk_at dksX5_option_0 1 rfl rfl)
theorem dX5_option_4 : decode cX5_option 4 = .ok (.ifCond .ne 21, 3) := dk_154 0 21 (dk_at dksX5_option_0 4 rfl rfl)
theorem dX5_option_7 : decode cX5_option 7 = .ok (.aload_n 0, 1) := dk_42 (dk_at dksX5_option_0 7 rfl rfl)
theorem dX5_option_8 : decode cX5_option 8 = .ok (.lload_n 1, 1) := dk_31 (dk_at dksX5_option_0 8 rfl rfl)
theorem dX5_option_9 : decode cX5_option 9 = .ok (.invokevirtual 223, 3) := dk_182 0 223 (dk_at dksX5_option_0 9 rfl rfl)
theorem dX5_option_12 : decode cX5_option 12 = .ok (.ifCond .eq 13, 3) := dk_153 0 13 (dk_at dksX5_option_0 12 rfl rfl)
theorem dX5_option_15 : decode cX5_option 15 = .ok (.aload_n 0, 1) := dk_42 (dk_at dksX5_option_0 15 rfl rfl)
theorem dX5_option_16 : decode cX5_option 16 = .ok (.lload_n 1, 1) := dk_31 (dk_at dksX5_option_0 16 rfl rfl)
theorem dX5_option_17 : decode cX5_option 17 = .ok (.iconst 0, 1) := dk_3 (dk_at dksX5_option_0 17 rfl rfl)
theorem dX5_option_18 : decode cX5_option 18 = .ok (.iload_n 3, 1) := dk_29 (dk_at dksX5_option_0 18 rfl rfl)
theorem dX5_option_19 : decode cX5_option 19 = .ok (.invokevirtual 241, 3) := dk_182 0 241 (dk_at dksX5_option_0 19 rfl rfl)
theorem dX5_option_22 : decode cX5_option 22 = .ok (.goto 4, 3) := dk_167 0 4 (dk_at dksX5_option_1 0 rfl rfl)
theorem dX5_option_25 : decode cX5_option 25 = .ok (.iconst 0, 1) := dk_3 (dk_at dksX5_option_1 3 rfl rfl)
theorem dX5_option_26 : decode cX5_option 26 = .ok (.ireturn, 1) := dk_172 (dk_at dksX5_option_1 4 rfl rfl)
abbrev cX5_told : ByteArray := prog_17_method_16_code
def yX5_told : MethodName := ⟨RX5, "told", "(JII)I"⟩
def dkwX5_told_0 : List UInt8 := [42, 31, 182, 0, 233, 42, 29, 21, 4, 182, 0, 237, 172]
abbrev dktX5_told_0 : List UInt8 := dkwX5_told_0 ++ []
theorem dksX5_told_0 : cX5_told.data.toList.drop 0 = dktX5_told_0 := by decide +kernel
theorem dX5_told_0 : decode cX5_told 0 = .ok (.aload_n 0, 1) := dk_42 (dk_at dksX5_told_0 0 rfl rfl)
theorem dX5_told_1 : decode cX5_told 1 = .ok (.lload_n 1, 1) := dk_31 (dk_at dksX5_told_0 1 rfl rfl)
theorem dX5_told_2 : decode cX5_told 2 = .ok (.invokevirtual 233, 3) := dk_182 0 233 (dk_at dksX5_told_0 2 rfl rfl)
theorem dX5_told_5 : decode cX5_told 5 = .ok (.aload_n 0, 1) := dk_42 (dk_at dksX5_told_0 5 rfl rfl)
theorem dX5_told_6 : decode cX5_told 6 = .ok (.iload_n 3, 1) := dk_29 (dk_at dksX5_told_0 6 rfl rfl)
theorem dX5_told_7 : decode cX5_told 7 = .ok (.iload 4, 2) := dk_21 4 (dk_at dksX5_told_0 7 rfl rfl)
theorem dX5_told_9 : decode cX5_told 9 = .ok (.invokevirtual 237, 3) := dk_182 0 237 (dk_at dksX5_told_0 9 rfl rfl)
theorem dX5_told_12 : decode cX5_told 12 = .ok (.ireturn, 1) := dk_172 (dk_at dksX5_told_0 12 rfl rfl)
abbrev cX5_want : ByteArray := prog_17_method_14_code
def yX5_want : MethodName := ⟨RX5, "want", "(J)V"⟩
def dkwX5_want_1 : List UInt8 := [42, 182, 0, 230, 177]
abbrev dktX5_want_1 : List UInt8 := dkwX5_want_1 ++ []
def dkwX5_want_0 : List UInt8 := [42, 180, 0, 182, 158, 0, 4, 177, 42, 31, 182, 0, 223, 154, 0, 11, 42, 5, 182, 0, 227, 167, 0, 7]
abbrev dktX5_want_0 : List UInt8 := dkwX5_want_0 ++ dktX5_want_1
theorem dksX5_want_0 : cX5_want.data.toList.drop 0 = dktX5_want_0 := by decide +kernel
theorem dksX5_want_1 : cX5_want.data.toList.drop 24 = dktX5_want_1 := dk_seg dksX5_want_0 24 rfl rfl
theorem dX5_want_0 : decode cX5_want 0 = .ok (.aload_n 0, 1) := dk_42 (dk_at dksX5_want_0 0 rfl rfl)
theorem dX5_want_1 : decode cX5_want 1 = .ok (.getfield 182, 3) := dk_180 0 182 (dk_at dksX5_want_0 1 rfl rfl)
theorem dX5_want_4 : decode cX5_want 4 = .ok (.ifCond .le 4, 3) := dk_158 0 4 (dk_at dksX5_want_0 4 rfl rfl)
theorem dX5_want_7 : decode cX5_want 7 = .ok (.return_, 1) := dk_177 (dk_at dksX5_want_0 7 rfl rfl)
theorem dX5_want_8 : decode cX5_want 8 = .ok (.aload_n 0, 1) := dk_42 (dk_at dksX5_want_0 8 rfl rfl)
theorem dX5_want_9 : decode cX5_want 9 = .ok (.lload_n 1, 1) := dk_31 (dk_at dksX5_want_0 9 rfl rfl)
theorem dX5_want_10 : decode cX5_want 10 = .ok (.invokevirtual 223, 3) := dk_182 0 223 (dk_at dksX5_want_0 10 rfl rfl)
theorem dX5_want_13 : decode cX5_want 13 = .ok (.ifCond .ne 11, 3) := dk_154 0 11 (dk_at dksX5_want_0 13 rfl rfl)
theorem dX5_want_16 : decode cX5_want 16 = .ok (.aload_n 0, 1) := dk_42 (dk_at dksX5_want_0 16 rfl rfl)
theorem dX5_want_17 : decode cX5_want 17 = .ok (.iconst 2, 1) := dk_5 (dk_at dksX5_want_0 17 rfl rfl)
theorem dX5_want_18 : decode cX5_want 18 = .ok (.invokevirtual 227, 3) := dk_182 0 227 (dk_at dksX5_want_0 18 rfl rfl)
theorem dX5_want_21 : decode cX5_want 21 = .ok (.goto 7, 3) := dk_167 0 7 (dk_at dksX5_want_0 21 rfl rfl)
theorem dX5_want_24 : decode cX5_want 24 = .ok (.aload_n 0, 1) := dk_42 (dk_at dksX5_want_1 0 rfl rfl)
theorem dX5_want_25 : decode cX5_want 25 = .ok (.invokevirtual 230, 3) := dk_182 0 230 (dk_at dksX5_want_1 1 rfl rfl)
theorem dX5_want_28 : decode cX5_want 28 = .ok (.return_, 1) := dk_177 (dk_at dksX5_want_1 4 rfl rfl)
abbrev cX5_readTenant : ByteArray := prog_17_method_37_code
def yX5_readTenant : MethodName := ⟨RX5, "readTenant", "()V"⟩
def dkwX5_readTenant_4 : List UInt8 := [180, 0, 182, 154, 0, 13, 42, 89, 180, 0, 248, 4, 96, 181, 0, 248, 177]
abbrev dktX5_readTenant_4 : List UInt8 := dkwX5_readTenant_4 ++ []
def dkwX5_readTenant_3 : List UInt8 := [17, 3, 231, 182, 0, 241, 79, 42, 180, 0, 64, 27, 42, 20, 0, 199, 16, 100, 182, 1, 59, 79, 42]
abbrev dktX5_readTenant_3 : List UInt8 := dkwX5_readTenant_3 ++ dktX5_readTenant_4
def dkwX5_readTenant_2 : List UInt8 := [27, 42, 20, 0, 195, 3, 16, 9, 182, 0, 241, 79, 42, 180, 0, 61, 27, 42, 20, 0, 197, 3]
abbrev dktX5_readTenant_2 : List UInt8 := dkwX5_readTenant_2 ++ dktX5_readTenant_3
def dkwX5_readTenant_1 : List UInt8 := [182, 0, 241, 79, 42, 180, 0, 55, 27, 42, 20, 0, 193, 3, 16, 40, 182, 0, 241, 79, 42, 180, 0, 58]
abbrev dktX5_readTenant_1 : List UInt8 := dkwX5_readTenant_1 ++ dktX5_readTenant_2
def dkwX5_readTenant_0 : List UInt8 := [42, 182, 1, 66, 42, 180, 0, 248, 60, 42, 180, 0, 52, 27, 42, 20, 0, 191, 3, 42, 180, 1, 56]
abbrev dktX5_readTenant_0 : List UInt8 := dkwX5_readTenant_0 ++ dktX5_readTenant_1
theorem dksX5_readTenant_0 : cX5_readTenant.data.toList.drop 0 = dktX5_readTenant_0 := by decide +kernel
theorem dksX5_readTenant_1 : cX5_readTenant.data.toList.drop 23 = dktX5_readTenant_1 := dk_seg dksX5_readTenant_0 23 rfl rfl
theorem dksX5_readTenant_2 : cX5_readTenant.data.toList.drop 47 = dktX5_readTenant_2 := dk_seg dksX5_readTenant_1 24 rfl rfl
theorem dksX5_readTenant_3 : cX5_readTenant.data.toList.drop 69 = dktX5_readTenant_3 := dk_seg dksX5_readTenant_2 22 rfl rfl
theorem dksX5_readTenant_4 : cX5_readTenant.data.toList.drop 92 = dktX5_readTenant_4 := dk_seg dksX5_readTenant_3 23 rfl rfl
theorem dX5_readTenant_0 : decode cX5_readTenant 0 = .ok (.aload_n 0, 1) := dk_42 (dk_at dksX5_readTenant_0 0 rfl rfl)
theorem dX5_readTenant_1 : decode cX5_readTenant 1 = .ok (.invokevirtual 322, 3) := dk_182 1 66 (dk_at dksX5_readTenant_0 1 rfl rfl)
theorem dX5_readTenant_4 : decode cX5_readTenant 4 = .ok (.aload_n 0, 1) := dk_42 (dk_at dksX5_readTenant_0 4 rfl rfl)
theorem dX5_readTenant_5 : decode cX5_readTenant 5 = .ok (.getfield 248, 3) := dk_180 0 248 (dk_at dksX5_readTenant_0 5 rfl rfl)
theorem dX5_readTenant_8 : decode cX5_readTenant 8 = .ok (.istore_n 1, 1) := dk_60 (dk_at dksX5_readTenant_0 8 rfl rfl)
theorem dX5_readTenant_9 : decode cX5_readTenant 9 = .ok (.aload_n 0, 1) := dk_42 (dk_at dksX5_readTenant_0 9 rfl rfl)
theorem dX5_readTenant_10 : decode cX5_readTenant 10 = .ok (.getfield 52, 3) := dk_180 0 52 (dk_at dksX5_readTenant_0 10 rfl rfl)
theorem dX5_readTenant_13 : decode cX5_readTenant 13 = .ok (.iload_n 1, 1) := dk_27 (dk_at dksX5_readTenant_0 13 rfl rfl)
theorem dX5_readTenant_14 : decode cX5_readTenant 14 = .ok (.aload_n 0, 1) := dk_42 (dk_at dksX5_readTenant_0 14 rfl rfl)
theorem dX5_readTenant_15 : decode cX5_readTenant 15 = .ok (.ldc2_w 191, 3) := dk_20 0 191 (dk_at dksX5_readTenant_0 15 rfl rfl)
theorem dX5_readTenant_18 : decode cX5_readTenant 18 = .ok (.iconst 0, 1) := dk_3 (dk_at dksX5_readTenant_0 18 rfl rfl)
theorem dX5_readTenant_19 : decode cX5_readTenant 19 = .ok (.aload_n 0, 1) := dk_42 (dk_at dksX5_readTenant_0 19 rfl rfl)
theorem dX5_readTenant_20 : decode cX5_readTenant 20 = .ok (.getfield 312, 3) := dk_180 1 56 (dk_at dksX5_readTenant_0 20 rfl rfl)
theorem dX5_readTenant_23 : decode cX5_readTenant 23 = .ok (.invokevirtual 241, 3) := dk_182 0 241 (dk_at dksX5_readTenant_1 0 rfl rfl)
theorem dX5_readTenant_26 : decode cX5_readTenant 26 = .ok (.iastore, 1) := dk_79 (dk_at dksX5_readTenant_1 3 rfl rfl)
theorem dX5_readTenant_27 : decode cX5_readTenant 27 = .ok (.aload_n 0, 1) := dk_42 (dk_at dksX5_readTenant_1 4 rfl rfl)
theorem dX5_readTenant_28 : decode cX5_readTenant 28 = .ok (.getfield 55, 3) := dk_180 0 55 (dk_at dksX5_readTenant_1 5 rfl rfl)
theorem dX5_readTenant_31 : decode cX5_readTenant 31 = .ok (.iload_n 1, 1) := dk_27 (dk_at dksX5_readTenant_1 8 rfl rfl)
theorem dX5_readTenant_32 : decode cX5_readTenant 32 = .ok (.aload_n 0, 1) := dk_42 (dk_at dksX5_readTenant_1 9 rfl rfl)
theorem dX5_readTenant_33 : decode cX5_readTenant 33 = .ok (.ldc2_w 193, 3) := dk_20 0 193 (dk_at dksX5_readTenant_1 10 rfl rfl)
theorem dX5_readTenant_36 : decode cX5_readTenant 36 = .ok (.iconst 0, 1) := dk_3 (dk_at dksX5_readTenant_1 13 rfl rfl)
theorem dX5_readTenant_37 : decode cX5_readTenant 37 = .ok (.bipush 40, 2) := dk_16 40 (dk_at dksX5_readTenant_1 14 rfl rfl)
theorem dX5_readTenant_39 : decode cX5_readTenant 39 = .ok (.invokevirtual 241, 3) := dk_182 0 241 (dk_at dksX5_readTenant_1 16 rfl rfl)
theorem dX5_readTenant_42 : decode cX5_readTenant 42 = .ok (.iastore, 1) := dk_79 (dk_at dksX5_readTenant_1 19 rfl rfl)
theorem dX5_readTenant_43 : decode cX5_readTenant 43 = .ok (.aload_n 0, 1) := dk_42 (dk_at dksX5_readTenant_1 20 rfl rfl)
theorem dX5_readTenant_44 : decode cX5_readTenant 44 = .ok (.getfield 58, 3) := dk_180 0 58 (dk_at dksX5_readTenant_1 21 rfl rfl)
theorem dX5_readTenant_47 : decode cX5_readTenant 47 = .ok (.iload_n 1, 1) := dk_27 (dk_at dksX5_readTenant_2 0 rfl rfl)
theorem dX5_readTenant_48 : decode cX5_readTenant 48 = .ok (.aload_n 0, 1) := dk_42 (dk_at dksX5_readTenant_2 1 rfl rfl)
theorem dX5_readTenant_49 : decode cX5_readTenant 49 = .ok (.ldc2_w 195, 3) := dk_20 0 195 (dk_at dksX5_readTenant_2 2 rfl rfl)
theorem dX5_readTenant_52 : decode cX5_readTenant 52 = .ok (.iconst 0, 1) := dk_3 (dk_at dksX5_readTenant_2 5 rfl rfl)
theorem dX5_readTenant_53 : decode cX5_readTenant 53 = .ok (.bipush 9, 2) := dk_16 9 (dk_at dksX5_readTenant_2 6 rfl rfl)
theorem dX5_readTenant_55 : decode cX5_readTenant 55 = .ok (.invokevirtual 241, 3) := dk_182 0 241 (dk_at dksX5_readTenant_2 8 rfl rfl)
theorem dX5_readTenant_58 : decode cX5_readTenant 58 = .ok (.iastore, 1) := dk_79 (dk_at dksX5_readTenant_2 11 rfl rfl)
theorem dX5_readTenant_59 : decode cX5_readTenant 59 = .ok (.aload_n 0, 1) := dk_42 (dk_at dksX5_readTenant_2 12 rfl rfl)
theorem dX5_readTenant_60 : decode cX5_readTenant 60 = .ok (.getfield 61, 3) := dk_180 0 61 (dk_at dksX5_readTenant_2 13 rfl rfl)
theorem dX5_readTenant_63 : decode cX5_readTenant 63 = .ok (.iload_n 1, 1) := dk_27 (dk_at dksX5_readTenant_2 16 rfl rfl)
theorem dX5_readTenant_64 : decode cX5_readTenant 64 = .ok (.aload_n 0, 1) := dk_42 (dk_at dksX5_readTenant_2 17 rfl rfl)
theorem dX5_readTenant_65 : decode cX5_readTenant 65 = .ok (.ldc2_w 197, 3) := dk_20 0 197 (dk_at dksX5_readTenant_2 18 rfl rfl)
theorem dX5_readTenant_68 : decode cX5_readTenant 68 = .ok (.iconst 0, 1) := dk_3 (dk_at dksX5_readTenant_2 21 rfl rfl)
theorem dX5_readTenant_69 : decode cX5_readTenant 69 = .ok (.sipush 999, 3) := dk_17 3 231 (dk_at dksX5_readTenant_3 0 rfl rfl)
theorem dX5_readTenant_72 : decode cX5_readTenant 72 = .ok (.invokevirtual 241, 3) := dk_182 0 241 (dk_at dksX5_readTenant_3 3 rfl rfl)
theorem dX5_readTenant_75 : decode cX5_readTenant 75 = .ok (.iastore, 1) := dk_79 (dk_at dksX5_readTenant_3 6 rfl rfl)
theorem dX5_readTenant_76 : decode cX5_readTenant 76 = .ok (.aload_n 0, 1) := dk_42 (dk_at dksX5_readTenant_3 7 rfl rfl)
theorem dX5_readTenant_77 : decode cX5_readTenant 77 = .ok (.getfield 64, 3) := dk_180 0 64 (dk_at dksX5_readTenant_3 8 rfl rfl)
theorem dX5_readTenant_80 : decode cX5_readTenant 80 = .ok (.iload_n 1, 1) := dk_27 (dk_at dksX5_readTenant_3 11 rfl rfl)
theorem dX5_readTenant_81 : decode cX5_readTenant 81 = .ok (.aload_n 0, 1) := dk_42 (dk_at dksX5_readTenant_3 12 rfl rfl)
theorem dX5_readTenant_82 : decode cX5_readTenant 82 = .ok (.ldc2_w 199, 3) := dk_20 0 199 (dk_at dksX5_readTenant_3 13 rfl rfl)
theorem dX5_readTenant_85 : decode cX5_readTenant 85 = .ok (.bipush 100, 2) := dk_16 100 (dk_at dksX5_readTenant_3 16 rfl rfl)
theorem dX5_readTenant_87 : decode cX5_readTenant 87 = .ok (.invokevirtual 315, 3) := dk_182 1 59 (dk_at dksX5_readTenant_3 18 rfl rfl)
theorem dX5_readTenant_90 : decode cX5_readTenant 90 = .ok (.iastore, 1) := dk_79 (dk_at dksX5_readTenant_3 21 rfl rfl)
theorem dX5_readTenant_91 : decode cX5_readTenant 91 = .ok (.aload_n 0, 1) := dk_42 (dk_at dksX5_readTenant_3 22 rfl rfl)
theorem dX5_readTenant_92 : decode cX5_readTenant 92 = .ok (.getfield 182, 3) := dk_180 0 182 (dk_at dksX5_readTenant_4 0 rfl rfl)
theorem dX5_readTenant_95 : decode cX5_readTenant 95 = .ok (.ifCond .ne 13, 3) := dk_154 0 13 (dk_at dksX5_readTenant_4 3 rfl rfl)
theorem dX5_readTenant_98 : decode cX5_readTenant 98 = .ok (.aload_n 0, 1) := dk_42 (dk_at dksX5_readTenant_4 6 rfl rfl)
theorem dX5_readTenant_99 : decode cX5_readTenant 99 = .ok (.dup, 1) := dk_89 (dk_at dksX5_readTenant_4 7 rfl rfl)
theorem dX5_readTenant_100 : decode cX5_readTenant 100 = .ok (.getfield 248, 3) := dk_180 0 248 (dk_at dksX5_readTenant_4 8 rfl rfl)
theorem dX5_readTenant_103 : decode cX5_readTenant 103 = .ok (.iconst 1, 1) := dk_4 (dk_at dksX5_readTenant_4 11 rfl rfl)
theorem dX5_readTenant_104 : decode cX5_readTenant 104 = .ok (.iadd, 1) := dk_96 (dk_at dksX5_readTenant_4 12 rfl rfl)
theorem dX5_readTenant_105 : decode cX5_readTenant 105 = .ok (.putfield 248, 3) := dk_181 0 248 (dk_at dksX5_readTenant_4 13 rfl rfl)
theorem dX5_readTenant_108 : decode cX5_readTenant 108 = .ok (.return_, 1) := dk_177 (dk_at dksX5_readTenant_4 16 rfl rfl)
abbrev cX5_newName : ByteArray := prog_17_method_18_code
def yX5_newName : MethodName := ⟨RX5, "newName", "()V"⟩
def dkwX5_newName_3 : List UInt8 := [180, 0, 248, 42, 180, 0, 162, 80, 42, 182, 0, 230, 177]
abbrev dktX5_newName_3 : List UInt8 := dkwX5_newName_3 ++ []
def dkwX5_newName_2 : List UInt8 := [42, 6, 182, 0, 227, 132, 1, 1, 167, 255, 219, 42, 180, 0, 182, 158, 0, 4, 177, 42, 180, 0, 17, 42]
abbrev dktX5_newName_2 : List UInt8 := dkwX5_newName_2 ++ dktX5_newName_3
def dkwX5_newName_1 : List UInt8 := [162, 0, 35, 42, 180, 0, 182, 154, 0, 28, 42, 180, 0, 17, 27, 47, 42, 180, 0, 162, 148, 154, 0, 8]
abbrev dktX5_newName_1 : List UInt8 := dkwX5_newName_1 ++ dktX5_newName_2
def dkwX5_newName_0 : List UInt8 := [42, 182, 0, 230, 42, 182, 0, 245, 154, 0, 8, 42, 5, 182, 0, 227, 3, 60, 27, 42, 180, 0, 248]
abbrev dktX5_newName_0 : List UInt8 := dkwX5_newName_0 ++ dktX5_newName_1
theorem dksX5_newName_0 : cX5_newName.data.toList.drop 0 = dktX5_newName_0 := by decide +kernel
theorem dksX5_newName_1 : cX5_newName.data.toList.drop 23 = dktX5_newName_1 := dk_seg dksX5_newName_0 23 rfl rfl
theorem dksX5_newName_2 : cX5_newName.data.toList.drop 47 = dktX5_newName_2 := dk_seg dksX5_newName_1 24 rfl rfl
theorem dksX5_newName_3 : cX5_newName.data.toList.drop 71 = dktX5_newName_3 := dk_seg dksX5_newName_2 24 rfl rfl
theorem dX5_newName_0 : decode cX5_newName 0 = .ok (.aload_n 0, 1) := dk_42 (dk_at dksX5_newName_0 0 rfl rfl)
theorem dX5_newName_1 : decode cX5_newName 1 = .ok (.invokevirtual 230, 3) := dk_182 0 230 (dk_at dksX5_newName_0 1 rfl rfl)
theorem dX5_newName_4 : decode cX5_newName 4 = .ok (.aload_n 0, 1) := dk_42 (dk_at dksX5_newName_0 4 rfl rfl)
theorem dX5_newName_5 : decode cX5_newName 5 = .ok (.invokevirtual 245, 3) := dk_182 0 245 (dk_at dksX5_newName_0 5 rfl rfl)
theorem dX5_newName_8 : decode cX5_newName 8 = .ok (.ifCond .ne 8, 3) := dk_154 0 8 (dk_at dksX5_newName_0 8 rfl rfl)
theorem dX5_newName_11 : decode cX5_newName 11 = .ok (.aload_n 0, 1) := dk_42 (dk_at dksX5_newName_0 11 rfl rfl)
theorem dX5_newName_12 : decode cX5_newName 12 = .ok (.iconst 2, 1) := dk_5 (dk_at dksX5_newName_0 12 rfl rfl)
theorem dX5_newName_13 : decode cX5_newName 13 = .ok (.invokevirtual 227, 3) := dk_182 0 227 (dk_at dksX5_newName_0 13 rfl rfl)
theorem dX5_newName_16 : decode cX5_newName 16 = .ok (.iconst 0, 1) := dk_3 (dk_at dksX5_newName_0 16 rfl rfl)
theorem dX5_newName_17 : decode cX5_newName 17 = .ok (.istore_n 1, 1) := dk_60 (dk_at dksX5_newName_0 17 rfl rfl)
theorem dX5_newName_18 : decode cX5_newName 18 = .ok (.iload_n 1, 1) := dk_27 (dk_at dksX5_newName_0 18 rfl rfl)
theorem dX5_newName_19 : decode cX5_newName 19 = .ok (.aload_n 0, 1) := dk_42 (dk_at dksX5_newName_0 19 rfl rfl)
theorem dX5_newName_20 : decode cX5_newName 20 = .ok (.getfield 248, 3) := dk_180 0 248 (dk_at dksX5_newName_0 20 rfl rfl)
theorem dX5_newName_23 : decode cX5_newName 23 = .ok (.if_icmp .ge 35, 3) := dk_162 0 35 (dk_at dksX5_newName_1 0 rfl rfl)
theorem dX5_newName_26 : decode cX5_newName 26 = .ok (.aload_n 0, 1) := dk_42 (dk_at dksX5_newName_1 3 rfl rfl)
theorem dX5_newName_27 : decode cX5_newName 27 = .ok (.getfield 182, 3) := dk_180 0 182 (dk_at dksX5_newName_1 4 rfl rfl)
theorem dX5_newName_30 : decode cX5_newName 30 = .ok (.ifCond .ne 28, 3) := dk_154 0 28 (dk_at dksX5_newName_1 7 rfl rfl)
theorem dX5_newName_33 : decode cX5_newName 33 = .ok (.aload_n 0, 1) := dk_42 (dk_at dksX5_newName_1 10 rfl rfl)
theorem dX5_newName_34 : decode cX5_newName 34 = .ok (.getfield 17, 3) := dk_180 0 17 (dk_at dksX5_newName_1 11 rfl rfl)
theorem dX5_newName_37 : decode cX5_newName 37 = .ok (.iload_n 1, 1) := dk_27 (dk_at dksX5_newName_1 14 rfl rfl)
theorem dX5_newName_38 : decode cX5_newName 38 = .ok (.laload, 1) := dk_47 (dk_at dksX5_newName_1 15 rfl rfl)
theorem dX5_newName_39 : decode cX5_newName 39 = .ok (.aload_n 0, 1) := dk_42 (dk_at dksX5_newName_1 16 rfl rfl)
theorem dX5_newName_40 : decode cX5_newName 40 = .ok (.getfield 162, 3) := dk_180 0 162 (dk_at dksX5_newName_1 17 rfl rfl)
theorem dX5_newName_43 : decode cX5_newName 43 = .ok (.lcmp, 1) := dk_148 (dk_at dksX5_newName_1 20 rfl rfl)
theorem dX5_newName_44 : decode cX5_newName 44 = .ok (.ifCond .ne 8, 3) := dk_154 0 8 (dk_at dksX5_newName_1 21 rfl rfl)
theorem dX5_newName_47 : decode cX5_newName 47 = .ok (.aload_n 0, 1) := dk_42 (dk_at dksX5_newName_2 0 rfl rfl)
theorem dX5_newName_48 : decode cX5_newName 48 = .ok (.iconst 3, 1) := dk_6 (dk_at dksX5_newName_2 1 rfl rfl)
theorem dX5_newName_49 : decode cX5_newName 49 = .ok (.invokevirtual 227, 3) := dk_182 0 227 (dk_at dksX5_newName_2 2 rfl rfl)
theorem dX5_newName_52 : decode cX5_newName 52 = .ok (.iinc 1 1, 3) := dk_132 1 1 (dk_at dksX5_newName_2 5 rfl rfl)
theorem dX5_newName_55 : decode cX5_newName 55 = .ok (.goto (-37), 3) := dk_167 255 219 (dk_at dksX5_newName_2 8 rfl rfl)
theorem dX5_newName_58 : decode cX5_newName 58 = .ok (.aload_n 0, 1) := dk_42 (dk_at dksX5_newName_2 11 rfl rfl)
theorem dX5_newName_59 : decode cX5_newName 59 = .ok (.getfield 182, 3) := dk_180 0 182 (dk_at dksX5_newName_2 12 rfl rfl)
theorem dX5_newName_62 : decode cX5_newName 62 = .ok (.ifCond .le 4, 3) := dk_158 0 4 (dk_at dksX5_newName_2 15 rfl rfl)
theorem dX5_newName_65 : decode cX5_newName 65 = .ok (.return_, 1) := dk_177 (dk_at dksX5_newName_2 18 rfl rfl)
theorem dX5_newName_66 : decode cX5_newName 66 = .ok (.aload_n 0, 1) := dk_42 (dk_at dksX5_newName_2 19 rfl rfl)
theorem dX5_newName_67 : decode cX5_newName 67 = .ok (.getfield 17, 3) := dk_180 0 17 (dk_at dksX5_newName_2 20 rfl rfl)
theorem dX5_newName_70 : decode cX5_newName 70 = .ok (.aload_n 0, 1) := dk_42 (dk_at dksX5_newName_2 23 rfl rfl)
theorem dX5_newName_71 : decode cX5_newName 71 = .ok (.getfield 248, 3) := dk_180 0 248 (dk_at dksX5_newName_3 0 rfl rfl)
theorem dX5_newName_74 : decode cX5_newName 74 = .ok (.aload_n 0, 1) := dk_42 (dk_at dksX5_newName_3 3 rfl rfl)
theorem dX5_newName_75 : decode cX5_newName 75 = .ok (.getfield 162, 3) := dk_180 0 162 (dk_at dksX5_newName_3 4 rfl rfl)
theorem dX5_newName_78 : decode cX5_newName 78 = .ok (.lastore, 1) := dk_80 (dk_at dksX5_newName_3 7 rfl rfl)
theorem dX5_newName_79 : decode cX5_newName 79 = .ok (.aload_n 0, 1) := dk_42 (dk_at dksX5_newName_3 8 rfl rfl)
theorem dX5_newName_80 : decode cX5_newName 80 = .ok (.invokevirtual 230, 3) := dk_182 0 230 (dk_at dksX5_newName_3 9 rfl rfl)
theorem dX5_newName_83 : decode cX5_newName 83 = .ok (.return_, 1) := dk_177 (dk_at dksX5_newName_3 12 rfl rfl)
abbrev cX5_isName : ByteArray := prog_17_method_13_code
def yX5_isName : MethodName := ⟨RX5, "isName", "()Z"⟩
def dkwX5_isName_0 : List UInt8 := [42, 180, 0, 169, 4, 160, 0, 14, 42, 182, 0, 219, 154, 0, 7, 4, 167, 0, 4, 3, 172]
abbrev dktX5_isName_0 : List UInt8 := dkwX5_isName_0 ++ []
theorem dksX5_isName_0 : cX5_isName.data.toList.drop 0 = dktX5_isName_0 := by decide +kernel
theorem dX5_isName_0 : decode cX5_isName 0 = .ok (.aload_n 0, 1) := dk_42 (dk_at dksX5_isName_0 0 rfl rfl)
theorem dX5_isName_1 : decode cX5_isName 1 = .ok (.getfield 169, 3) := dk_180 0 169 (dk_at dksX5_isName_0 1 rfl rfl)
theorem dX5_isName_4 : decode cX5_isName 4 = .ok (.iconst 1, 1) := dk_4 (dk_at dksX5_isName_0 4 rfl rfl)
theorem dX5_isName_5 : decode cX5_isName 5 = .ok (.if_icmp .ne 14, 3) := dk_160 0 14 (dk_at dksX5_isName_0 5 rfl rfl)
theorem dX5_isName_8 : decode cX5_isName 8 = .ok (.aload_n 0, 1) := dk_42 (dk_at dksX5_isName_0 8 rfl rfl)
theorem dX5_isName_9 : decode cX5_isName 9 = .ok (.invokevirtual 219, 3) := dk_182 0 219 (dk_at dksX5_isName_0 9 rfl rfl)
theorem dX5_isName_12 : decode cX5_isName 12 = .ok (.ifCond .ne 7, 3) := dk_154 0 7 (dk_at dksX5_isName_0 12 rfl rfl)
theorem dX5_isName_15 : decode cX5_isName 15 = .ok (.iconst 1, 1) := dk_4 (dk_at dksX5_isName_0 15 rfl rfl)
theorem dX5_isName_16 : decode cX5_isName 16 = .ok (.goto 4, 3) := dk_167 0 4 (dk_at dksX5_isName_0 16 rfl rfl)
theorem dX5_isName_19 : decode cX5_isName 19 = .ok (.iconst 0, 1) := dk_3 (dk_at dksX5_isName_0 19 rfl rfl)
theorem dX5_isName_20 : decode cX5_isName 20 = .ok (.ireturn, 1) := dk_172 (dk_at dksX5_isName_0 20 rfl rfl)
abbrev cX5_isOwn : ByteArray := prog_17_method_12_code
def yX5_isOwn : MethodName := ⟨RX5, "isOwn", "()Z"⟩
def dkwX5_isOwn_8 : List UInt8 := [180, 0, 162, 20, 0, 217, 148, 154, 0, 7, 4, 167, 0, 4, 3, 172]
abbrev dktX5_isOwn_8 : List UInt8 := dkwX5_isOwn_8 ++ []
def dkwX5_isOwn_7 : List UInt8 := [180, 0, 162, 20, 0, 213, 148, 153, 0, 25, 42, 180, 0, 162, 20, 0, 215, 148, 153, 0, 14, 42]
abbrev dktX5_isOwn_7 : List UInt8 := dkwX5_isOwn_7 ++ dktX5_isOwn_8
def dkwX5_isOwn_6 : List UInt8 := [180, 0, 162, 20, 0, 209, 148, 153, 0, 47, 42, 180, 0, 162, 20, 0, 211, 148, 153, 0, 36, 42]
abbrev dktX5_isOwn_6 : List UInt8 := dkwX5_isOwn_6 ++ dktX5_isOwn_7
def dkwX5_isOwn_5 : List UInt8 := [180, 0, 162, 20, 0, 205, 148, 153, 0, 69, 42, 180, 0, 162, 20, 0, 207, 148, 153, 0, 58, 42]
abbrev dktX5_isOwn_5 : List UInt8 := dkwX5_isOwn_5 ++ dktX5_isOwn_6
def dkwX5_isOwn_4 : List UInt8 := [180, 0, 162, 20, 0, 201, 148, 153, 0, 91, 42, 180, 0, 162, 20, 0, 203, 148, 153, 0, 80, 42]
abbrev dktX5_isOwn_4 : List UInt8 := dkwX5_isOwn_4 ++ dktX5_isOwn_5
def dkwX5_isOwn_3 : List UInt8 := [180, 0, 162, 20, 0, 197, 148, 153, 0, 113, 42, 180, 0, 162, 20, 0, 199, 148, 153, 0, 102, 42]
abbrev dktX5_isOwn_3 : List UInt8 := dkwX5_isOwn_3 ++ dktX5_isOwn_4
def dkwX5_isOwn_2 : List UInt8 := [180, 0, 162, 20, 0, 193, 148, 153, 0, 135, 42, 180, 0, 162, 20, 0, 195, 148, 153, 0, 124, 42]
abbrev dktX5_isOwn_2 : List UInt8 := dkwX5_isOwn_2 ++ dktX5_isOwn_3
def dkwX5_isOwn_1 : List UInt8 := [180, 0, 162, 20, 0, 189, 148, 153, 0, 157, 42, 180, 0, 162, 20, 0, 191, 148, 153, 0, 146, 42]
abbrev dktX5_isOwn_1 : List UInt8 := dkwX5_isOwn_1 ++ dktX5_isOwn_2
def dkwX5_isOwn_0 : List UInt8 := [42, 180, 0, 162, 20, 0, 185, 148, 153, 0, 179, 42, 180, 0, 162, 20, 0, 187, 148, 153, 0, 168, 42]
abbrev dktX5_isOwn_0 : List UInt8 := dkwX5_isOwn_0 ++ dktX5_isOwn_1
theorem dksX5_isOwn_0 : cX5_isOwn.data.toList.drop 0 = dktX5_isOwn_0 := by decide +kernel
theorem dksX5_isOwn_1 : cX5_isOwn.data.toList.drop 23 = dktX5_isOwn_1 := dk_seg dksX5_isOwn_0 23 rfl rfl
theorem dksX5_isOwn_2 : cX5_isOwn.data.toList.drop 45 = dktX5_isOwn_2 := dk_seg dksX5_isOwn_1 22 rfl rfl
theorem dksX5_isOwn_3 : cX5_isOwn.data.toList.drop 67 = dktX5_isOwn_3 := dk_seg dksX5_isOwn_2 22 rfl rfl
theorem dksX5_isOwn_4 : cX5_isOwn.data.toList.drop 89 = dktX5_isOwn_4 := dk_seg dksX5_isOwn_3 22 rfl rfl
theorem dksX5_isOwn_5 : cX5_isOwn.data.toList.drop 111 = dktX5_isOwn_5 := dk_seg dksX5_isOwn_4 22 rfl rfl
theorem dksX5_isOwn_6 : cX5_isOwn.data.toList.drop 133 = dktX5_isOwn_6 := dk_seg dksX5_isOwn_5 22 rfl rfl
theorem dksX5_isOwn_7 : cX5_isOwn.data.toList.drop 155 = dktX5_isOwn_7 := dk_seg dksX5_isOwn_6 22 rfl rfl
theorem dksX5_isOwn_8 : cX5_isOwn.data.toList.drop 177 = dktX5_isOwn_8 := dk_seg dksX5_isOwn_7 22 rfl rfl
theorem dX5_isOwn_0 : decode cX5_isOwn 0 = .ok (.aload_n 0, 1) := dk_42 (dk_at dksX5_isOwn_0 0 rfl rfl)
theorem dX5_isOwn_1 : decode cX5_isOwn 1 = .ok (.getfield 162, 3) := dk_180 0 162 (dk_at dksX5_isOwn_0 1 rfl rfl)
theorem dX5_isOwn_4 : decode cX5_isOwn 4 = .ok (.ldc2_w 185, 3) := dk_20 0 185 (dk_at dksX5_isOwn_0 4 rfl rfl)
theorem dX5_isOwn_7 : decode cX5_isOwn 7 = .ok (.lcmp, 1) := dk_148 (dk_at dksX5_isOwn_0 7 rfl rfl)
theorem dX5_isOwn_8 : decode cX5_isOwn 8 = .ok (.ifCond .eq 179, 3) := dk_153 0 179 (dk_at dksX5_isOwn_0 8 rfl rfl)
theorem dX5_isOwn_11 : decode cX5_isOwn 11 = .ok (.aload_n 0, 1) := dk_42 (dk_at dksX5_isOwn_0 11 rfl rfl)
theorem dX5_isOwn_12 : decode cX5_isOwn 12 = .ok (.getfield 162, 3) := dk_180 0 162 (dk_at dksX5_isOwn_0 12 rfl rfl)
theorem dX5_isOwn_15 : decode cX5_isOwn 15 = .ok (.ldc2_w 187, 3) := dk_20 0 187 (dk_at dksX5_isOwn_0 15 rfl rfl)
theorem dX5_isOwn_18 : decode cX5_isOwn 18 = .ok (.lcmp, 1) := dk_148 (dk_at dksX5_isOwn_0 18 rfl rfl)
theorem dX5_isOwn_19 : decode cX5_isOwn 19 = .ok (.ifCond .eq 168, 3) := dk_153 0 168 (dk_at dksX5_isOwn_0 19 rfl rfl)
theorem dX5_isOwn_22 : decode cX5_isOwn 22 = .ok (.aload_n 0, 1) := dk_42 (dk_at dksX5_isOwn_0 22 rfl rfl)
theorem dX5_isOwn_23 : decode cX5_isOwn 23 = .ok (.getfield 162, 3) := dk_180 0 162 (dk_at dksX5_isOwn_1 0 rfl rfl)
theorem dX5_isOwn_26 : decode cX5_isOwn 26 = .ok (.ldc2_w 189, 3) := dk_20 0 189 (dk_at dksX5_isOwn_1 3 rfl rfl)
theorem dX5_isOwn_29 : decode cX5_isOwn 29 = .ok (.lcmp, 1) := dk_148 (dk_at dksX5_isOwn_1 6 rfl rfl)
theorem dX5_isOwn_30 : decode cX5_isOwn 30 = .ok (.ifCond .eq 157, 3) := dk_153 0 157 (dk_at dksX5_isOwn_1 7 rfl rfl)
theorem dX5_isOwn_33 : decode cX5_isOwn 33 = .ok (.aload_n 0, 1) := dk_42 (dk_at dksX5_isOwn_1 10 rfl rfl)
theorem dX5_isOwn_34 : decode cX5_isOwn 34 = .ok (.getfield 162, 3) := dk_180 0 162 (dk_at dksX5_isOwn_1 11 rfl rfl)
theorem dX5_isOwn_37 : decode cX5_isOwn 37 = .ok (.ldc2_w 191, 3) := dk_20 0 191 (dk_at dksX5_isOwn_1 14 rfl rfl)
theorem dX5_isOwn_40 : decode cX5_isOwn 40 = .ok (.lcmp, 1) := dk_148 (dk_at dksX5_isOwn_1 17 rfl rfl)
theorem dX5_isOwn_41 : decode cX5_isOwn 41 = .ok (.ifCond .eq 146, 3) := dk_153 0 146 (dk_at dksX5_isOwn_1 18 rfl rfl)
theorem dX5_isOwn_44 : decode cX5_isOwn 44 = .ok (.aload_n 0, 1) := dk_42 (dk_at dksX5_isOwn_1 21 rfl rfl)
theorem dX5_isOwn_45 : decode cX5_isOwn 45 = .ok (.getfield 162, 3) := dk_180 0 162 (dk_at dksX5_isOwn_2 0 rfl rfl)
theorem dX5_isOwn_48 : decode cX5_isOwn 48 = .ok (.ldc2_w 193, 3) := dk_20 0 193 (dk_at dksX5_isOwn_2 3 rfl rfl)
theorem dX5_isOwn_51 : decode cX5_isOwn 51 = .ok (.lcmp, 1) := dk_148 (dk_at dksX5_isOwn_2 6 rfl rfl)
theorem dX5_isOwn_52 : decode cX5_isOwn 52 = .ok (.ifCond .eq 135, 3) := dk_153 0 135 (dk_at dksX5_isOwn_2 7 rfl rfl)
theorem dX5_isOwn_55 : decode cX5_isOwn 55 = .ok (.aload_n 0, 1) := dk_42 (dk_at dksX5_isOwn_2 10 rfl rfl)
theorem dX5_isOwn_56 : decode cX5_isOwn 56 = .ok (.getfield 162, 3) := dk_180 0 162 (dk_at dksX5_isOwn_2 11 rfl rfl)
theorem dX5_isOwn_59 : decode cX5_isOwn 59 = .ok (.ldc2_w 195, 3) := dk_20 0 195 (dk_at dksX5_isOwn_2 14 rfl rfl)
theorem dX5_isOwn_62 : decode cX5_isOwn 62 = .ok (.lcmp, 1) := dk_148 (dk_at dksX5_isOwn_2 17 rfl rfl)
theorem dX5_isOwn_63 : decode cX5_isOwn 63 = .ok (.ifCond .eq 124, 3) := dk_153 0 124 (dk_at dksX5_isOwn_2 18 rfl rfl)
theorem dX5_isOwn_66 : decode cX5_isOwn 66 = .ok (.aload_n 0, 1) := dk_42 (dk_at dksX5_isOwn_2 21 rfl rfl)
theorem dX5_isOwn_67 : decode cX5_isOwn 67 = .ok (.getfield 162, 3) := dk_180 0 162 (dk_at dksX5_isOwn_3 0 rfl rfl)
theorem dX5_isOwn_70 : decode cX5_isOwn 70 = .ok (.ldc2_w 197, 3) := dk_20 0 197 (dk_at dksX5_isOwn_3 3 rfl rfl)
theorem dX5_isOwn_73 : decode cX5_isOwn 73 = .ok (.lcmp, 1) := dk_148 (dk_at dksX5_isOwn_3 6 rfl rfl)
theorem dX5_isOwn_74 : decode cX5_isOwn 74 = .ok (.ifCond .eq 113, 3) := dk_153 0 113 (dk_at dksX5_isOwn_3 7 rfl rfl)
theorem dX5_isOwn_77 : decode cX5_isOwn 77 = .ok (.aload_n 0, 1) := dk_42 (dk_at dksX5_isOwn_3 10 rfl rfl)
theorem dX5_isOwn_78 : decode cX5_isOwn 78 = .ok (.getfield 162, 3) := dk_180 0 162 (dk_at dksX5_isOwn_3 11 rfl rfl)
theorem dX5_isOwn_81 : decode cX5_isOwn 81 = .ok (.ldc2_w 199, 3) := dk_20 0 199 (dk_at dksX5_isOwn_3 14 rfl rfl)
theorem dX5_isOwn_84 : decode cX5_isOwn 84 = .ok (.lcmp, 1) := dk_148 (dk_at dksX5_isOwn_3 17 rfl rfl)
theorem dX5_isOwn_85 : decode cX5_isOwn 85 = .ok (.ifCond .eq 102, 3) := dk_153 0 102 (dk_at dksX5_isOwn_3 18 rfl rfl)
theorem dX5_isOwn_88 : decode cX5_isOwn 88 = .ok (.aload_n 0, 1) := dk_42 (dk_at dksX5_isOwn_3 21 rfl rfl)
theorem dX5_isOwn_89 : decode cX5_isOwn 89 = .ok (.getfield 162, 3) := dk_180 0 162 (dk_at dksX5_isOwn_4 0 rfl rfl)
theorem dX5_isOwn_92 : decode cX5_isOwn 92 = .ok (.ldc2_w 201, 3) := dk_20 0 201 (dk_at dksX5_isOwn_4 3 rfl rfl)
theorem dX5_isOwn_95 : decode cX5_isOwn 95 = .ok (.lcmp, 1) := dk_148 (dk_at dksX5_isOwn_4 6 rfl rfl)
theorem dX5_isOwn_96 : decode cX5_isOwn 96 = .ok (.ifCond .eq 91, 3) := dk_153 0 91 (dk_at dksX5_isOwn_4 7 rfl rfl)
theorem dX5_isOwn_99 : decode cX5_isOwn 99 = .ok (.aload_n 0, 1) := dk_42 (dk_at dksX5_isOwn_4 10 rfl rfl)
theorem dX5_isOwn_100 : decode cX5_isOwn 100 = .ok (.getfield 162, 3) := dk_180 0 162 (dk_at dksX5_isOwn_4 11 rfl rfl)
theorem dX5_isOwn_103 : decode cX5_isOwn 103 = .ok (.ldc2_w 203, 3) := dk_20 0 203 (dk_at dksX5_isOwn_4 14 rfl rfl)
theorem dX5_isOwn_106 : decode cX5_isOwn 106 = .ok (.lcmp, 1) := dk_148 (dk_at dksX5_isOwn_4 17 rfl rfl)
theorem dX5_isOwn_107 : decode cX5_isOwn 107 = .ok (.ifCond .eq 80, 3) := dk_153 0 80 (dk_at dksX5_isOwn_4 18 rfl rfl)
theorem dX5_isOwn_110 : decode cX5_isOwn 110 = .ok (.aload_n 0, 1) := dk_42 (dk_at dksX5_isOwn_4 21 rfl rfl)
theorem dX5_isOwn_111 : decode cX5_isOwn 111 = .ok (.getfield 162, 3) := dk_180 0 162 (dk_at dksX5_isOwn_5 0 rfl rfl)
theorem dX5_isOwn_114 : decode cX5_isOwn 114 = .ok (.ldc2_w 205, 3) := dk_20 0 205 (dk_at dksX5_isOwn_5 3 rfl rfl)
theorem dX5_isOwn_117 : decode cX5_isOwn 117 = .ok (.lcmp, 1) := dk_148 (dk_at dksX5_isOwn_5 6 rfl rfl)
theorem dX5_isOwn_118 : decode cX5_isOwn 118 = .ok (.ifCond .eq 69, 3) := dk_153 0 69 (dk_at dksX5_isOwn_5 7 rfl rfl)
theorem dX5_isOwn_121 : decode cX5_isOwn 121 = .ok (.aload_n 0, 1) := dk_42 (dk_at dksX5_isOwn_5 10 rfl rfl)
theorem dX5_isOwn_122 : decode cX5_isOwn 122 = .ok (.getfield 162, 3) := dk_180 0 162 (dk_at dksX5_isOwn_5 11 rfl rfl)
theorem dX5_isOwn_125 : decode cX5_isOwn 125 = .ok (.ldc2_w 207, 3) := dk_20 0 207 (dk_at dksX5_isOwn_5 14 rfl rfl)
theorem dX5_isOwn_128 : decode cX5_isOwn 128 = .ok (.lcmp, 1) := dk_148 (dk_at dksX5_isOwn_5 17 rfl rfl)
theorem dX5_isOwn_129 : decode cX5_isOwn 129 = .ok (.ifCond .eq 58, 3) := dk_153 0 58 (dk_at dksX5_isOwn_5 18 rfl rfl)
theorem dX5_isOwn_132 : decode cX5_isOwn 132 = .ok (.aload_n 0, 1) := dk_42 (dk_at dksX5_isOwn_5 21 rfl rfl)
theorem dX5_isOwn_133 : decode cX5_isOwn 133 = .ok (.getfield 162, 3) := dk_180 0 162 (dk_at dksX5_isOwn_6 0 rfl rfl)
theorem dX5_isOwn_136 : decode cX5_isOwn 136 = .ok (.ldc2_w 209, 3) := dk_20 0 209 (dk_at dksX5_isOwn_6 3 rfl rfl)
theorem dX5_isOwn_139 : decode cX5_isOwn 139 = .ok (.lcmp, 1) := dk_148 (dk_at dksX5_isOwn_6 6 rfl rfl)
theorem dX5_isOwn_140 : decode cX5_isOwn 140 = .ok (.ifCond .eq 47, 3) := dk_153 0 47 (dk_at dksX5_isOwn_6 7 rfl rfl)
theorem dX5_isOwn_143 : decode cX5_isOwn 143 = .ok (.aload_n 0, 1) := dk_42 (dk_at dksX5_isOwn_6 10 rfl rfl)
theorem dX5_isOwn_144 : decode cX5_isOwn 144 = .ok (.getfield 162, 3) := dk_180 0 162 (dk_at dksX5_isOwn_6 11 rfl rfl)
theorem dX5_isOwn_147 : decode cX5_isOwn 147 = .ok (.ldc2_w 211, 3) := dk_20 0 211 (dk_at dksX5_isOwn_6 14 rfl rfl)
theorem dX5_isOwn_150 : decode cX5_isOwn 150 = .ok (.lcmp, 1) := dk_148 (dk_at dksX5_isOwn_6 17 rfl rfl)
theorem dX5_isOwn_151 : decode cX5_isOwn 151 = .ok (.ifCond .eq 36, 3) := dk_153 0 36 (dk_at dksX5_isOwn_6 18 rfl rfl)
theorem dX5_isOwn_154 : decode cX5_isOwn 154 = .ok (.aload_n 0, 1) := dk_42 (dk_at dksX5_isOwn_6 21 rfl rfl)
theorem dX5_isOwn_155 : decode cX5_isOwn 155 = .ok (.getfield 162, 3) := dk_180 0 162 (dk_at dksX5_isOwn_7 0 rfl rfl)
theorem dX5_isOwn_158 : decode cX5_isOwn 158 = .ok (.ldc2_w 213, 3) := dk_20 0 213 (dk_at dksX5_isOwn_7 3 rfl rfl)
theorem dX5_isOwn_161 : decode cX5_isOwn 161 = .ok (.lcmp, 1) := dk_148 (dk_at dksX5_isOwn_7 6 rfl rfl)
theorem dX5_isOwn_162 : decode cX5_isOwn 162 = .ok (.ifCond .eq 25, 3) := dk_153 0 25 (dk_at dksX5_isOwn_7 7 rfl rfl)
theorem dX5_isOwn_165 : decode cX5_isOwn 165 = .ok (.aload_n 0, 1) := dk_42 (dk_at dksX5_isOwn_7 10 rfl rfl)
theorem dX5_isOwn_166 : decode cX5_isOwn 166 = .ok (.getfield 162, 3) := dk_180 0 162 (dk_at dksX5_isOwn_7 11 rfl rfl)
theorem dX5_isOwn_169 : decode cX5_isOwn 169 = .ok (.ldc2_w 215, 3) := dk_20 0 215 (dk_at dksX5_isOwn_7 14 rfl rfl)
theorem dX5_isOwn_172 : decode cX5_isOwn 172 = .ok (.lcmp, 1) := dk_148 (dk_at dksX5_isOwn_7 17 rfl rfl)
theorem dX5_isOwn_173 : decode cX5_isOwn 173 = .ok (.ifCond .eq 14, 3) := dk_153 0 14 (dk_at dksX5_isOwn_7 18 rfl rfl)
theorem dX5_isOwn_176 : decode cX5_isOwn 176 = .ok (.aload_n 0, 1) := dk_42 (dk_at dksX5_isOwn_7 21 rfl rfl)
theorem dX5_isOwn_177 : decode cX5_isOwn 177 = .ok (.getfield 162, 3) := dk_180 0 162 (dk_at dksX5_isOwn_8 0 rfl rfl)
theorem dX5_isOwn_180 : decode cX5_isOwn 180 = .ok (.ldc2_w 217, 3) := dk_20 0 217 (dk_at dksX5_isOwn_8 3 rfl rfl)
theorem dX5_isOwn_183 : decode cX5_isOwn 183 = .ok (.lcmp, 1) := dk_148 (dk_at dksX5_isOwn_8 6 rfl rfl)
theorem dX5_isOwn_184 : decode cX5_isOwn 184 = .ok (.ifCond .ne 7, 3) := dk_154 0 7 (dk_at dksX5_isOwn_8 7 rfl rfl)
theorem dX5_isOwn_187 : decode cX5_isOwn 187 = .ok (.iconst 1, 1) := dk_4 (dk_at dksX5_isOwn_8 10 rfl rfl)
theorem dX5_isOwn_188 : decode cX5_isOwn 188 = .ok (.goto 4, 3) := dk_167 0 4 (dk_at dksX5_isOwn_8 11 rfl rfl)
theorem dX5_isOwn_191 : decode cX5_isOwn 191 = .ok (.iconst 0, 1) := dk_3 (dk_at dksX5_isOwn_8 14 rfl rfl)
theorem dX5_isOwn_192 : decode cX5_isOwn 192 = .ok (.ireturn, 1) := dk_172 (dk_at dksX5_isOwn_8 15 rfl rfl)
abbrev cX5_formula : ByteArray := prog_17_method_31_code
def yX5_formula : MethodName := ⟨RX5, "formula", "(I)V"⟩
def dkwX5_formula_8 : List UInt8 := [153, 0, 8, 42, 5, 182, 0, 227, 42, 180, 0, 182, 154, 0, 8, 42, 3, 182, 1, 42, 177]
abbrev dktX5_formula_8 : List UInt8 := dkwX5_formula_8 ++ []
def dkwX5_formula_7 : List UInt8 := [182, 1, 33, 167, 0, 5, 3, 61, 167, 255, 132, 42, 180, 0, 182, 154, 0, 15, 42, 182, 1, 39]
abbrev dktX5_formula_7 : List UInt8 := dkwX5_formula_7 ++ dktX5_formula_8
def dkwX5_formula_6 : List UInt8 := [180, 0, 39, 42, 180, 0, 254, 29, 79, 42, 89, 180, 0, 254, 4, 96, 181, 0, 254, 42, 182, 0, 230, 42]
abbrev dktX5_formula_6 : List UInt8 := dkwX5_formula_6 ++ dktX5_formula_7
def dkwX5_formula_5 : List UInt8 := [29, 184, 1, 1, 7, 160, 0, 10, 42, 182, 1, 45, 154, 0, 42, 42, 29, 184, 1, 1, 182, 1, 42, 42]
abbrev dktX5_formula_5 : List UInt8 := dkwX5_formula_5 ++ dktX5_formula_6
def dkwX5_formula_4 : List UInt8 := [181, 0, 254, 42, 89, 180, 1, 8, 4, 100, 181, 1, 8, 42, 182, 0, 230, 167, 0, 63, 29, 153, 0, 57]
abbrev dktX5_formula_4 : List UInt8 := dkwX5_formula_4 ++ dktX5_formula_5
def dkwX5_formula_3 : List UInt8 := [160, 0, 42, 42, 182, 1, 39, 153, 0, 35, 42, 3, 182, 1, 42, 42, 89, 180, 0, 254, 4, 100]
abbrev dktX5_formula_3 : List UInt8 := dkwX5_formula_3 ++ dktX5_formula_4
def dkwX5_formula_2 : List UInt8 := [4, 61, 28, 153, 0, 126, 42, 180, 0, 182, 154, 0, 119, 42, 182, 1, 36, 62, 42, 180, 0, 169, 16, 41]
abbrev dktX5_formula_2 : List UInt8 := dkwX5_formula_2 ++ dktX5_formula_3
def dkwX5_formula_1 : List UInt8 := [180, 0, 251, 3, 79, 42, 3, 181, 0, 254, 42, 3, 181, 1, 8, 42, 3, 181, 1, 14, 42, 182, 1, 33]
abbrev dktX5_formula_1 : List UInt8 := dkwX5_formula_1 ++ dktX5_formula_2
def dkwX5_formula_0 : List UInt8 := [42, 182, 0, 230, 42, 27, 181, 0, 251, 42, 180, 0, 45, 42, 180, 0, 251, 4, 84, 42, 180, 0, 27, 42]
abbrev dktX5_formula_0 : List UInt8 := dkwX5_formula_0 ++ dktX5_formula_1
theorem dksX5_formula_0 : cX5_formula.data.toList.drop 0 = dktX5_formula_0 := by decide +kernel
theorem dksX5_formula_1 : cX5_formula.data.toList.drop 24 = dktX5_formula_1 := dk_seg dksX5_formula_0 24 rfl rfl
theorem dksX5_formula_2 : cX5_formula.data.toList.drop 48 = dktX5_formula_2 := dk_seg dksX5_formula_1 24 rfl rfl
theorem dksX5_formula_3 : cX5_formula.data.toList.drop 72 = dktX5_formula_3 := dk_seg dksX5_formula_2 24 rfl rfl
theorem dksX5_formula_4 : cX5_formula.data.toList.drop 94 = dktX5_formula_4 := dk_seg dksX5_formula_3 22 rfl rfl
theorem dksX5_formula_5 : cX5_formula.data.toList.drop 118 = dktX5_formula_5 := dk_seg dksX5_formula_4 24 rfl rfl
theorem dksX5_formula_6 : cX5_formula.data.toList.drop 142 = dktX5_formula_6 := dk_seg dksX5_formula_5 24 rfl rfl
theorem dksX5_formula_7 : cX5_formula.data.toList.drop 166 = dktX5_formula_7 := dk_seg dksX5_formula_6 24 rfl rfl
theorem dksX5_formula_8 : cX5_formula.data.toList.drop 188 = dktX5_formula_8 := dk_seg dksX5_formula_7 22 rfl rfl
theorem dX5_formula_0 : decode cX5_formula 0 = .ok (.aload_n 0, 1) := dk_42 (dk_at dksX5_formula_0 0 rfl rfl)
theorem dX5_formula_1 : decode cX5_formula 1 = .ok (.invokevirtual 230, 3) := dk_182 0 230 (dk_at dksX5_formula_0 1 rfl rfl)
theorem dX5_formula_4 : decode cX5_formula 4 = .ok (.aload_n 0, 1) := dk_42 (dk_at dksX5_formula_0 4 rfl rfl)
theorem dX5_formula_5 : decode cX5_formula 5 = .ok (.iload_n 1, 1) := dk_27 (dk_at dksX5_formula_0 5 rfl rfl)
theorem dX5_formula_6 : decode cX5_formula 6 = .ok (.putfield 251, 3) := dk_181 0 251 (dk_at dksX5_formula_0 6 rfl rfl)
theorem dX5_formula_9 : decode cX5_formula 9 = .ok (.aload_n 0, 1) := dk_42 (dk_at dksX5_formula_0 9 rfl rfl)
theorem dX5_formula_10 : decode cX5_formula 10 = .ok (.getfield 45, 3) := dk_180 0 45 (dk_at dksX5_formula_0 10 rfl rfl)
theorem dX5_formula_13 : decode cX5_formula 13 = .ok (.aload_n 0, 1) := dk_42 (dk_at dksX5_formula_0 13 rfl rfl)
theorem dX5_formula_14 : decode cX5_formula 14 = .ok (.getfield 251, 3) := dk_180 0 251 (dk_at dksX5_formula_0 14 rfl rfl)
theorem dX5_formula_17 : decode cX5_formula 17 = .ok (.iconst 1, 1) := dk_4 (dk_at dksX5_formula_0 17 rfl rfl)
theorem dX5_formula_18 : decode cX5_formula 18 = .ok (.bastore, 1) := dk_84 (dk_at dksX5_formula_0 18 rfl rfl)
theorem dX5_formula_19 : decode cX5_formula 19 = .ok (.aload_n 0, 1) := dk_42 (dk_at dksX5_formula_0 19 rfl rfl)
theorem dX5_formula_20 : decode cX5_formula 20 = .ok (.getfield 27, 3) := dk_180 0 27 (dk_at dksX5_formula_0 20 rfl rfl)
theorem dX5_formula_23 : decode cX5_formula 23 = .ok (.aload_n 0, 1) := dk_42 (dk_at dksX5_formula_0 23 rfl rfl)
theorem dX5_formula_24 : decode cX5_formula 24 = .ok (.getfield 251, 3) := dk_180 0 251 (dk_at dksX5_formula_1 0 rfl rfl)
theorem dX5_formula_27 : decode cX5_formula 27 = .ok (.iconst 0, 1) := dk_3 (dk_at dksX5_formula_1 3 rfl rfl)
theorem dX5_formula_28 : decode cX5_formula 28 = .ok (.iastore, 1) := dk_79 (dk_at dksX5_formula_1 4 rfl rfl)
theorem dX5_formula_29 : decode cX5_formula 29 = .ok (.aload_n 0, 1) := dk_42 (dk_at dksX5_formula_1 5 rfl rfl)
theorem dX5_formula_30 : decode cX5_formula 30 = .ok (.iconst 0, 1) := dk_3 (dk_at dksX5_formula_1 6 rfl rfl)
theorem dX5_formula_31 : decode cX5_formula 31 = .ok (.putfield 254, 3) := dk_181 0 254 (dk_at dksX5_formula_1 7 rfl rfl)
theorem dX5_formula_34 : decode cX5_formula 34 = .ok (.aload_n 0, 1) := dk_42 (dk_at dksX5_formula_1 10 rfl rfl)
theorem dX5_formula_35 : decode cX5_formula 35 = .ok (.iconst 0, 1) := dk_3 (dk_at dksX5_formula_1 11 rfl rfl)
theorem dX5_formula_36 : decode cX5_formula 36 = .ok (.putfield 264, 3) := dk_181 1 8 (dk_at dksX5_formula_1 12 rfl rfl)
theorem dX5_formula_39 : decode cX5_formula 39 = .ok (.aload_n 0, 1) := dk_42 (dk_at dksX5_formula_1 15 rfl rfl)
theorem dX5_formula_40 : decode cX5_formula 40 = .ok (.iconst 0, 1) := dk_3 (dk_at dksX5_formula_1 16 rfl rfl)
theorem dX5_formula_41 : decode cX5_formula 41 = .ok (.putfield 270, 3) := dk_181 1 14 (dk_at dksX5_formula_1 17 rfl rfl)
theorem dX5_formula_44 : decode cX5_formula 44 = .ok (.aload_n 0, 1) := dk_42 (dk_at dksX5_formula_1 20 rfl rfl)
theorem dX5_formula_45 : decode cX5_formula 45 = .ok (.invokevirtual 289, 3) := dk_182 1 33 (dk_at dksX5_formula_1 21 rfl rfl)
theorem dX5_formula_48 : decode cX5_formula 48 = .ok (.iconst 1, 1) := dk_4 (dk_at dksX5_formula_2 0 rfl rfl)
theorem dX5_formula_49 : decode cX5_formula 49 = .ok (.istore_n 2, 1) := dk_61 (dk_at dksX5_formula_2 1 rfl rfl)
theorem dX5_formula_50 : decode cX5_formula 50 = .ok (.iload_n 2, 1) := dk_28 (dk_at dksX5_formula_2 2 rfl rfl)
theorem dX5_formula_51 : decode cX5_formula 51 = .ok (.ifCond .eq 126, 3) := dk_153 0 126 (dk_at dksX5_formula_2 3 rfl rfl)
theorem dX5_formula_54 : decode cX5_formula 54 = .ok (.aload_n 0, 1) := dk_42 (dk_at dksX5_formula_2 6 rfl rfl)
theorem dX5_formula_55 : decode cX5_formula 55 = .ok (.getfield 182, 3) := dk_180 0 182 (dk_at dksX5_formula_2 7 rfl rfl)
theorem dX5_formula_58 : decode cX5_formula 58 = .ok (.ifCond .ne 119, 3) := dk_154 0 119 (dk_at dksX5_formula_2 10 rfl rfl)
theorem dX5_formula_61 : decode cX5_formula 61 = .ok (.aload_n 0, 1) := dk_42 (dk_at dksX5_formula_2 13 rfl rfl)
theorem dX5_formula_62 : decode cX5_formula 62 = .ok (.invokevirtual 292, 3) := dk_182 1 36 (dk_at dksX5_formula_2 14 rfl rfl)
theorem dX5_formula_65 : decode cX5_formula 65 = .ok (.istore_n 3, 1) := dk_62 (dk_at dksX5_formula_2 17 rfl rfl)
theorem dX5_formula_66 : decode cX5_formula 66 = .ok (.aload_n 0, 1) := dk_42 (dk_at dksX5_formula_2 18 rfl rfl)
theorem dX5_formula_67 : decode cX5_formula 67 = .ok (.getfield 169, 3) := dk_180 0 169 (dk_at dksX5_formula_2 19 rfl rfl)
theorem dX5_formula_70 : decode cX5_formula 70 = .ok (.bipush 41, 2) := dk_16 41 (dk_at dksX5_formula_2 22 rfl rfl)
theorem dX5_formula_72 : decode cX5_formula 72 = .ok (.if_icmp .ne 42, 3) := dk_160 0 42 (dk_at dksX5_formula_3 0 rfl rfl)
theorem dX5_formula_75 : decode cX5_formula 75 = .ok (.aload_n 0, 1) := dk_42 (dk_at dksX5_formula_3 3 rfl rfl)
theorem dX5_formula_76 : decode cX5_formula 76 = .ok (.invokevirtual 295, 3) := dk_182 1 39 (dk_at dksX5_formula_3 4 rfl rfl)
theorem dX5_formula_79 : decode cX5_formula 79 = .ok (.ifCond .eq 35, 3) := dk_153 0 35 (dk_at dksX5_formula_3 7 rfl rfl)
theorem dX5_formula_82 : decode cX5_formula 82 = .ok (.aload_n 0, 1) := dk_42 (dk_at dksX5_formula_3 10 rfl rfl)
theorem dX5_formula_83 : decode cX5_formula 83 = .ok (.iconst 0, 1) := dk_3 (dk_at dksX5_formula_3 11 rfl rfl)
theorem dX5_formula_84 : decode cX5_formula 84 = .ok (.invokevirtual 298, 3) := dk_182 1 42 (dk_at dksX5_formula_3 12 rfl rfl)
theorem dX5_formula_87 : decode cX5_formula 87 = .ok (.aload_n 0, 1) := dk_42 (dk_at dksX5_formula_3 15 rfl rfl)
theorem dX5_formula_88 : decode cX5_formula 88 = .ok (.dup, 1) := dk_89 (dk_at dksX5_formula_3 16 rfl rfl)
theorem dX5_formula_89 : decode cX5_formula 89 = .ok (.getfield 254, 3) := dk_180 0 254 (dk_at dksX5_formula_3 17 rfl rfl)
theorem dX5_formula_92 : decode cX5_formula 92 = .ok (.iconst 1, 1) := dk_4 (dk_at dksX5_formula_3 20 rfl rfl)
theorem dX5_formula_93 : decode cX5_formula 93 = .ok (.isub, 1) := dk_100 (dk_at dksX5_formula_3 21 rfl rfl)
theorem dX5_formula_94 : decode cX5_formula 94 = .ok (.putfield 254, 3) := dk_181 0 254 (dk_at dksX5_formula_4 0 rfl rfl)
theorem dX5_formula_97 : decode cX5_formula 97 = .ok (.aload_n 0, 1) := dk_42 (dk_at dksX5_formula_4 3 rfl rfl)
theorem dX5_formula_98 : decode cX5_formula 98 = .ok (.dup, 1) := dk_89 (dk_at dksX5_formula_4 4 rfl rfl)
theorem dX5_formula_99 : decode cX5_formula 99 = .ok (.getfield 264, 3) := dk_180 1 8 (dk_at dksX5_formula_4 5 rfl rfl)
theorem dX5_formula_102 : decode cX5_formula 102 = .ok (.iconst 1, 1) := dk_4 (dk_at dksX5_formula_4 8 rfl rfl)
theorem dX5_formula_103 : decode cX5_formula 103 = .ok (.isub, 1) := dk_100 (dk_at dksX5_formula_4 9 rfl rfl)
theorem dX5_formula_104 : decode cX5_formula 104 = .ok (.putfield 264, 3) := dk_181 1 8 (dk_at dksX5_formula_4 10 rfl rfl)
theorem dX5_formula_107 : decode cX5_formula 107 = .ok (.aload_n 0, 1) := dk_42 (dk_at dksX5_formula_4 13 rfl rfl)
theorem dX5_formula_108 : decode cX5_formula 108 = .ok (.invokevirtual 230, 3) := dk_182 0 230 (dk_at dksX5_formula_4 14 rfl rfl)
theorem dX5_formula_111 : decode cX5_formula 111 = .ok (.goto 63, 3) := dk_167 0 63 (dk_at dksX5_formula_4 17 rfl rfl)
theorem dX5_formula_114 : decode cX5_formula 114 = .ok (.iload_n 3, 1) := dk_29 (dk_at dksX5_formula_4 20 rfl rfl)
theorem dX5_formula_115 : decode cX5_formula 115 = .ok (.ifCond .eq 57, 3) := dk_153 0 57 (dk_at dksX5_formula_4 21 rfl rfl)
theorem dX5_formula_118 : decode cX5_formula 118 = .ok (.iload_n 3, 1) := dk_29 (dk_at dksX5_formula_5 0 rfl rfl)
theorem dX5_formula_119 : decode cX5_formula 119 = .ok (.invokestatic 257, 3) := dk_184 1 1 (dk_at dksX5_formula_5 1 rfl rfl)
theorem dX5_formula_122 : decode cX5_formula 122 = .ok (.iconst 4, 1) := dk_7 (dk_at dksX5_formula_5 4 rfl rfl)
theorem dX5_formula_123 : decode cX5_formula 123 = .ok (.if_icmp .ne 10, 3) := dk_160 0 10 (dk_at dksX5_formula_5 5 rfl rfl)
theorem dX5_formula_126 : decode cX5_formula 126 = .ok (.aload_n 0, 1) := dk_42 (dk_at dksX5_formula_5 8 rfl rfl)
theorem dX5_formula_127 : decode cX5_formula 127 = .ok (.invokevirtual 301, 3) := dk_182 1 45 (dk_at dksX5_formula_5 9 rfl rfl)
theorem dX5_formula_130 : decode cX5_formula 130 = .ok (.ifCond .ne 42, 3) := dk_154 0 42 (dk_at dksX5_formula_5 12 rfl rfl)
theorem dX5_formula_133 : decode cX5_formula 133 = .ok (.aload_n 0, 1) := dk_42 (dk_at dksX5_formula_5 15 rfl rfl)
theorem dX5_formula_134 : decode cX5_formula 134 = .ok (.iload_n 3, 1) := dk_29 (dk_at dksX5_formula_5 16 rfl rfl)
theorem dX5_formula_135 : decode cX5_formula 135 = .ok (.invokestatic 257, 3) := dk_184 1 1 (dk_at dksX5_formula_5 17 rfl rfl)
theorem dX5_formula_138 : decode cX5_formula 138 = .ok (.invokevirtual 298, 3) := dk_182 1 42 (dk_at dksX5_formula_5 20 rfl rfl)
theorem dX5_formula_141 : decode cX5_formula 141 = .ok (.aload_n 0, 1) := dk_42 (dk_at dksX5_formula_5 23 rfl rfl)
theorem dX5_formula_142 : decode cX5_formula 142 = .ok (.getfield 39, 3) := dk_180 0 39 (dk_at dksX5_formula_6 0 rfl rfl)
theorem dX5_formula_145 : decode cX5_formula 145 = .ok (.aload_n 0, 1) := dk_42 (dk_at dksX5_formula_6 3 rfl rfl)
theorem dX5_formula_146 : decode cX5_formula 146 = .ok (.getfield 254, 3) := dk_180 0 254 (dk_at dksX5_formula_6 4 rfl rfl)
theorem dX5_formula_149 : decode cX5_formula 149 = .ok (.iload_n 3, 1) := dk_29 (dk_at dksX5_formula_6 7 rfl rfl)
theorem dX5_formula_150 : decode cX5_formula 150 = .ok (.iastore, 1) := dk_79 (dk_at dksX5_formula_6 8 rfl rfl)
theorem dX5_formula_151 : decode cX5_formula 151 = .ok (.aload_n 0, 1) := dk_42 (dk_at dksX5_formula_6 9 rfl rfl)
theorem dX5_formula_152 : decode cX5_formula 152 = .ok (.dup, 1) := dk_89 (dk_at dksX5_formula_6 10 rfl rfl)
theorem dX5_formula_153 : decode cX5_formula 153 = .ok (.getfield 254, 3) := dk_180 0 254 (dk_at dksX5_formula_6 11 rfl rfl)
theorem dX5_formula_156 : decode cX5_formula 156 = .ok (.iconst 1, 1) := dk_4 (dk_at dksX5_formula_6 14 rfl rfl)
theorem dX5_formula_157 : decode cX5_formula 157 = .ok (.iadd, 1) := dk_96 (dk_at dksX5_formula_6 15 rfl rfl)
theorem dX5_formula_158 : decode cX5_formula 158 = .ok (.putfield 254, 3) := dk_181 0 254 (dk_at dksX5_formula_6 16 rfl rfl)
theorem dX5_formula_161 : decode cX5_formula 161 = .ok (.aload_n 0, 1) := dk_42 (dk_at dksX5_formula_6 19 rfl rfl)
theorem dX5_formula_162 : decode cX5_formula 162 = .ok (.invokevirtual 230, 3) := dk_182 0 230 (dk_at dksX5_formula_6 20 rfl rfl)
theorem dX5_formula_165 : decode cX5_formula 165 = .ok (.aload_n 0, 1) := dk_42 (dk_at dksX5_formula_6 23 rfl rfl)
theorem dX5_formula_166 : decode cX5_formula 166 = .ok (.invokevirtual 289, 3) := dk_182 1 33 (dk_at dksX5_formula_7 0 rfl rfl)
theorem dX5_formula_169 : decode cX5_formula 169 = .ok (.goto 5, 3) := dk_167 0 5 (dk_at dksX5_formula_7 3 rfl rfl)
theorem dX5_formula_172 : decode cX5_formula 172 = .ok (.iconst 0, 1) := dk_3 (dk_at dksX5_formula_7 6 rfl rfl)
theorem dX5_formula_173 : decode cX5_formula 173 = .ok (.istore_n 2, 1) := dk_61 (dk_at dksX5_formula_7 7 rfl rfl)
theorem dX5_formula_174 : decode cX5_formula 174 = .ok (.goto (-124), 3) := dk_167 255 132 (dk_at dksX5_formula_7 8 rfl rfl)
theorem dX5_formula_177 : decode cX5_formula 177 = .ok (.aload_n 0, 1) := dk_42 (dk_at dksX5_formula_7 11 rfl rfl)
theorem dX5_formula_178 : decode cX5_formula 178 = .ok (.getfield 182, 3) := dk_180 0 182 (dk_at dksX5_formula_7 12 rfl rfl)
theorem dX5_formula_181 : decode cX5_formula 181 = .ok (.ifCond .ne 15, 3) := dk_154 0 15 (dk_at dksX5_formula_7 15 rfl rfl)
theorem dX5_formula_184 : decode cX5_formula 184 = .ok (.aload_n 0, 1) := dk_42 (dk_at dksX5_formula_7 18 rfl rfl)
theorem dX5_formula_185 : decode cX5_formula 185 = .ok (.invokevirtual 295, 3) := dk_182 1 39 (dk_at dksX5_formula_7 19 rfl rfl)
theorem dX5_formula_188 : decode cX5_formula 188 = .ok (.ifCond .eq 8, 3) := dk_153 0 8 (dk_at dksX5_formula_8 0 rfl rfl)
theorem dX5_formula_191 : decode cX5_formula 191 = .ok (.aload_n 0, 1) := dk_42 (dk_at dksX5_formula_8 3 rfl rfl)
theorem dX5_formula_192 : decode cX5_formula 192 = .ok (.iconst 2, 1) := dk_5 (dk_at dksX5_formula_8 4 rfl rfl)
theorem dX5_formula_193 : decode cX5_formula 193 = .ok (.invokevirtual 227, 3) := dk_182 0 227 (dk_at dksX5_formula_8 5 rfl rfl)
theorem dX5_formula_196 : decode cX5_formula 196 = .ok (.aload_n 0, 1) := dk_42 (dk_at dksX5_formula_8 8 rfl rfl)
theorem dX5_formula_197 : decode cX5_formula 197 = .ok (.getfield 182, 3) := dk_180 0 182 (dk_at dksX5_formula_8 9 rfl rfl)
theorem dX5_formula_200 : decode cX5_formula 200 = .ok (.ifCond .ne 8, 3) := dk_154 0 8 (dk_at dksX5_formula_8 12 rfl rfl)
theorem dX5_formula_203 : decode cX5_formula 203 = .ok (.aload_n 0, 1) := dk_42 (dk_at dksX5_formula_8 15 rfl rfl)
theorem dX5_formula_204 : decode cX5_formula 204 = .ok (.iconst 0, 1) := dk_3 (dk_at dksX5_formula_8 16 rfl rfl)
theorem dX5_formula_205 : decode cX5_formula 205 = .ok (.invokevirtual 298, 3) := dk_182 1 42 (dk_at dksX5_formula_8 17 rfl rfl)
theorem dX5_formula_208 : decode cX5_formula 208 = .ok (.return_, 1) := dk_177 (dk_at dksX5_formula_8 20 rfl rfl)
abbrev cX5_unit : ByteArray := prog_17_method_28_code
def yX5_unit : MethodName := ⟨RX5, "unit", "()V"⟩
def dkwX5_unit_7 : List UInt8 := [156, 0, 10, 42, 180, 0, 166, 167, 0, 4, 28, 182, 1, 4, 42, 182, 0, 230, 177]
abbrev dktX5_unit_7 : List UInt8 := dkwX5_unit_7 ++ []
def dkwX5_unit_6 : List UInt8 := [180, 0, 182, 158, 0, 4, 177, 42, 182, 1, 26, 42, 28, 156, 0, 7, 3, 167, 0, 4, 4, 28]
abbrev dktX5_unit_6 : List UInt8 := dkwX5_unit_6 ++ dktX5_unit_7
def dkwX5_unit_5 : List UInt8 := [180, 0, 169, 5, 159, 0, 7, 28, 155, 0, 10, 42, 182, 1, 23, 153, 0, 8, 42, 5, 182, 0, 227, 42]
abbrev dktX5_unit_5 : List UInt8 := dkwX5_unit_5 ++ dktX5_unit_6
def dkwX5_unit_4 : List UInt8 := [167, 255, 165, 3, 60, 167, 255, 160, 42, 180, 0, 182, 158, 0, 4, 177, 42, 182, 1, 29, 61, 42]
abbrev dktX5_unit_4 : List UInt8 := dkwX5_unit_4 ++ dktX5_unit_5
def dkwX5_unit_3 : List UInt8 := [180, 1, 8, 16, 6, 164, 0, 8, 42, 5, 182, 0, 227, 42, 182, 1, 26, 42, 16, 20, 182, 1, 20]
abbrev dktX5_unit_3 : List UInt8 := dkwX5_unit_3 ++ dktX5_unit_4
def dkwX5_unit_2 : List UInt8 := [182, 1, 20, 167, 255, 208, 42, 180, 0, 169, 16, 40, 160, 0, 37, 42, 182, 1, 23, 154, 0, 12, 42]
abbrev dktX5_unit_2 : List UInt8 := dkwX5_unit_2 ++ dktX5_unit_3
def dkwX5_unit_1 : List UInt8 := [182, 1, 17, 153, 0, 26, 42, 180, 1, 8, 16, 6, 164, 0, 8, 42, 5, 182, 0, 227, 42, 16, 21]
abbrev dktX5_unit_1 : List UInt8 := dkwX5_unit_1 ++ dktX5_unit_2
def dkwX5_unit_0 : List UInt8 := [4, 60, 27, 153, 0, 98, 42, 180, 0, 182, 154, 0, 91, 42, 20, 0, 217, 182, 0, 223, 153, 0, 33, 42]
abbrev dktX5_unit_0 : List UInt8 := dkwX5_unit_0 ++ dktX5_unit_1
theorem dksX5_unit_0 : cX5_unit.data.toList.drop 0 = dktX5_unit_0 := by decide +kernel
theorem dksX5_unit_1 : cX5_unit.data.toList.drop 24 = dktX5_unit_1 := dk_seg dksX5_unit_0 24 rfl rfl
theorem dksX5_unit_2 : cX5_unit.data.toList.drop 47 = dktX5_unit_2 := dk_seg dksX5_unit_1 23 rfl rfl
theorem dksX5_unit_3 : cX5_unit.data.toList.drop 70 = dktX5_unit_3 := dk_seg dksX5_unit_2 23 rfl rfl
theorem dksX5_unit_4 : cX5_unit.data.toList.drop 93 = dktX5_unit_4 := dk_seg dksX5_unit_3 23 rfl rfl
theorem dksX5_unit_5 : cX5_unit.data.toList.drop 115 = dktX5_unit_5 := dk_seg dksX5_unit_4 22 rfl rfl
theorem dksX5_unit_6 : cX5_unit.data.toList.drop 139 = dktX5_unit_6 := dk_seg dksX5_unit_5 24 rfl rfl
theorem dksX5_unit_7 : cX5_unit.data.toList.drop 161 = dktX5_unit_7 := dk_seg dksX5_unit_6 22 rfl rfl
theorem dX5_unit_0 : decode cX5_unit 0 = .ok (.iconst 1, 1) := dk_4 (dk_at dksX5_unit_0 0 rfl rfl)
theorem dX5_unit_1 : decode cX5_unit 1 = .ok (.istore_n 1, 1) := dk_60 (dk_at dksX5_unit_0 1 rfl rfl)
theorem dX5_unit_2 : decode cX5_unit 2 = .ok (.iload_n 1, 1) := dk_27 (dk_at dksX5_unit_0 2 rfl rfl)
theorem dX5_unit_3 : decode cX5_unit 3 = .ok (.ifCond .eq 98, 3) := dk_153 0 98 (dk_at dksX5_unit_0 3 rfl rfl)
theorem dX5_unit_6 : decode cX5_unit 6 = .ok (.aload_n 0, 1) := dk_42 (dk_at dksX5_unit_0 6 rfl rfl)
theorem dX5_unit_7 : decode cX5_unit 7 = .ok (.getfield 182, 3) := dk_180 0 182 (dk_at dksX5_unit_0 7 rfl rfl)
theorem dX5_unit_10 : decode cX5_unit 10 = .ok (.ifCond .ne 91, 3) := dk_154 0 91 (dk_at dksX5_unit_0 10 rfl rfl)
theorem dX5_unit_13 : decode cX5_unit 13 = .ok (.aload_n 0, 1) := dk_42 (dk_at dksX5_unit_0 13 rfl rfl)
theorem dX5_unit_14 : decode cX5_unit 14 = .ok (.ldc2_w 217, 3) := dk_20 0 217 (dk_at dksX5_unit_0 14 rfl rfl)
theorem dX5_unit_17 : decode cX5_unit 17 = .ok (.invokevirtual 223, 3) := dk_182 0 223 (dk_at dksX5_unit_0 17 rfl rfl)
theorem dX5_unit_20 : decode cX5_unit 20 = .ok (.ifCond .eq 33, 3) := dk_153 0 33 (dk_at dksX5_unit_0 20 rfl rfl)
theorem dX5_unit_23 : decode cX5_unit 23 = .ok (.aload_n 0, 1) := dk_42 (dk_at dksX5_unit_0 23 rfl rfl)
theorem dX5_unit_24 : decode cX5_unit 24 = .ok (.invokevirtual 273, 3) := dk_182 1 17 (dk_at dksX5_unit_1 0 rfl rfl)
theorem dX5_unit_27 : decode cX5_unit 27 = .ok (.ifCond .eq 26, 3) := dk_153 0 26 (dk_at dksX5_unit_1 3 rfl rfl)
theorem dX5_unit_30 : decode cX5_unit 30 = .ok (.aload_n 0, 1) := dk_42 (dk_at dksX5_unit_1 6 rfl rfl)
theorem dX5_unit_31 : decode cX5_unit 31 = .ok (.getfield 264, 3) := dk_180 1 8 (dk_at dksX5_unit_1 7 rfl rfl)
theorem dX5_unit_34 : decode cX5_unit 34 = .ok (.bipush 6, 2) := dk_16 6 (dk_at dksX5_unit_1 10 rfl rfl)
theorem dX5_unit_36 : decode cX5_unit 36 = .ok (.if_icmp .le 8, 3) := dk_164 0 8 (dk_at dksX5_unit_1 12 rfl rfl)
theorem dX5_unit_39 : decode cX5_unit 39 = .ok (.aload_n 0, 1) := dk_42 (dk_at dksX5_unit_1 15 rfl rfl)
theorem dX5_unit_40 : decode cX5_unit 40 = .ok (.iconst 2, 1) := dk_5 (dk_at dksX5_unit_1 16 rfl rfl)
theorem dX5_unit_41 : decode cX5_unit 41 = .ok (.invokevirtual 227, 3) := dk_182 0 227 (dk_at dksX5_unit_1 17 rfl rfl)
theorem dX5_unit_44 : decode cX5_unit 44 = .ok (.aload_n 0, 1) := dk_42 (dk_at dksX5_unit_1 20 rfl rfl)
theorem dX5_unit_45 : decode cX5_unit 45 = .ok (.bipush 21, 2) := dk_16 21 (dk_at dksX5_unit_1 21 rfl rfl)
theorem dX5_unit_47 : decode cX5_unit 47 = .ok (.invokevirtual 276, 3) := dk_182 1 20 (dk_at dksX5_unit_2 0 rfl rfl)
theorem dX5_unit_50 : decode cX5_unit 50 = .ok (.goto (-48), 3) := dk_167 255 208 (dk_at dksX5_unit_2 3 rfl rfl)
theorem dX5_unit_53 : decode cX5_unit 53 = .ok (.aload_n 0, 1) := dk_42 (dk_at dksX5_unit_2 6 rfl rfl)
theorem dX5_unit_54 : decode cX5_unit 54 = .ok (.getfield 169, 3) := dk_180 0 169 (dk_at dksX5_unit_2 7 rfl rfl)
theorem dX5_unit_57 : decode cX5_unit 57 = .ok (.bipush 40, 2) := dk_16 40 (dk_at dksX5_unit_2 10 rfl rfl)
theorem dX5_unit_59 : decode cX5_unit 59 = .ok (.if_icmp .ne 37, 3) := dk_160 0 37 (dk_at dksX5_unit_2 12 rfl rfl)
theorem dX5_unit_62 : decode cX5_unit 62 = .ok (.aload_n 0, 1) := dk_42 (dk_at dksX5_unit_2 15 rfl rfl)
theorem dX5_unit_63 : decode cX5_unit 63 = .ok (.invokevirtual 279, 3) := dk_182 1 23 (dk_at dksX5_unit_2 16 rfl rfl)
theorem dX5_unit_66 : decode cX5_unit 66 = .ok (.ifCond .ne 12, 3) := dk_154 0 12 (dk_at dksX5_unit_2 19 rfl rfl)
theorem dX5_unit_69 : decode cX5_unit 69 = .ok (.aload_n 0, 1) := dk_42 (dk_at dksX5_unit_2 22 rfl rfl)
theorem dX5_unit_70 : decode cX5_unit 70 = .ok (.getfield 264, 3) := dk_180 1 8 (dk_at dksX5_unit_3 0 rfl rfl)
theorem dX5_unit_73 : decode cX5_unit 73 = .ok (.bipush 6, 2) := dk_16 6 (dk_at dksX5_unit_3 3 rfl rfl)
theorem dX5_unit_75 : decode cX5_unit 75 = .ok (.if_icmp .le 8, 3) := dk_164 0 8 (dk_at dksX5_unit_3 5 rfl rfl)
theorem dX5_unit_78 : decode cX5_unit 78 = .ok (.aload_n 0, 1) := dk_42 (dk_at dksX5_unit_3 8 rfl rfl)
theorem dX5_unit_79 : decode cX5_unit 79 = .ok (.iconst 2, 1) := dk_5 (dk_at dksX5_unit_3 9 rfl rfl)
theorem dX5_unit_80 : decode cX5_unit 80 = .ok (.invokevirtual 227, 3) := dk_182 0 227 (dk_at dksX5_unit_3 10 rfl rfl)
theorem dX5_unit_83 : decode cX5_unit 83 = .ok (.aload_n 0, 1) := dk_42 (dk_at dksX5_unit_3 13 rfl rfl)
theorem dX5_unit_84 : decode cX5_unit 84 = .ok (.invokevirtual 282, 3) := dk_182 1 26 (dk_at dksX5_unit_3 14 rfl rfl)
theorem dX5_unit_87 : decode cX5_unit 87 = .ok (.aload_n 0, 1) := dk_42 (dk_at dksX5_unit_3 17 rfl rfl)
theorem dX5_unit_88 : decode cX5_unit 88 = .ok (.bipush 20, 2) := dk_16 20 (dk_at dksX5_unit_3 18 rfl rfl)
theorem dX5_unit_90 : decode cX5_unit 90 = .ok (.invokevirtual 276, 3) := dk_182 1 20 (dk_at dksX5_unit_3 20 rfl rfl)
theorem dX5_unit_93 : decode cX5_unit 93 = .ok (.goto (-91), 3) := dk_167 255 165 (dk_at dksX5_unit_4 0 rfl rfl)
theorem dX5_unit_96 : decode cX5_unit 96 = .ok (.iconst 0, 1) := dk_3 (dk_at dksX5_unit_4 3 rfl rfl)
theorem dX5_unit_97 : decode cX5_unit 97 = .ok (.istore_n 1, 1) := dk_60 (dk_at dksX5_unit_4 4 rfl rfl)
theorem dX5_unit_98 : decode cX5_unit 98 = .ok (.goto (-96), 3) := dk_167 255 160 (dk_at dksX5_unit_4 5 rfl rfl)
theorem dX5_unit_101 : decode cX5_unit 101 = .ok (.aload_n 0, 1) := dk_42 (dk_at dksX5_unit_4 8 rfl rfl)
theorem dX5_unit_102 : decode cX5_unit 102 = .ok (.getfield 182, 3) := dk_180 0 182 (dk_at dksX5_unit_4 9 rfl rfl)
theorem dX5_unit_105 : decode cX5_unit 105 = .ok (.ifCond .le 4, 3) := dk_158 0 4 (dk_at dksX5_unit_4 12 rfl rfl)
theorem dX5_unit_108 : decode cX5_unit 108 = .ok (.return_, 1) := dk_177 (dk_at dksX5_unit_4 15 rfl rfl)
theorem dX5_unit_109 : decode cX5_unit 109 = .ok (.aload_n 0, 1) := dk_42 (dk_at dksX5_unit_4 16 rfl rfl)
theorem dX5_unit_110 : decode cX5_unit 110 = .ok (.invokevirtual 285, 3) := dk_182 1 29 (dk_at dksX5_unit_4 17 rfl rfl)
theorem dX5_unit_113 : decode cX5_unit 113 = .ok (.istore_n 2, 1) := dk_61 (dk_at dksX5_unit_4 20 rfl rfl)
theorem dX5_unit_114 : decode cX5_unit 114 = .ok (.aload_n 0, 1) := dk_42 (dk_at dksX5_unit_4 21 rfl rfl)
theorem dX5_unit_115 : decode cX5_unit 115 = .ok (.getfield 169, 3) := dk_180 0 169 (dk_at dksX5_unit_5 0 rfl rfl)
theorem dX5_unit_118 : decode cX5_unit 118 = .ok (.iconst 2, 1) := dk_5 (dk_at dksX5_unit_5 3 rfl rfl)
theorem dX5_unit_119 : decode cX5_unit 119 = .ok (.if_icmp .eq 7, 3) := dk_159 0 7 (dk_at dksX5_unit_5 4 rfl rfl)
theorem dX5_unit_122 : decode cX5_unit 122 = .ok (.iload_n 2, 1) := dk_28 (dk_at dksX5_unit_5 7 rfl rfl)
theorem dX5_unit_123 : decode cX5_unit 123 = .ok (.ifCond .lt 10, 3) := dk_155 0 10 (dk_at dksX5_unit_5 8 rfl rfl)
theorem dX5_unit_126 : decode cX5_unit 126 = .ok (.aload_n 0, 1) := dk_42 (dk_at dksX5_unit_5 11 rfl rfl)
theorem dX5_unit_127 : decode cX5_unit 127 = .ok (.invokevirtual 279, 3) := dk_182 1 23 (dk_at dksX5_unit_5 12 rfl rfl)
theorem dX5_unit_130 : decode cX5_unit 130 = .ok (.ifCond .eq 8, 3) := dk_153 0 8 (dk_at dksX5_unit_5 15 rfl rfl)
theorem dX5_unit_133 : decode cX5_unit 133 = .ok (.aload_n 0, 1) := dk_42 (dk_at dksX5_unit_5 18 rfl rfl)
theorem dX5_unit_134 : decode cX5_unit 134 = .ok (.iconst 2, 1) := dk_5 (dk_at dksX5_unit_5 19 rfl rfl)
theorem dX5_unit_135 : decode cX5_unit 135 = .ok (.invokevirtual 227, 3) := dk_182 0 227 (dk_at dksX5_unit_5 20 rfl rfl)
theorem dX5_unit_138 : decode cX5_unit 138 = .ok (.aload_n 0, 1) := dk_42 (dk_at dksX5_unit_5 23 rfl rfl)
theorem dX5_unit_139 : decode cX5_unit 139 = .ok (.getfield 182, 3) := dk_180 0 182 (dk_at dksX5_unit_6 0 rfl rfl)
theorem dX5_unit_142 : decode cX5_unit 142 = .ok (.ifCond .le 4, 3) := dk_158 0 4 (dk_at dksX5_unit_6 3 rfl rfl)
theorem dX5_unit_145 : decode cX5_unit 145 = .ok (.return_, 1) := dk_177 (dk_at dksX5_unit_6 6 rfl rfl)
theorem dX5_unit_146 : decode cX5_unit 146 = .ok (.aload_n 0, 1) := dk_42 (dk_at dksX5_unit_6 7 rfl rfl)
theorem dX5_unit_147 : decode cX5_unit 147 = .ok (.invokevirtual 282, 3) := dk_182 1 26 (dk_at dksX5_unit_6 8 rfl rfl)
theorem dX5_unit_150 : decode cX5_unit 150 = .ok (.aload_n 0, 1) := dk_42 (dk_at dksX5_unit_6 11 rfl rfl)
theorem dX5_unit_151 : decode cX5_unit 151 = .ok (.iload_n 2, 1) := dk_28 (dk_at dksX5_unit_6 12 rfl rfl)
theorem dX5_unit_152 : decode cX5_unit 152 = .ok (.ifCond .ge 7, 3) := dk_156 0 7 (dk_at dksX5_unit_6 13 rfl rfl)
theorem dX5_unit_155 : decode cX5_unit 155 = .ok (.iconst 0, 1) := dk_3 (dk_at dksX5_unit_6 16 rfl rfl)
theorem dX5_unit_156 : decode cX5_unit 156 = .ok (.goto 4, 3) := dk_167 0 4 (dk_at dksX5_unit_6 17 rfl rfl)
theorem dX5_unit_159 : decode cX5_unit 159 = .ok (.iconst 1, 1) := dk_4 (dk_at dksX5_unit_6 20 rfl rfl)
theorem dX5_unit_160 : decode cX5_unit 160 = .ok (.iload_n 2, 1) := dk_28 (dk_at dksX5_unit_6 21 rfl rfl)
theorem dX5_unit_161 : decode cX5_unit 161 = .ok (.ifCond .ge 10, 3) := dk_156 0 10 (dk_at dksX5_unit_7 0 rfl rfl)
theorem dX5_unit_164 : decode cX5_unit 164 = .ok (.aload_n 0, 1) := dk_42 (dk_at dksX5_unit_7 3 rfl rfl)
theorem dX5_unit_165 : decode cX5_unit 165 = .ok (.getfield 166, 3) := dk_180 0 166 (dk_at dksX5_unit_7 4 rfl rfl)
theorem dX5_unit_168 : decode cX5_unit 168 = .ok (.goto 4, 3) := dk_167 0 4 (dk_at dksX5_unit_7 7 rfl rfl)
theorem dX5_unit_171 : decode cX5_unit 171 = .ok (.iload_n 2, 1) := dk_28 (dk_at dksX5_unit_7 10 rfl rfl)
theorem dX5_unit_172 : decode cX5_unit 172 = .ok (.invokevirtual 260, 3) := dk_182 1 4 (dk_at dksX5_unit_7 11 rfl rfl)
theorem dX5_unit_175 : decode cX5_unit 175 = .ok (.aload_n 0, 1) := dk_42 (dk_at dksX5_unit_7 14 rfl rfl)
theorem dX5_unit_176 : decode cX5_unit 176 = .ok (.invokevirtual 230, 3) := dk_182 0 230 (dk_at dksX5_unit_7 15 rfl rfl)
theorem dX5_unit_179 : decode cX5_unit 179 = .ok (.return_, 1) := dk_177 (dk_at dksX5_unit_7 18 rfl rfl)
abbrev cX5_mayNot : ByteArray := prog_17_method_23_code
def yX5_mayNot : MethodName := ⟨RX5, "mayNot", "()Z"⟩
def dkwX5_mayNot_1 : List UInt8 := [180, 0, 39, 42, 180, 0, 254, 4, 100, 46, 184, 1, 1, 7, 162, 0, 7, 4, 167, 0, 4, 3, 172]
abbrev dktX5_mayNot_1 : List UInt8 := dkwX5_mayNot_1 ++ []
def dkwX5_mayNot_0 : List UInt8 := [42, 180, 0, 254, 153, 0, 37, 42, 180, 0, 39, 42, 180, 0, 254, 4, 100, 46, 16, 20, 159, 0, 21, 42]
abbrev dktX5_mayNot_0 : List UInt8 := dkwX5_mayNot_0 ++ dktX5_mayNot_1
theorem dksX5_mayNot_0 : cX5_mayNot.data.toList.drop 0 = dktX5_mayNot_0 := by decide +kernel
theorem dksX5_mayNot_1 : cX5_mayNot.data.toList.drop 24 = dktX5_mayNot_1 := dk_seg dksX5_mayNot_0 24 rfl rfl
theorem dX5_mayNot_0 : decode cX5_mayNot 0 = .ok (.aload_n 0, 1) := dk_42 (dk_at dksX5_mayNot_0 0 rfl rfl)
theorem dX5_mayNot_1 : decode cX5_mayNot 1 = .ok (.getfield 254, 3) := dk_180 0 254 (dk_at dksX5_mayNot_0 1 rfl rfl)
theorem dX5_mayNot_4 : decode cX5_mayNot 4 = .ok (.ifCond .eq 37, 3) := dk_153 0 37 (dk_at dksX5_mayNot_0 4 rfl rfl)
theorem dX5_mayNot_7 : decode cX5_mayNot 7 = .ok (.aload_n 0, 1) := dk_42 (dk_at dksX5_mayNot_0 7 rfl rfl)
theorem dX5_mayNot_8 : decode cX5_mayNot 8 = .ok (.getfield 39, 3) := dk_180 0 39 (dk_at dksX5_mayNot_0 8 rfl rfl)
theorem dX5_mayNot_11 : decode cX5_mayNot 11 = .ok (.aload_n 0, 1) := dk_42 (dk_at dksX5_mayNot_0 11 rfl rfl)
theorem dX5_mayNot_12 : decode cX5_mayNot 12 = .ok (.getfield 254, 3) := dk_180 0 254 (dk_at dksX5_mayNot_0 12 rfl rfl)
theorem dX5_mayNot_15 : decode cX5_mayNot 15 = .ok (.iconst 1, 1) := dk_4 (dk_at dksX5_mayNot_0 15 rfl rfl)
theorem dX5_mayNot_16 : decode cX5_mayNot 16 = .ok (.isub, 1) := dk_100 (dk_at dksX5_mayNot_0 16 rfl rfl)
theorem dX5_mayNot_17 : decode cX5_mayNot 17 = .ok (.iaload, 1) := dk_46 (dk_at dksX5_mayNot_0 17 rfl rfl)
theorem dX5_mayNot_18 : decode cX5_mayNot 18 = .ok (.bipush 20, 2) := dk_16 20 (dk_at dksX5_mayNot_0 18 rfl rfl)
theorem dX5_mayNot_20 : decode cX5_mayNot 20 = .ok (.if_icmp .eq 21, 3) := dk_159 0 21 (dk_at dksX5_mayNot_0 20 rfl rfl)
theorem dX5_mayNot_23 : decode cX5_mayNot 23 = .ok (.aload_n 0, 1) := dk_42 (dk_at dksX5_mayNot_0 23 rfl rfl)
theorem dX5_mayNot_24 : decode cX5_mayNot 24 = .ok (.getfield 39, 3) := dk_180 0 39 (dk_at dksX5_mayNot_1 0 rfl rfl)
theorem dX5_mayNot_27 : decode cX5_mayNot 27 = .ok (.aload_n 0, 1) := dk_42 (dk_at dksX5_mayNot_1 3 rfl rfl)
theorem dX5_mayNot_28 : decode cX5_mayNot 28 = .ok (.getfield 254, 3) := dk_180 0 254 (dk_at dksX5_mayNot_1 4 rfl rfl)
theorem dX5_mayNot_31 : decode cX5_mayNot 31 = .ok (.iconst 1, 1) := dk_4 (dk_at dksX5_mayNot_1 7 rfl rfl)
theorem dX5_mayNot_32 : decode cX5_mayNot 32 = .ok (.isub, 1) := dk_100 (dk_at dksX5_mayNot_1 8 rfl rfl)
theorem dX5_mayNot_33 : decode cX5_mayNot 33 = .ok (.iaload, 1) := dk_46 (dk_at dksX5_mayNot_1 9 rfl rfl)
theorem dX5_mayNot_34 : decode cX5_mayNot 34 = .ok (.invokestatic 257, 3) := dk_184 1 1 (dk_at dksX5_mayNot_1 10 rfl rfl)
theorem dX5_mayNot_37 : decode cX5_mayNot 37 = .ok (.iconst 4, 1) := dk_7 (dk_at dksX5_mayNot_1 13 rfl rfl)
theorem dX5_mayNot_38 : decode cX5_mayNot 38 = .ok (.if_icmp .ge 7, 3) := dk_162 0 7 (dk_at dksX5_mayNot_1 14 rfl rfl)
theorem dX5_mayNot_41 : decode cX5_mayNot 41 = .ok (.iconst 1, 1) := dk_4 (dk_at dksX5_mayNot_1 17 rfl rfl)
theorem dX5_mayNot_42 : decode cX5_mayNot 42 = .ok (.goto 4, 3) := dk_167 0 4 (dk_at dksX5_mayNot_1 18 rfl rfl)
theorem dX5_mayNot_45 : decode cX5_mayNot 45 = .ok (.iconst 0, 1) := dk_3 (dk_at dksX5_mayNot_1 21 rfl rfl)
theorem dX5_mayNot_46 : decode cX5_mayNot 46 = .ok (.ireturn, 1) := dk_172 (dk_at dksX5_mayNot_1 22 rfl rfl)
abbrev cX5_tight : ByteArray := prog_17_method_20_code
def yX5_tight : MethodName := ⟨RX5, "tight", "(I)I"⟩
def dkwX5_tight_2 : List UInt8 := [4, 172, 5, 172, 6, 172, 7, 172, 8, 172, 16, 6, 172]
abbrev dktX5_tight_2 : List UInt8 := dkwX5_tight_2 ++ []
def dkwX5_tight_1 : List UInt8 := [171, 0, 0, 0, 0, 0, 85, 0, 0, 0, 8, 0, 0, 0, 21, 0, 0, 0, 79, 0, 0, 0, 38, 0, 0, 0, 77, 0, 0, 0, 43, 0, 0, 0, 83, 0, 0, 0, 45, 0, 0, 0, 83, 0, 0, 0, 60, 0, 0, 0, 81, 0, 0, 0, 61, 0, 0, 0, 81, 0, 0, 0, 62, 0, 0, 0, 81, 0, 0, 0, 124, 0, 0, 0, 75]
abbrev dktX5_tight_1 : List UInt8 := dkwX5_tight_1 ++ dktX5_tight_2
def dkwX5_tight_0 : List UInt8 := [26]
abbrev dktX5_tight_0 : List UInt8 := dkwX5_tight_0 ++ dktX5_tight_1
theorem dksX5_tight_0 : cX5_tight.data.toList.drop 0 = dktX5_tight_0 := by decide +kernel
theorem dksX5_tight_1 : cX5_tight.data.toList.drop 1 = dktX5_tight_1 := dk_seg dksX5_tight_0 1 rfl rfl
theorem dksX5_tight_2 : cX5_tight.data.toList.drop 76 = dktX5_tight_2 := dk_seg dksX5_tight_1 75 rfl rfl
theorem dX5_tight_0 : decode cX5_tight 0 = .ok (.iload_n 0, 1) := dk_26 (dk_at dksX5_tight_0 0 rfl rfl)
theorem dX5_tight_1 : decode cX5_tight 1 = .ok (.lookupswitch 85 #[(21, 79), (38, 77), (43, 83), (45, 83), (60, 81), (61, 81), (62, 81), (124, 75)], 75) := by decide +kernel
theorem dX5_tight_76 : decode cX5_tight 76 = .ok (.iconst 1, 1) := dk_4 (dk_at dksX5_tight_2 0 rfl rfl)
theorem dX5_tight_77 : decode cX5_tight 77 = .ok (.ireturn, 1) := dk_172 (dk_at dksX5_tight_2 1 rfl rfl)
theorem dX5_tight_78 : decode cX5_tight 78 = .ok (.iconst 2, 1) := dk_5 (dk_at dksX5_tight_2 2 rfl rfl)
theorem dX5_tight_79 : decode cX5_tight 79 = .ok (.ireturn, 1) := dk_172 (dk_at dksX5_tight_2 3 rfl rfl)
theorem dX5_tight_80 : decode cX5_tight 80 = .ok (.iconst 3, 1) := dk_6 (dk_at dksX5_tight_2 4 rfl rfl)
theorem dX5_tight_81 : decode cX5_tight 81 = .ok (.ireturn, 1) := dk_172 (dk_at dksX5_tight_2 5 rfl rfl)
theorem dX5_tight_82 : decode cX5_tight 82 = .ok (.iconst 4, 1) := dk_7 (dk_at dksX5_tight_2 6 rfl rfl)
theorem dX5_tight_83 : decode cX5_tight 83 = .ok (.ireturn, 1) := dk_172 (dk_at dksX5_tight_2 7 rfl rfl)
theorem dX5_tight_84 : decode cX5_tight 84 = .ok (.iconst 5, 1) := dk_8 (dk_at dksX5_tight_2 8 rfl rfl)
theorem dX5_tight_85 : decode cX5_tight 85 = .ok (.ireturn, 1) := dk_172 (dk_at dksX5_tight_2 9 rfl rfl)
theorem dX5_tight_86 : decode cX5_tight 86 = .ok (.bipush 6, 2) := dk_16 6 (dk_at dksX5_tight_2 10 rfl rfl)
theorem dX5_tight_88 : decode cX5_tight 88 = .ok (.ireturn, 1) := dk_172 (dk_at dksX5_tight_2 12 rfl rfl)
abbrev cX5_openUp : ByteArray := prog_17_method_27_code
def yX5_openUp : MethodName := ⟨RX5, "openUp", "(I)V"⟩
def dkwX5_openUp_1 : List UInt8 := [180, 1, 8, 4, 96, 181, 1, 8, 42, 180, 0, 182, 154, 0, 7, 42, 182, 0, 230, 177]
abbrev dktX5_openUp_1 : List UInt8 := dkwX5_openUp_1 ++ []
def dkwX5_openUp_0 : List UInt8 := [42, 180, 0, 39, 42, 180, 0, 254, 27, 79, 42, 89, 180, 0, 254, 4, 96, 181, 0, 254, 42, 89]
abbrev dktX5_openUp_0 : List UInt8 := dkwX5_openUp_0 ++ dktX5_openUp_1
theorem dksX5_openUp_0 : cX5_openUp.data.toList.drop 0 = dktX5_openUp_0 := by decide +kernel
theorem dksX5_openUp_1 : cX5_openUp.data.toList.drop 22 = dktX5_openUp_1 := dk_seg dksX5_openUp_0 22 rfl rfl
theorem dX5_openUp_0 : decode cX5_openUp 0 = .ok (.aload_n 0, 1) := dk_42 (dk_at dksX5_openUp_0 0 rfl rfl)
theorem dX5_openUp_1 : decode cX5_openUp 1 = .ok (.getfield 39, 3) := dk_180 0 39 (dk_at dksX5_openUp_0 1 rfl rfl)
theorem dX5_openUp_4 : decode cX5_openUp 4 = .ok (.aload_n 0, 1) := dk_42 (dk_at dksX5_openUp_0 4 rfl rfl)
theorem dX5_openUp_5 : decode cX5_openUp 5 = .ok (.getfield 254, 3) := dk_180 0 254 (dk_at dksX5_openUp_0 5 rfl rfl)
theorem dX5_openUp_8 : decode cX5_openUp 8 = .ok (.iload_n 1, 1) := dk_27 (dk_at dksX5_openUp_0 8 rfl rfl)
theorem dX5_openUp_9 : decode cX5_openUp 9 = .ok (.iastore, 1) := dk_79 (dk_at dksX5_openUp_0 9 rfl rfl)
theorem dX5_openUp_10 : decode cX5_openUp 10 = .ok (.aload_n 0, 1) := dk_42 (dk_at dksX5_openUp_0 10 rfl rfl)
theorem dX5_openUp_11 : decode cX5_openUp 11 = .ok (.dup, 1) := dk_89 (dk_at dksX5_openUp_0 11 rfl rfl)
theorem dX5_openUp_12 : decode cX5_openUp 12 = .ok (.getfield 254, 3) := dk_180 0 254 (dk_at dksX5_openUp_0 12 rfl rfl)
theorem dX5_openUp_15 : decode cX5_openUp 15 = .ok (.iconst 1, 1) := dk_4 (dk_at dksX5_openUp_0 15 rfl rfl)
theorem dX5_openUp_16 : decode cX5_openUp 16 = .ok (.iadd, 1) := dk_96 (dk_at dksX5_openUp_0 16 rfl rfl)
theorem dX5_openUp_17 : decode cX5_openUp 17 = .ok (.putfield 254, 3) := dk_181 0 254 (dk_at dksX5_openUp_0 17 rfl rfl)
theorem dX5_openUp_20 : decode cX5_openUp 20 = .ok (.aload_n 0, 1) := dk_42 (dk_at dksX5_openUp_0 20 rfl rfl)
theorem dX5_openUp_21 : decode cX5_openUp 21 = .ok (.dup, 1) := dk_89 (dk_at dksX5_openUp_0 21 rfl rfl)
theorem dX5_openUp_22 : decode cX5_openUp 22 = .ok (.getfield 264, 3) := dk_180 1 8 (dk_at dksX5_openUp_1 0 rfl rfl)
theorem dX5_openUp_25 : decode cX5_openUp 25 = .ok (.iconst 1, 1) := dk_4 (dk_at dksX5_openUp_1 3 rfl rfl)
theorem dX5_openUp_26 : decode cX5_openUp 26 = .ok (.iadd, 1) := dk_96 (dk_at dksX5_openUp_1 4 rfl rfl)
theorem dX5_openUp_27 : decode cX5_openUp 27 = .ok (.putfield 264, 3) := dk_181 1 8 (dk_at dksX5_openUp_1 5 rfl rfl)
theorem dX5_openUp_30 : decode cX5_openUp 30 = .ok (.aload_n 0, 1) := dk_42 (dk_at dksX5_openUp_1 8 rfl rfl)
theorem dX5_openUp_31 : decode cX5_openUp 31 = .ok (.getfield 182, 3) := dk_180 0 182 (dk_at dksX5_openUp_1 9 rfl rfl)
theorem dX5_openUp_34 : decode cX5_openUp 34 = .ok (.ifCond .ne 7, 3) := dk_154 0 7 (dk_at dksX5_openUp_1 12 rfl rfl)
theorem dX5_openUp_37 : decode cX5_openUp 37 = .ok (.aload_n 0, 1) := dk_42 (dk_at dksX5_openUp_1 15 rfl rfl)
theorem dX5_openUp_38 : decode cX5_openUp 38 = .ok (.invokevirtual 230, 3) := dk_182 0 230 (dk_at dksX5_openUp_1 16 rfl rfl)
theorem dX5_openUp_41 : decode cX5_openUp 41 = .ok (.return_, 1) := dk_177 (dk_at dksX5_openUp_1 19 rfl rfl)
abbrev cX5_isFull : ByteArray := prog_17_method_25_code
def yX5_isFull : MethodName := ⟨RX5, "isFull", "()Z"⟩
def dkwX5_isFull_0 : List UInt8 := [42, 180, 1, 11, 16, 60, 159, 0, 12, 42, 180, 1, 14, 16, 30, 160, 0, 7, 4, 167, 0, 4, 3, 172]
abbrev dktX5_isFull_0 : List UInt8 := dkwX5_isFull_0 ++ []
theorem dksX5_isFull_0 : cX5_isFull.data.toList.drop 0 = dktX5_isFull_0 := by decide +kernel
theorem dX5_isFull_0 : decode cX5_isFull 0 = .ok (.aload_n 0, 1) := dk_42 (dk_at dksX5_isFull_0 0 rfl rfl)
theorem dX5_isFull_1 : decode cX5_isFull 1 = .ok (.getfield 267, 3) := dk_180 1 11 (dk_at dksX5_isFull_0 1 rfl rfl)
theorem dX5_isFull_4 : decode cX5_isFull 4 = .ok (.bipush 60, 2) := dk_16 60 (dk_at dksX5_isFull_0 4 rfl rfl)
theorem dX5_isFull_6 : decode cX5_isFull 6 = .ok (.if_icmp .eq 12, 3) := dk_159 0 12 (dk_at dksX5_isFull_0 6 rfl rfl)
theorem dX5_isFull_9 : decode cX5_isFull 9 = .ok (.aload_n 0, 1) := dk_42 (dk_at dksX5_isFull_0 9 rfl rfl)
theorem dX5_isFull_10 : decode cX5_isFull 10 = .ok (.getfield 270, 3) := dk_180 1 14 (dk_at dksX5_isFull_0 10 rfl rfl)
theorem dX5_isFull_13 : decode cX5_isFull 13 = .ok (.bipush 30, 2) := dk_16 30 (dk_at dksX5_isFull_0 13 rfl rfl)
theorem dX5_isFull_15 : decode cX5_isFull 15 = .ok (.if_icmp .ne 7, 3) := dk_160 0 7 (dk_at dksX5_isFull_0 15 rfl rfl)
theorem dX5_isFull_18 : decode cX5_isFull 18 = .ok (.iconst 1, 1) := dk_4 (dk_at dksX5_isFull_0 18 rfl rfl)
theorem dX5_isFull_19 : decode cX5_isFull 19 = .ok (.goto 4, 3) := dk_167 0 4 (dk_at dksX5_isFull_0 19 rfl rfl)
theorem dX5_isFull_22 : decode cX5_isFull 22 = .ok (.iconst 0, 1) := dk_3 (dk_at dksX5_isFull_0 22 rfl rfl)
theorem dX5_isFull_23 : decode cX5_isFull 23 = .ok (.ireturn, 1) := dk_172 (dk_at dksX5_isFull_0 23 rfl rfl)
abbrev cX5_countUnit : ByteArray := prog_17_method_26_code
def yX5_countUnit : MethodName := ⟨RX5, "countUnit", "()V"⟩
def dkwX5_countUnit_0 : List UInt8 := [42, 89, 180, 1, 11, 4, 96, 181, 1, 11, 42, 89, 180, 1, 14, 4, 96, 181, 1, 14, 177]
abbrev dktX5_countUnit_0 : List UInt8 := dkwX5_countUnit_0 ++ []
theorem dksX5_countUnit_0 : cX5_countUnit.data.toList.drop 0 = dktX5_countUnit_0 := by decide +kernel
theorem dX5_countUnit_0 : decode cX5_countUnit 0 = .ok (.aload_n 0, 1) := dk_42 (dk_at dksX5_countUnit_0 0 rfl rfl)
theorem dX5_countUnit_1 : decode cX5_countUnit 1 = .ok (.dup, 1) := dk_89 (dk_at dksX5_countUnit_0 1 rfl rfl)
theorem dX5_countUnit_2 : decode cX5_countUnit 2 = .ok (.getfield 267, 3) := dk_180 1 11 (dk_at dksX5_countUnit_0 2 rfl rfl)
theorem dX5_countUnit_5 : decode cX5_countUnit 5 = .ok (.iconst 1, 1) := dk_4 (dk_at dksX5_countUnit_0 5 rfl rfl)
theorem dX5_countUnit_6 : decode cX5_countUnit 6 = .ok (.iadd, 1) := dk_96 (dk_at dksX5_countUnit_0 6 rfl rfl)
theorem dX5_countUnit_7 : decode cX5_countUnit 7 = .ok (.putfield 267, 3) := dk_181 1 11 (dk_at dksX5_countUnit_0 7 rfl rfl)
theorem dX5_countUnit_10 : decode cX5_countUnit 10 = .ok (.aload_n 0, 1) := dk_42 (dk_at dksX5_countUnit_0 10 rfl rfl)
theorem dX5_countUnit_11 : decode cX5_countUnit 11 = .ok (.dup, 1) := dk_89 (dk_at dksX5_countUnit_0 11 rfl rfl)
theorem dX5_countUnit_12 : decode cX5_countUnit 12 = .ok (.getfield 270, 3) := dk_180 1 14 (dk_at dksX5_countUnit_0 12 rfl rfl)
theorem dX5_countUnit_15 : decode cX5_countUnit 15 = .ok (.iconst 1, 1) := dk_4 (dk_at dksX5_countUnit_0 15 rfl rfl)
theorem dX5_countUnit_16 : decode cX5_countUnit 16 = .ok (.iadd, 1) := dk_96 (dk_at dksX5_countUnit_0 16 rfl rfl)
theorem dX5_countUnit_17 : decode cX5_countUnit 17 = .ok (.putfield 270, 3) := dk_181 1 14 (dk_at dksX5_countUnit_0 17 rfl rfl)
theorem dX5_countUnit_20 : decode cX5_countUnit 20 = .ok (.return_, 1) := dk_177 (dk_at dksX5_countUnit_0 20 rfl rfl)
abbrev cX5_asked : ByteArray := prog_17_method_24_code
def yX5_asked : MethodName := ⟨RX5, "asked", "()I"⟩
def dkwX5_asked_3 : List UInt8 := [154, 0, 5, 7, 172, 42, 180, 0, 162, 20, 0, 187, 148, 154, 0, 7, 8, 167, 0, 4, 2, 172]
abbrev dktX5_asked_3 : List UInt8 := dkwX5_asked_3 ++ []
def dkwX5_asked_2 : List UInt8 := [172, 42, 180, 0, 162, 20, 0, 209, 148, 154, 0, 5, 6, 172, 42, 180, 0, 162, 20, 0, 211, 148]
abbrev dktX5_asked_2 : List UInt8 := dkwX5_asked_2 ++ dktX5_asked_3
def dkwX5_asked_1 : List UInt8 := [180, 0, 162, 20, 0, 195, 148, 154, 0, 5, 4, 172, 42, 180, 0, 162, 20, 0, 207, 148, 154, 0, 5, 5]
abbrev dktX5_asked_1 : List UInt8 := dkwX5_asked_1 ++ dktX5_asked_2
def dkwX5_asked_0 : List UInt8 := [42, 180, 0, 169, 4, 159, 0, 5, 2, 172, 42, 180, 0, 162, 20, 0, 185, 148, 154, 0, 5, 3, 172, 42]
abbrev dktX5_asked_0 : List UInt8 := dkwX5_asked_0 ++ dktX5_asked_1
theorem dksX5_asked_0 : cX5_asked.data.toList.drop 0 = dktX5_asked_0 := by decide +kernel
theorem dksX5_asked_1 : cX5_asked.data.toList.drop 24 = dktX5_asked_1 := dk_seg dksX5_asked_0 24 rfl rfl
theorem dksX5_asked_2 : cX5_asked.data.toList.drop 48 = dktX5_asked_2 := dk_seg dksX5_asked_1 24 rfl rfl
theorem dksX5_asked_3 : cX5_asked.data.toList.drop 70 = dktX5_asked_3 := dk_seg dksX5_asked_2 22 rfl rfl
theorem dX5_asked_0 : decode cX5_asked 0 = .ok (.aload_n 0, 1) := dk_42 (dk_at dksX5_asked_0 0 rfl rfl)
theorem dX5_asked_1 : decode cX5_asked 1 = .ok (.getfield 169, 3) := dk_180 0 169 (dk_at dksX5_asked_0 1 rfl rfl)
theorem dX5_asked_4 : decode cX5_asked 4 = .ok (.iconst 1, 1) := dk_4 (dk_at dksX5_asked_0 4 rfl rfl)
theorem dX5_asked_5 : decode cX5_asked 5 = .ok (.if_icmp .eq 5, 3) := dk_159 0 5 (dk_at dksX5_asked_0 5 rfl rfl)
theorem dX5_asked_8 : decode cX5_asked 8 = .ok (.iconst (-1), 1) := dk_2 (dk_at dksX5_asked_0 8 rfl rfl)
theorem dX5_asked_9 : decode cX5_asked 9 = .ok (.ireturn, 1) := dk_172 (dk_at dksX5_asked_0 9 rfl rfl)
theorem dX5_asked_10 : decode cX5_asked 10 = .ok (.aload_n 0, 1) := dk_42 (dk_at dksX5_asked_0 10 rfl rfl)
theorem dX5_asked_11 : decode cX5_asked 11 = .ok (.getfield 162, 3) := dk_180 0 162 (dk_at dksX5_asked_0 11 rfl rfl)
theorem dX5_asked_14 : decode cX5_asked 14 = .ok (.ldc2_w 185, 3) := dk_20 0 185 (dk_at dksX5_asked_0 14 rfl rfl)
theorem dX5_asked_17 : decode cX5_asked 17 = .ok (.lcmp, 1) := dk_148 (dk_at dksX5_asked_0 17 rfl rfl)
theorem dX5_asked_18 : decode cX5_asked 18 = .ok (.ifCond .ne 5, 3) := dk_154 0 5 (dk_at dksX5_asked_0 18 rfl rfl)
theorem dX5_asked_21 : decode cX5_asked 21 = .ok (.iconst 0, 1) := dk_3 (dk_at dksX5_asked_0 21 rfl rfl)
theorem dX5_asked_22 : decode cX5_asked 22 = .ok (.ireturn, 1) := dk_172 (dk_at dksX5_asked_0 22 rfl rfl)
theorem dX5_asked_23 : decode cX5_asked 23 = .ok (.aload_n 0, 1) := dk_42 (dk_at dksX5_asked_0 23 rfl rfl)
theorem dX5_asked_24 : decode cX5_asked 24 = .ok (.getfield 162, 3) := dk_180 0 162 (dk_at dksX5_asked_1 0 rfl rfl)
theorem dX5_asked_27 : decode cX5_asked 27 = .ok (.ldc2_w 195, 3) := dk_20 0 195 (dk_at dksX5_asked_1 3 rfl rfl)
theorem dX5_asked_30 : decode cX5_asked 30 = .ok (.lcmp, 1) := dk_148 (dk_at dksX5_asked_1 6 rfl rfl)
theorem dX5_asked_31 : decode cX5_asked 31 = .ok (.ifCond .ne 5, 3) := dk_154 0 5 (dk_at dksX5_asked_1 7 rfl rfl)
theorem dX5_asked_34 : decode cX5_asked 34 = .ok (.iconst 1, 1) := dk_4 (dk_at dksX5_asked_1 10 rfl rfl)
theorem dX5_asked_35 : decode cX5_asked 35 = .ok (.ireturn, 1) := dk_172 (dk_at dksX5_asked_1 11 rfl rfl)
theorem dX5_asked_36 : decode cX5_asked 36 = .ok (.aload_n 0, 1) := dk_42 (dk_at dksX5_asked_1 12 rfl rfl)
theorem dX5_asked_37 : decode cX5_asked 37 = .ok (.getfield 162, 3) := dk_180 0 162 (dk_at dksX5_asked_1 13 rfl rfl)
theorem dX5_asked_40 : decode cX5_asked 40 = .ok (.ldc2_w 207, 3) := dk_20 0 207 (dk_at dksX5_asked_1 16 rfl rfl)
theorem dX5_asked_43 : decode cX5_asked 43 = .ok (.lcmp, 1) := dk_148 (dk_at dksX5_asked_1 19 rfl rfl)
theorem dX5_asked_44 : decode cX5_asked 44 = .ok (.ifCond .ne 5, 3) := dk_154 0 5 (dk_at dksX5_asked_1 20 rfl rfl)
theorem dX5_asked_47 : decode cX5_asked 47 = .ok (.iconst 2, 1) := dk_5 (dk_at dksX5_asked_1 23 rfl rfl)
theorem dX5_asked_48 : decode cX5_asked 48 = .ok (.ireturn, 1) := dk_172 (dk_at dksX5_asked_2 0 rfl rfl)
theorem dX5_asked_49 : decode cX5_asked 49 = .ok (.aload_n 0, 1) := dk_42 (dk_at dksX5_asked_2 1 rfl rfl)
theorem dX5_asked_50 : decode cX5_asked 50 = .ok (.getfield 162, 3) := dk_180 0 162 (dk_at dksX5_asked_2 2 rfl rfl)
theorem dX5_asked_53 : decode cX5_asked 53 = .ok (.ldc2_w 209, 3) := dk_20 0 209 (dk_at dksX5_asked_2 5 rfl rfl)
theorem dX5_asked_56 : decode cX5_asked 56 = .ok (.lcmp, 1) := dk_148 (dk_at dksX5_asked_2 8 rfl rfl)
theorem dX5_asked_57 : decode cX5_asked 57 = .ok (.ifCond .ne 5, 3) := dk_154 0 5 (dk_at dksX5_asked_2 9 rfl rfl)
theorem dX5_asked_60 : decode cX5_asked 60 = .ok (.iconst 3, 1) := dk_6 (dk_at dksX5_asked_2 12 rfl rfl)
theorem dX5_asked_61 : decode cX5_asked 61 = .ok (.ireturn, 1) := dk_172 (dk_at dksX5_asked_2 13 rfl rfl)
theorem dX5_asked_62 : decode cX5_asked 62 = .ok (.aload_n 0, 1) := dk_42 (dk_at dksX5_asked_2 14 rfl rfl)
theorem dX5_asked_63 : decode cX5_asked 63 = .ok (.getfield 162, 3) := dk_180 0 162 (dk_at dksX5_asked_2 15 rfl rfl)
theorem dX5_asked_66 : decode cX5_asked 66 = .ok (.ldc2_w 211, 3) := dk_20 0 211 (dk_at dksX5_asked_2 18 rfl rfl)
theorem dX5_asked_69 : decode cX5_asked 69 = .ok (.lcmp, 1) := dk_148 (dk_at dksX5_asked_2 21 rfl rfl)
theorem dX5_asked_70 : decode cX5_asked 70 = .ok (.ifCond .ne 5, 3) := dk_154 0 5 (dk_at dksX5_asked_3 0 rfl rfl)
theorem dX5_asked_73 : decode cX5_asked 73 = .ok (.iconst 4, 1) := dk_7 (dk_at dksX5_asked_3 3 rfl rfl)
theorem dX5_asked_74 : decode cX5_asked 74 = .ok (.ireturn, 1) := dk_172 (dk_at dksX5_asked_3 4 rfl rfl)
theorem dX5_asked_75 : decode cX5_asked 75 = .ok (.aload_n 0, 1) := dk_42 (dk_at dksX5_asked_3 5 rfl rfl)
theorem dX5_asked_76 : decode cX5_asked 76 = .ok (.getfield 162, 3) := dk_180 0 162 (dk_at dksX5_asked_3 6 rfl rfl)
theorem dX5_asked_79 : decode cX5_asked 79 = .ok (.ldc2_w 187, 3) := dk_20 0 187 (dk_at dksX5_asked_3 9 rfl rfl)
theorem dX5_asked_82 : decode cX5_asked 82 = .ok (.lcmp, 1) := dk_148 (dk_at dksX5_asked_3 12 rfl rfl)
theorem dX5_asked_83 : decode cX5_asked 83 = .ok (.ifCond .ne 7, 3) := dk_154 0 7 (dk_at dksX5_asked_3 13 rfl rfl)
theorem dX5_asked_86 : decode cX5_asked 86 = .ok (.iconst 5, 1) := dk_8 (dk_at dksX5_asked_3 16 rfl rfl)
theorem dX5_asked_87 : decode cX5_asked 87 = .ok (.goto 4, 3) := dk_167 0 4 (dk_at dksX5_asked_3 17 rfl rfl)
theorem dX5_asked_90 : decode cX5_asked 90 = .ok (.iconst (-1), 1) := dk_2 (dk_at dksX5_asked_3 20 rfl rfl)
theorem dX5_asked_91 : decode cX5_asked 91 = .ok (.ireturn, 1) := dk_172 (dk_at dksX5_asked_3 21 rfl rfl)
abbrev cX5_add : ByteArray := prog_17_method_19_code
def yX5_add : MethodName := ⟨RX5, "add", "(II)V"⟩
def dkwX5_add_2 : List UInt8 := [42, 180, 0, 27, 42, 180, 0, 251, 92, 46, 4, 96, 79, 177]
abbrev dktX5_add_2 : List UInt8 := dkwX5_add_2 ++ []
def dkwX5_add_1 : List UInt8 := [42, 180, 0, 24, 17, 1, 64, 42, 180, 0, 251, 104, 42, 180, 0, 27, 42, 180, 0, 251, 46, 96, 28, 79]
abbrev dktX5_add_1 : List UInt8 := dkwX5_add_1 ++ dktX5_add_2
def dkwX5_add_0 : List UInt8 := [42, 180, 0, 21, 17, 1, 64, 42, 180, 0, 251, 104, 42, 180, 0, 27, 42, 180, 0, 251, 46, 96, 27, 79]
abbrev dktX5_add_0 : List UInt8 := dkwX5_add_0 ++ dktX5_add_1
theorem dksX5_add_0 : cX5_add.data.toList.drop 0 = dktX5_add_0 := by decide +kernel
theorem dksX5_add_1 : cX5_add.data.toList.drop 24 = dktX5_add_1 := dk_seg dksX5_add_0 24 rfl rfl
theorem dksX5_add_2 : cX5_add.data.toList.drop 48 = dktX5_add_2 := dk_seg dksX5_add_1 24 rfl rfl
theorem dX5_add_0 : decode cX5_add 0 = .ok (.aload_n 0, 1) := dk_42 (dk_at dksX5_add_0 0 rfl rfl)
theorem dX5_add_1 : decode cX5_add 1 = .ok (.getfield 21, 3) := dk_180 0 21 (dk_at dksX5_add_0 1 rfl rfl)
theorem dX5_add_4 : decode cX5_add 4 = .ok (.sipush 320, 3) := dk_17 1 64 (dk_at dksX5_add_0 4 rfl rfl)
theorem dX5_add_7 : decode cX5_add 7 = .ok (.aload_n 0, 1) := dk_42 (dk_at dksX5_add_0 7 rfl rfl)
theorem dX5_add_8 : decode cX5_add 8 = .ok (.getfield 251, 3) := dk_180 0 251 (dk_at dksX5_add_0 8 rfl rfl)
theorem dX5_add_11 : decode cX5_add 11 = .ok (.imul, 1) := dk_104 (dk_at dksX5_add_0 11 rfl rfl)
theorem dX5_add_12 : decode cX5_add 12 = .ok (.aload_n 0, 1) := dk_42 (dk_at dksX5_add_0 12 rfl rfl)
theorem dX5_add_13 : decode cX5_add 13 = .ok (.getfield 27, 3) := dk_180 0 27 (dk_at dksX5_add_0 13 rfl rfl)
theorem dX5_add_16 : decode cX5_add 16 = .ok (.aload_n 0, 1) := dk_42 (dk_at dksX5_add_0 16 rfl rfl)
theorem dX5_add_17 : decode cX5_add 17 = .ok (.getfield 251, 3) := dk_180 0 251 (dk_at dksX5_add_0 17 rfl rfl)
theorem dX5_add_20 : decode cX5_add 20 = .ok (.iaload, 1) := dk_46 (dk_at dksX5_add_0 20 rfl rfl)
theorem dX5_add_21 : decode cX5_add 21 = .ok (.iadd, 1) := dk_96 (dk_at dksX5_add_0 21 rfl rfl)
theorem dX5_add_22 : decode cX5_add 22 = .ok (.iload_n 1, 1) := dk_27 (dk_at dksX5_add_0 22 rfl rfl)
theorem dX5_add_23 : decode cX5_add 23 = .ok (.iastore, 1) := dk_79 (dk_at dksX5_add_0 23 rfl rfl)
theorem dX5_add_24 : decode cX5_add 24 = .ok (.aload_n 0, 1) := dk_42 (dk_at dksX5_add_1 0 rfl rfl)
theorem dX5_add_25 : decode cX5_add 25 = .ok (.getfield 24, 3) := dk_180 0 24 (dk_at dksX5_add_1 1 rfl rfl)
theorem dX5_add_28 : decode cX5_add 28 = .ok (.sipush 320, 3) := dk_17 1 64 (dk_at dksX5_add_1 4 rfl rfl)
theorem dX5_add_31 : decode cX5_add 31 = .ok (.aload_n 0, 1) := dk_42 (dk_at dksX5_add_1 7 rfl rfl)
theorem dX5_add_32 : decode cX5_add 32 = .ok (.getfield 251, 3) := dk_180 0 251 (dk_at dksX5_add_1 8 rfl rfl)
theorem dX5_add_35 : decode cX5_add 35 = .ok (.imul, 1) := dk_104 (dk_at dksX5_add_1 11 rfl rfl)
theorem dX5_add_36 : decode cX5_add 36 = .ok (.aload_n 0, 1) := dk_42 (dk_at dksX5_add_1 12 rfl rfl)
theorem dX5_add_37 : decode cX5_add 37 = .ok (.getfield 27, 3) := dk_180 0 27 (dk_at dksX5_add_1 13 rfl rfl)
theorem dX5_add_40 : decode cX5_add 40 = .ok (.aload_n 0, 1) := dk_42 (dk_at dksX5_add_1 16 rfl rfl)
theorem dX5_add_41 : decode cX5_add 41 = .ok (.getfield 251, 3) := dk_180 0 251 (dk_at dksX5_add_1 17 rfl rfl)
theorem dX5_add_44 : decode cX5_add 44 = .ok (.iaload, 1) := dk_46 (dk_at dksX5_add_1 20 rfl rfl)
theorem dX5_add_45 : decode cX5_add 45 = .ok (.iadd, 1) := dk_96 (dk_at dksX5_add_1 21 rfl rfl)
theorem dX5_add_46 : decode cX5_add 46 = .ok (.iload_n 2, 1) := dk_28 (dk_at dksX5_add_1 22 rfl rfl)
theorem dX5_add_47 : decode cX5_add 47 = .ok (.iastore, 1) := dk_79 (dk_at dksX5_add_1 23 rfl rfl)
theorem dX5_add_48 : decode cX5_add 48 = .ok (.aload_n 0, 1) := dk_42 (dk_at dksX5_add_2 0 rfl rfl)
theorem dX5_add_49 : decode cX5_add 49 = .ok (.getfield 27, 3) := dk_180 0 27 (dk_at dksX5_add_2 1 rfl rfl)
theorem dX5_add_52 : decode cX5_add 52 = .ok (.aload_n 0, 1) := dk_42 (dk_at dksX5_add_2 4 rfl rfl)
theorem dX5_add_53 : decode cX5_add 53 = .ok (.getfield 251, 3) := dk_180 0 251 (dk_at dksX5_add_2 5 rfl rfl)
theorem dX5_add_56 : decode cX5_add 56 = .ok (.dup2, 1) := dk_92 (dk_at dksX5_add_2 8 rfl rfl)
theorem dX5_add_57 : decode cX5_add 57 = .ok (.iaload, 1) := dk_46 (dk_at dksX5_add_2 9 rfl rfl)
theorem dX5_add_58 : decode cX5_add 58 = .ok (.iconst 1, 1) := dk_4 (dk_at dksX5_add_2 10 rfl rfl)
theorem dX5_add_59 : decode cX5_add 59 = .ok (.iadd, 1) := dk_96 (dk_at dksX5_add_2 11 rfl rfl)
theorem dX5_add_60 : decode cX5_add 60 = .ok (.iastore, 1) := dk_79 (dk_at dksX5_add_2 12 rfl rfl)
theorem dX5_add_61 : decode cX5_add 61 = .ok (.return_, 1) := dk_177 (dk_at dksX5_add_2 13 rfl rfl)
abbrev cX5_sign : ByteArray := prog_17_method_29_code
def yX5_sign : MethodName := ⟨RX5, "sign", "()I"⟩
def dkwX5_sign_4 : List UInt8 := [180, 0, 169, 16, 37, 160, 0, 10, 42, 180, 0, 169, 167, 0, 4, 3, 172]
abbrev dktX5_sign_4 : List UInt8 := dkwX5_sign_4 ++ []
def dkwX5_sign_3 : List UInt8 := [159, 0, 30, 42, 180, 0, 169, 16, 42, 159, 0, 21, 42, 180, 0, 169, 16, 47, 159, 0, 12, 42]
abbrev dktX5_sign_3 : List UInt8 := dkwX5_sign_3 ++ dktX5_sign_4
def dkwX5_sign_2 : List UInt8 := [180, 0, 169, 16, 61, 159, 0, 48, 42, 180, 0, 169, 16, 43, 159, 0, 39, 42, 180, 0, 169, 16, 45]
abbrev dktX5_sign_2 : List UInt8 := dkwX5_sign_2 ++ dktX5_sign_3
def dkwX5_sign_1 : List UInt8 := [16, 124, 172, 42, 180, 0, 169, 16, 60, 159, 0, 66, 42, 180, 0, 169, 16, 62, 159, 0, 57, 42]
abbrev dktX5_sign_1 : List UInt8 := dkwX5_sign_1 ++ dktX5_sign_2
def dkwX5_sign_0 : List UInt8 := [42, 20, 0, 213, 182, 0, 223, 153, 0, 6, 16, 38, 172, 42, 20, 0, 215, 182, 0, 223, 153, 0, 6]
abbrev dktX5_sign_0 : List UInt8 := dkwX5_sign_0 ++ dktX5_sign_1
theorem dksX5_sign_0 : cX5_sign.data.toList.drop 0 = dktX5_sign_0 := by decide +kernel
theorem dksX5_sign_1 : cX5_sign.data.toList.drop 23 = dktX5_sign_1 := dk_seg dksX5_sign_0 23 rfl rfl
theorem dksX5_sign_2 : cX5_sign.data.toList.drop 45 = dktX5_sign_2 := dk_seg dksX5_sign_1 22 rfl rfl
theorem dksX5_sign_3 : cX5_sign.data.toList.drop 68 = dktX5_sign_3 := dk_seg dksX5_sign_2 23 rfl rfl
theorem dksX5_sign_4 : cX5_sign.data.toList.drop 90 = dktX5_sign_4 := dk_seg dksX5_sign_3 22 rfl rfl
theorem dX5_sign_0 : decode cX5_sign 0 = .ok (.aload_n 0, 1) := dk_42 (dk_at dksX5_sign_0 0 rfl rfl)
theorem dX5_sign_1 : decode cX5_sign 1 = .ok (.ldc2_w 213, 3) := dk_20 0 213 (dk_at dksX5_sign_0 1 rfl rfl)
theorem dX5_sign_4 : decode cX5_sign 4 = .ok (.invokevirtual 223, 3) := dk_182 0 223 (dk_at dksX5_sign_0 4 rfl rfl)
theorem dX5_sign_7 : decode cX5_sign 7 = .ok (.ifCond .eq 6, 3) := dk_153 0 6 (dk_at dksX5_sign_0 7 rfl rfl)
theorem dX5_sign_10 : decode cX5_sign 10 = .ok (.bipush 38, 2) := dk_16 38 (dk_at dksX5_sign_0 10 rfl rfl)
theorem dX5_sign_12 : decode cX5_sign 12 = .ok (.ireturn, 1) := dk_172 (dk_at dksX5_sign_0 12 rfl rfl)
theorem dX5_sign_13 : decode cX5_sign 13 = .ok (.aload_n 0, 1) := dk_42 (dk_at dksX5_sign_0 13 rfl rfl)
theorem dX5_sign_14 : decode cX5_sign 14 = .ok (.ldc2_w 215, 3) := dk_20 0 215 (dk_at dksX5_sign_0 14 rfl rfl)
theorem dX5_sign_17 : decode cX5_sign 17 = .ok (.invokevirtual 223, 3) := dk_182 0 223 (dk_at dksX5_sign_0 17 rfl rfl)
theorem dX5_sign_20 : decode cX5_sign 20 = .ok (.ifCond .eq 6, 3) := dk_153 0 6 (dk_at dksX5_sign_0 20 rfl rfl)
theorem dX5_sign_23 : decode cX5_sign 23 = .ok (.bipush 124, 2) := dk_16 124 (dk_at dksX5_sign_1 0 rfl rfl)
theorem dX5_sign_25 : decode cX5_sign 25 = .ok (.ireturn, 1) := dk_172 (dk_at dksX5_sign_1 2 rfl rfl)
theorem dX5_sign_26 : decode cX5_sign 26 = .ok (.aload_n 0, 1) := dk_42 (dk_at dksX5_sign_1 3 rfl rfl)
theorem dX5_sign_27 : decode cX5_sign 27 = .ok (.getfield 169, 3) := dk_180 0 169 (dk_at dksX5_sign_1 4 rfl rfl)
theorem dX5_sign_30 : decode cX5_sign 30 = .ok (.bipush 60, 2) := dk_16 60 (dk_at dksX5_sign_1 7 rfl rfl)
theorem dX5_sign_32 : decode cX5_sign 32 = .ok (.if_icmp .eq 66, 3) := dk_159 0 66 (dk_at dksX5_sign_1 9 rfl rfl)
theorem dX5_sign_35 : decode cX5_sign 35 = .ok (.aload_n 0, 1) := dk_42 (dk_at dksX5_sign_1 12 rfl rfl)
theorem dX5_sign_36 : decode cX5_sign 36 = .ok (.getfield 169, 3) := dk_180 0 169 (dk_at dksX5_sign_1 13 rfl rfl)
theorem dX5_sign_39 : decode cX5_sign 39 = .ok (.bipush 62, 2) := dk_16 62 (dk_at dksX5_sign_1 16 rfl rfl)
theorem dX5_sign_41 : decode cX5_sign 41 = .ok (.if_icmp .eq 57, 3) := dk_159 0 57 (dk_at dksX5_sign_1 18 rfl rfl)
theorem dX5_sign_44 : decode cX5_sign 44 = .ok (.aload_n 0, 1) := dk_42 (dk_at dksX5_sign_1 21 rfl rfl)
theorem dX5_sign_45 : decode cX5_sign 45 = .ok (.getfield 169, 3) := dk_180 0 169 (dk_at dksX5_sign_2 0 rfl rfl)
theorem dX5_sign_48 : decode cX5_sign 48 = .ok (.bipush 61, 2) := dk_16 61 (dk_at dksX5_sign_2 3 rfl rfl)
theorem dX5_sign_50 : decode cX5_sign 50 = .ok (.if_icmp .eq 48, 3) := dk_159 0 48 (dk_at dksX5_sign_2 5 rfl rfl)
theorem dX5_sign_53 : decode cX5_sign 53 = .ok (.aload_n 0, 1) := dk_42 (dk_at dksX5_sign_2 8 rfl rfl)
theorem dX5_sign_54 : decode cX5_sign 54 = .ok (.getfield 169, 3) := dk_180 0 169 (dk_at dksX5_sign_2 9 rfl rfl)
theorem dX5_sign_57 : decode cX5_sign 57 = .ok (.bipush 43, 2) := dk_16 43 (dk_at dksX5_sign_2 12 rfl rfl)
theorem dX5_sign_59 : decode cX5_sign 59 = .ok (.if_icmp .eq 39, 3) := dk_159 0 39 (dk_at dksX5_sign_2 14 rfl rfl)
theorem dX5_sign_62 : decode cX5_sign 62 = .ok (.aload_n 0, 1) := dk_42 (dk_at dksX5_sign_2 17 rfl rfl)
theorem dX5_sign_63 : decode cX5_sign 63 = .ok (.getfield 169, 3) := dk_180 0 169 (dk_at dksX5_sign_2 18 rfl rfl)
theorem dX5_sign_66 : decode cX5_sign 66 = .ok (.bipush 45, 2) := dk_16 45 (dk_at dksX5_sign_2 21 rfl rfl)
theorem dX5_sign_68 : decode cX5_sign 68 = .ok (.if_icmp .eq 30, 3) := dk_159 0 30 (dk_at dksX5_sign_3 0 rfl rfl)
theorem dX5_sign_71 : decode cX5_sign 71 = .ok (.aload_n 0, 1) := dk_42 (dk_at dksX5_sign_3 3 rfl rfl)
theorem dX5_sign_72 : decode cX5_sign 72 = .ok (.getfield 169, 3) := dk_180 0 169 (dk_at dksX5_sign_3 4 rfl rfl)
theorem dX5_sign_75 : decode cX5_sign 75 = .ok (.bipush 42, 2) := dk_16 42 (dk_at dksX5_sign_3 7 rfl rfl)
theorem dX5_sign_77 : decode cX5_sign 77 = .ok (.if_icmp .eq 21, 3) := dk_159 0 21 (dk_at dksX5_sign_3 9 rfl rfl)
theorem dX5_sign_80 : decode cX5_sign 80 = .ok (.aload_n 0, 1) := dk_42 (dk_at dksX5_sign_3 12 rfl rfl)
theorem dX5_sign_81 : decode cX5_sign 81 = .ok (.getfield 169, 3) := dk_180 0 169 (dk_at dksX5_sign_3 13 rfl rfl)
theorem dX5_sign_84 : decode cX5_sign 84 = .ok (.bipush 47, 2) := dk_16 47 (dk_at dksX5_sign_3 16 rfl rfl)
theorem dX5_sign_86 : decode cX5_sign 86 = .ok (.if_icmp .eq 12, 3) := dk_159 0 12 (dk_at dksX5_sign_3 18 rfl rfl)
theorem dX5_sign_89 : decode cX5_sign 89 = .ok (.aload_n 0, 1) := dk_42 (dk_at dksX5_sign_3 21 rfl rfl)
theorem dX5_sign_90 : decode cX5_sign 90 = .ok (.getfield 169, 3) := dk_180 0 169 (dk_at dksX5_sign_4 0 rfl rfl)
theorem dX5_sign_93 : decode cX5_sign 93 = .ok (.bipush 37, 2) := dk_16 37 (dk_at dksX5_sign_4 3 rfl rfl)
theorem dX5_sign_95 : decode cX5_sign 95 = .ok (.if_icmp .ne 10, 3) := dk_160 0 10 (dk_at dksX5_sign_4 5 rfl rfl)
theorem dX5_sign_98 : decode cX5_sign 98 = .ok (.aload_n 0, 1) := dk_42 (dk_at dksX5_sign_4 8 rfl rfl)
theorem dX5_sign_99 : decode cX5_sign 99 = .ok (.getfield 169, 3) := dk_180 0 169 (dk_at dksX5_sign_4 9 rfl rfl)
theorem dX5_sign_102 : decode cX5_sign 102 = .ok (.goto 4, 3) := dk_167 0 4 (dk_at dksX5_sign_4 12 rfl rfl)
theorem dX5_sign_105 : decode cX5_sign 105 = .ok (.iconst 0, 1) := dk_3 (dk_at dksX5_sign_4 15 rfl rfl)
theorem dX5_sign_106 : decode cX5_sign 106 = .ok (.ireturn, 1) := dk_172 (dk_at dksX5_sign_4 16 rfl rfl)
abbrev cX5_hasBracket : ByteArray := prog_17_method_30_code
def yX5_hasBracket : MethodName := ⟨RX5, "hasBracket", "()Z"⟩
def dkwX5_hasBracket_1 : List UInt8 := [160, 0, 7, 4, 167, 0, 4, 3, 60, 132, 2, 1, 167, 255, 224, 27, 172]
abbrev dktX5_hasBracket_1 : List UInt8 := dkwX5_hasBracket_1 ++ []
def dkwX5_hasBracket_0 : List UInt8 := [3, 60, 3, 61, 28, 42, 180, 0, 254, 162, 0, 30, 27, 154, 0, 14, 42, 180, 0, 39, 28, 46, 16, 20]
abbrev dktX5_hasBracket_0 : List UInt8 := dkwX5_hasBracket_0 ++ dktX5_hasBracket_1
theorem dksX5_hasBracket_0 : cX5_hasBracket.data.toList.drop 0 = dktX5_hasBracket_0 := by decide +kernel
theorem dksX5_hasBracket_1 : cX5_hasBracket.data.toList.drop 24 = dktX5_hasBracket_1 := dk_seg dksX5_hasBracket_0 24 rfl rfl
theorem dX5_hasBracket_0 : decode cX5_hasBracket 0 = .ok (.iconst 0, 1) := dk_3 (dk_at dksX5_hasBracket_0 0 rfl rfl)
theorem dX5_hasBracket_1 : decode cX5_hasBracket 1 = .ok (.istore_n 1, 1) := dk_60 (dk_at dksX5_hasBracket_0 1 rfl rfl)
theorem dX5_hasBracket_2 : decode cX5_hasBracket 2 = .ok (.iconst 0, 1) := dk_3 (dk_at dksX5_hasBracket_0 2 rfl rfl)
theorem dX5_hasBracket_3 : decode cX5_hasBracket 3 = .ok (.istore_n 2, 1) := dk_61 (dk_at dksX5_hasBracket_0 3 rfl rfl)
theorem dX5_hasBracket_4 : decode cX5_hasBracket 4 = .ok (.iload_n 2, 1) := dk_28 (dk_at dksX5_hasBracket_0 4 rfl rfl)
theorem dX5_hasBracket_5 : decode cX5_hasBracket 5 = .ok (.aload_n 0, 1) := dk_42 (dk_at dksX5_hasBracket_0 5 rfl rfl)
theorem dX5_hasBracket_6 : decode cX5_hasBracket 6 = .ok (.getfield 254, 3) := dk_180 0 254 (dk_at dksX5_hasBracket_0 6 rfl rfl)
theorem dX5_hasBracket_9 : decode cX5_hasBracket 9 = .ok (.if_icmp .ge 30, 3) := dk_162 0 30 (dk_at dksX5_hasBracket_0 9 rfl rfl)
theorem dX5_hasBracket_12 : decode cX5_hasBracket 12 = .ok (.iload_n 1, 1) := dk_27 (dk_at dksX5_hasBracket_0 12 rfl rfl)
theorem dX5_hasBracket_13 : decode cX5_hasBracket 13 = .ok (.ifCond .ne 14, 3) := dk_154 0 14 (dk_at dksX5_hasBracket_0 13 rfl rfl)
theorem dX5_hasBracket_16 : decode cX5_hasBracket 16 = .ok (.aload_n 0, 1) := dk_42 (dk_at dksX5_hasBracket_0 16 rfl rfl)
theorem dX5_hasBracket_17 : decode cX5_hasBracket 17 = .ok (.getfield 39, 3) := dk_180 0 39 (dk_at dksX5_hasBracket_0 17 rfl rfl)
theorem dX5_hasBracket_20 : decode cX5_hasBracket 20 = .ok (.iload_n 2, 1) := dk_28 (dk_at dksX5_hasBracket_0 20 rfl rfl)
theorem dX5_hasBracket_21 : decode cX5_hasBracket 21 = .ok (.iaload, 1) := dk_46 (dk_at dksX5_hasBracket_0 21 rfl rfl)
theorem dX5_hasBracket_22 : decode cX5_hasBracket 22 = .ok (.bipush 20, 2) := dk_16 20 (dk_at dksX5_hasBracket_0 22 rfl rfl)
theorem dX5_hasBracket_24 : decode cX5_hasBracket 24 = .ok (.if_icmp .ne 7, 3) := dk_160 0 7 (dk_at dksX5_hasBracket_1 0 rfl rfl)
theorem dX5_hasBracket_27 : decode cX5_hasBracket 27 = .ok (.iconst 1, 1) := dk_4 (dk_at dksX5_hasBracket_1 3 rfl rfl)
theorem dX5_hasBracket_28 : decode cX5_hasBracket 28 = .ok (.goto 4, 3) := dk_167 0 4 (dk_at dksX5_hasBracket_1 4 rfl rfl)
theorem dX5_hasBracket_31 : decode cX5_hasBracket 31 = .ok (.iconst 0, 1) := dk_3 (dk_at dksX5_hasBracket_1 7 rfl rfl)
theorem dX5_hasBracket_32 : decode cX5_hasBracket 32 = .ok (.istore_n 1, 1) := dk_60 (dk_at dksX5_hasBracket_1 8 rfl rfl)
theorem dX5_hasBracket_33 : decode cX5_hasBracket 33 = .ok (.iinc 2 1, 3) := dk_132 2 1 (dk_at dksX5_hasBracket_1 9 rfl rfl)
theorem dX5_hasBracket_36 : decode cX5_hasBracket 36 = .ok (.goto (-32), 3) := dk_167 255 224 (dk_at dksX5_hasBracket_1 12 rfl rfl)
theorem dX5_hasBracket_39 : decode cX5_hasBracket 39 = .ok (.iload_n 1, 1) := dk_27 (dk_at dksX5_hasBracket_1 15 rfl rfl)
theorem dX5_hasBracket_40 : decode cX5_hasBracket 40 = .ok (.ireturn, 1) := dk_172 (dk_at dksX5_hasBracket_1 16 rfl rfl)
abbrev cX5_close : ByteArray := prog_17_method_21_code
def yX5_close : MethodName := ⟨RX5, "close", "(I)V"⟩
def dkwX5_close_4 : List UInt8 := [182, 1, 4, 167, 255, 158, 177]
abbrev dktX5_close_4 : List UInt8 := dkwX5_close_4 ++ []
def dkwX5_close_3 : List UInt8 := [89, 180, 1, 8, 4, 100, 181, 1, 8, 167, 255, 175, 42, 6, 42, 180, 0, 39, 42, 180, 0, 254, 46]
abbrev dktX5_close_3 : List UInt8 := dkwX5_close_3 ++ dktX5_close_4
def dkwX5_close_2 : List UInt8 := [181, 0, 254, 42, 180, 0, 39, 42, 180, 0, 254, 46, 16, 21, 160, 0, 22, 42, 5, 3, 182, 1, 4, 42]
abbrev dktX5_close_2 : List UInt8 := dkwX5_close_2 ++ dktX5_close_3
def dkwX5_close_1 : List UInt8 := [180, 0, 39, 42, 180, 0, 254, 4, 100, 46, 184, 1, 1, 27, 161, 0, 63, 42, 89, 180, 0, 254, 4, 100]
abbrev dktX5_close_1 : List UInt8 := dkwX5_close_1 ++ dktX5_close_2
def dkwX5_close_0 : List UInt8 := [42, 180, 0, 254, 158, 0, 97, 42, 180, 0, 39, 42, 180, 0, 254, 4, 100, 46, 16, 20, 159, 0, 81, 42]
abbrev dktX5_close_0 : List UInt8 := dkwX5_close_0 ++ dktX5_close_1
theorem dksX5_close_0 : cX5_close.data.toList.drop 0 = dktX5_close_0 := by decide +kernel
theorem dksX5_close_1 : cX5_close.data.toList.drop 24 = dktX5_close_1 := dk_seg dksX5_close_0 24 rfl rfl
theorem dksX5_close_2 : cX5_close.data.toList.drop 48 = dktX5_close_2 := dk_seg dksX5_close_1 24 rfl rfl
theorem dksX5_close_3 : cX5_close.data.toList.drop 72 = dktX5_close_3 := dk_seg dksX5_close_2 24 rfl rfl
theorem dksX5_close_4 : cX5_close.data.toList.drop 95 = dktX5_close_4 := dk_seg dksX5_close_3 23 rfl rfl
theorem dX5_close_0 : decode cX5_close 0 = .ok (.aload_n 0, 1) := dk_42 (dk_at dksX5_close_0 0 rfl rfl)
theorem dX5_close_1 : decode cX5_close 1 = .ok (.getfield 254, 3) := dk_180 0 254 (dk_at dksX5_close_0 1 rfl rfl)
theorem dX5_close_4 : decode cX5_close 4 = .ok (.ifCond .le 97, 3) := dk_158 0 97 (dk_at dksX5_close_0 4 rfl rfl)
theorem dX5_close_7 : decode cX5_close 7 = .ok (.aload_n 0, 1) := dk_42 (dk_at dksX5_close_0 7 rfl rfl)
theorem dX5_close_8 : decode cX5_close 8 = .ok (.getfield 39, 3) := dk_180 0 39 (dk_at dksX5_close_0 8 rfl rfl)
theorem dX5_close_11 : decode cX5_close 11 = .ok (.aload_n 0, 1) := dk_42 (dk_at dksX5_close_0 11 rfl rfl)
theorem dX5_close_12 : decode cX5_close 12 = .ok (.getfield 254, 3) := dk_180 0 254 (dk_at dksX5_close_0 12 rfl rfl)
theorem dX5_close_15 : decode cX5_close 15 = .ok (.iconst 1, 1) := dk_4 (dk_at dksX5_close_0 15 rfl rfl)
theorem dX5_close_16 : decode cX5_close 16 = .ok (.isub, 1) := dk_100 (dk_at dksX5_close_0 16 rfl rfl)
theorem dX5_close_17 : decode cX5_close 17 = .ok (.iaload, 1) := dk_46 (dk_at dksX5_close_0 17 rfl rfl)
theorem dX5_close_18 : decode cX5_close 18 = .ok (.bipush 20, 2) := dk_16 20 (dk_at dksX5_close_0 18 rfl rfl)
theorem dX5_close_20 : decode cX5_close 20 = .ok (.if_icmp .eq 81, 3) := dk_159 0 81 (dk_at dksX5_close_0 20 rfl rfl)
theorem dX5_close_23 : decode cX5_close 23 = .ok (.aload_n 0, 1) := dk_42 (dk_at dksX5_close_0 23 rfl rfl)
theorem dX5_close_24 : decode cX5_close 24 = .ok (.getfield 39, 3) := dk_180 0 39 (dk_at dksX5_close_1 0 rfl rfl)
theorem dX5_close_27 : decode cX5_close 27 = .ok (.aload_n 0, 1) := dk_42 (dk_at dksX5_close_1 3 rfl rfl)
theorem dX5_close_28 : decode cX5_close 28 = .ok (.getfield 254, 3) := dk_180 0 254 (dk_at dksX5_close_1 4 rfl rfl)
theorem dX5_close_31 : decode cX5_close 31 = .ok (.iconst 1, 1) := dk_4 (dk_at dksX5_close_1 7 rfl rfl)
theorem dX5_close_32 : decode cX5_close 32 = .ok (.isub, 1) := dk_100 (dk_at dksX5_close_1 8 rfl rfl)
theorem dX5_close_33 : decode cX5_close 33 = .ok (.iaload, 1) := dk_46 (dk_at dksX5_close_1 9 rfl rfl)
theorem dX5_close_34 : decode cX5_close 34 = .ok (.invokestatic 257, 3) := dk_184 1 1 (dk_at dksX5_close_1 10 rfl rfl)
theorem dX5_close_37 : decode cX5_close 37 = .ok (.iload_n 1, 1) := dk_27 (dk_at dksX5_close_1 13 rfl rfl)
theorem dX5_close_38 : decode cX5_close 38 = .ok (.if_icmp .lt 63, 3) := dk_161 0 63 (dk_at dksX5_close_1 14 rfl rfl)
theorem dX5_close_41 : decode cX5_close 41 = .ok (.aload_n 0, 1) := dk_42 (dk_at dksX5_close_1 17 rfl rfl)
theorem dX5_close_42 : decode cX5_close 42 = .ok (.dup, 1) := dk_89 (dk_at dksX5_close_1 18 rfl rfl)
theorem dX5_close_43 : decode cX5_close 43 = .ok (.getfield 254, 3) := dk_180 0 254 (dk_at dksX5_close_1 19 rfl rfl)
theorem dX5_close_46 : decode cX5_close 46 = .ok (.iconst 1, 1) := dk_4 (dk_at dksX5_close_1 22 rfl rfl)
theorem dX5_close_47 : decode cX5_close 47 = .ok (.isub, 1) := dk_100 (dk_at dksX5_close_1 23 rfl rfl)
theorem dX5_close_48 : decode cX5_close 48 = .ok (.putfield 254, 3) := dk_181 0 254 (dk_at dksX5_close_2 0 rfl rfl)
theorem dX5_close_51 : decode cX5_close 51 = .ok (.aload_n 0, 1) := dk_42 (dk_at dksX5_close_2 3 rfl rfl)
theorem dX5_close_52 : decode cX5_close 52 = .ok (.getfield 39, 3) := dk_180 0 39 (dk_at dksX5_close_2 4 rfl rfl)
theorem dX5_close_55 : decode cX5_close 55 = .ok (.aload_n 0, 1) := dk_42 (dk_at dksX5_close_2 7 rfl rfl)
theorem dX5_close_56 : decode cX5_close 56 = .ok (.getfield 254, 3) := dk_180 0 254 (dk_at dksX5_close_2 8 rfl rfl)
theorem dX5_close_59 : decode cX5_close 59 = .ok (.iaload, 1) := dk_46 (dk_at dksX5_close_2 11 rfl rfl)
theorem dX5_close_60 : decode cX5_close 60 = .ok (.bipush 21, 2) := dk_16 21 (dk_at dksX5_close_2 12 rfl rfl)
theorem dX5_close_62 : decode cX5_close 62 = .ok (.if_icmp .ne 22, 3) := dk_160 0 22 (dk_at dksX5_close_2 14 rfl rfl)
theorem dX5_close_65 : decode cX5_close 65 = .ok (.aload_n 0, 1) := dk_42 (dk_at dksX5_close_2 17 rfl rfl)
theorem dX5_close_66 : decode cX5_close 66 = .ok (.iconst 2, 1) := dk_5 (dk_at dksX5_close_2 18 rfl rfl)
theorem dX5_close_67 : decode cX5_close 67 = .ok (.iconst 0, 1) := dk_3 (dk_at dksX5_close_2 19 rfl rfl)
theorem dX5_close_68 : decode cX5_close 68 = .ok (.invokevirtual 260, 3) := dk_182 1 4 (dk_at dksX5_close_2 20 rfl rfl)
theorem dX5_close_71 : decode cX5_close 71 = .ok (.aload_n 0, 1) := dk_42 (dk_at dksX5_close_2 23 rfl rfl)
theorem dX5_close_72 : decode cX5_close 72 = .ok (.dup, 1) := dk_89 (dk_at dksX5_close_3 0 rfl rfl)
theorem dX5_close_73 : decode cX5_close 73 = .ok (.getfield 264, 3) := dk_180 1 8 (dk_at dksX5_close_3 1 rfl rfl)
theorem dX5_close_76 : decode cX5_close 76 = .ok (.iconst 1, 1) := dk_4 (dk_at dksX5_close_3 4 rfl rfl)
theorem dX5_close_77 : decode cX5_close 77 = .ok (.isub, 1) := dk_100 (dk_at dksX5_close_3 5 rfl rfl)
theorem dX5_close_78 : decode cX5_close 78 = .ok (.putfield 264, 3) := dk_181 1 8 (dk_at dksX5_close_3 6 rfl rfl)
theorem dX5_close_81 : decode cX5_close 81 = .ok (.goto (-81), 3) := dk_167 255 175 (dk_at dksX5_close_3 9 rfl rfl)
theorem dX5_close_84 : decode cX5_close 84 = .ok (.aload_n 0, 1) := dk_42 (dk_at dksX5_close_3 12 rfl rfl)
theorem dX5_close_85 : decode cX5_close 85 = .ok (.iconst 3, 1) := dk_6 (dk_at dksX5_close_3 13 rfl rfl)
theorem dX5_close_86 : decode cX5_close 86 = .ok (.aload_n 0, 1) := dk_42 (dk_at dksX5_close_3 14 rfl rfl)
theorem dX5_close_87 : decode cX5_close 87 = .ok (.getfield 39, 3) := dk_180 0 39 (dk_at dksX5_close_3 15 rfl rfl)
theorem dX5_close_90 : decode cX5_close 90 = .ok (.aload_n 0, 1) := dk_42 (dk_at dksX5_close_3 18 rfl rfl)
theorem dX5_close_91 : decode cX5_close 91 = .ok (.getfield 254, 3) := dk_180 0 254 (dk_at dksX5_close_3 19 rfl rfl)
theorem dX5_close_94 : decode cX5_close 94 = .ok (.iaload, 1) := dk_46 (dk_at dksX5_close_3 22 rfl rfl)
theorem dX5_close_95 : decode cX5_close 95 = .ok (.invokevirtual 260, 3) := dk_182 1 4 (dk_at dksX5_close_4 0 rfl rfl)
theorem dX5_close_98 : decode cX5_close 98 = .ok (.goto (-98), 3) := dk_167 255 158 (dk_at dksX5_close_4 3 rfl rfl)
theorem dX5_close_101 : decode cX5_close 101 = .ok (.return_, 1) := dk_177 (dk_at dksX5_close_4 6 rfl rfl)
abbrev cX5_hasRelation : ByteArray := prog_17_method_22_code
def yX5_hasRelation : MethodName := ⟨RX5, "hasRelation", "()Z"⟩
def dkwX5_hasRelation_3 : List UInt8 := [167, 0, 4, 3, 172]
abbrev dktX5_hasRelation_3 : List UInt8 := dkwX5_hasRelation_3 ++ []
def dkwX5_hasRelation_2 : List UInt8 := [180, 0, 39, 27, 46, 16, 20, 159, 0, 20, 42, 180, 0, 39, 27, 46, 184, 1, 1, 7, 160, 0, 7, 4]
abbrev dktX5_hasRelation_2 : List UInt8 := dkwX5_hasRelation_2 ++ dktX5_hasRelation_3
def dkwX5_hasRelation_1 : List UInt8 := [180, 0, 39, 27, 46, 184, 1, 1, 7, 164, 0, 9, 132, 1, 255, 167, 255, 225, 27, 155, 0, 31, 42]
abbrev dktX5_hasRelation_1 : List UInt8 := dkwX5_hasRelation_1 ++ dktX5_hasRelation_2
def dkwX5_hasRelation_0 : List UInt8 := [42, 180, 0, 254, 4, 100, 60, 27, 155, 0, 33, 42, 180, 0, 39, 27, 46, 16, 20, 159, 0, 22, 42]
abbrev dktX5_hasRelation_0 : List UInt8 := dkwX5_hasRelation_0 ++ dktX5_hasRelation_1
theorem dksX5_hasRelation_0 : cX5_hasRelation.data.toList.drop 0 = dktX5_hasRelation_0 := by decide +kernel
theorem dksX5_hasRelation_1 : cX5_hasRelation.data.toList.drop 23 = dktX5_hasRelation_1 := dk_seg dksX5_hasRelation_0 23 rfl rfl
theorem dksX5_hasRelation_2 : cX5_hasRelation.data.toList.drop 46 = dktX5_hasRelation_2 := dk_seg dksX5_hasRelation_1 23 rfl rfl
theorem dksX5_hasRelation_3 : cX5_hasRelation.data.toList.drop 70 = dktX5_hasRelation_3 := dk_seg dksX5_hasRelation_2 24 rfl rfl
theorem dX5_hasRelation_0 : decode cX5_hasRelation 0 = .ok (.aload_n 0, 1) := dk_42 (dk_at dksX5_hasRelation_0 0 rfl rfl)
theorem dX5_hasRelation_1 : decode cX5_hasRelation 1 = .ok (.getfield 254, 3) := dk_180 0 254 (dk_at dksX5_hasRelation_0 1 rfl rfl)
theorem dX5_hasRelation_4 : decode cX5_hasRelation 4 = .ok (.iconst 1, 1) := dk_4 (dk_at dksX5_hasRelation_0 4 rfl rfl)
theorem dX5_hasRelation_5 : decode cX5_hasRelation 5 = .ok (.isub, 1) := dk_100 (dk_at dksX5_hasRelation_0 5 rfl rfl)
theorem dX5_hasRelation_6 : decode cX5_hasRelation 6 = .ok (.istore_n 1, 1) := dk_60 (dk_at dksX5_hasRelation_0 6 rfl rfl)
theorem dX5_hasRelation_7 : decode cX5_hasRelation 7 = .ok (.iload_n 1, 1) := dk_27 (dk_at dksX5_hasRelation_0 7 rfl rfl)
theorem dX5_hasRelation_8 : decode cX5_hasRelation 8 = .ok (.ifCond .lt 33, 3) := dk_155 0 33 (dk_at dksX5_hasRelation_0 8 rfl rfl)
theorem dX5_hasRelation_11 : decode cX5_hasRelation 11 = .ok (.aload_n 0, 1) := dk_42 (dk_at dksX5_hasRelation_0 11 rfl rfl)
theorem dX5_hasRelation_12 : decode cX5_hasRelation 12 = .ok (.getfield 39, 3) := dk_180 0 39 (dk_at dksX5_hasRelation_0 12 rfl rfl)
theorem dX5_hasRelation_15 : decode cX5_hasRelation 15 = .ok (.iload_n 1, 1) := dk_27 (dk_at dksX5_hasRelation_0 15 rfl rfl)
theorem dX5_hasRelation_16 : decode cX5_hasRelation 16 = .ok (.iaload, 1) := dk_46 (dk_at dksX5_hasRelation_0 16 rfl rfl)
theorem dX5_hasRelation_17 : decode cX5_hasRelation 17 = .ok (.bipush 20, 2) := dk_16 20 (dk_at dksX5_hasRelation_0 17 rfl rfl)
theorem dX5_hasRelation_19 : decode cX5_hasRelation 19 = .ok (.if_icmp .eq 22, 3) := dk_159 0 22 (dk_at dksX5_hasRelation_0 19 rfl rfl)
theorem dX5_hasRelation_22 : decode cX5_hasRelation 22 = .ok (.aload_n 0, 1) := dk_42 (dk_at dksX5_hasRelation_0 22 rfl rfl)
theorem dX5_hasRelation_23 : decode cX5_hasRelation 23 = .ok (.getfield 39, 3) := dk_180 0 39 (dk_at dksX5_hasRelation_1 0 rfl rfl)
theorem dX5_hasRelation_26 : decode cX5_hasRelation 26 = .ok (.iload_n 1, 1) := dk_27 (dk_at dksX5_hasRelation_1 3 rfl rfl)
theorem dX5_hasRelation_27 : decode cX5_hasRelation 27 = .ok (.iaload, 1) := dk_46 (dk_at dksX5_hasRelation_1 4 rfl rfl)
theorem dX5_hasRelation_28 : decode cX5_hasRelation 28 = .ok (.invokestatic 257, 3) := dk_184 1 1 (dk_at dksX5_hasRelation_1 5 rfl rfl)
theorem dX5_hasRelation_31 : decode cX5_hasRelation 31 = .ok (.iconst 4, 1) := dk_7 (dk_at dksX5_hasRelation_1 8 rfl rfl)
theorem dX5_hasRelation_32 : decode cX5_hasRelation 32 = .ok (.if_icmp .le 9, 3) := dk_164 0 9 (dk_at dksX5_hasRelation_1 9 rfl rfl)
theorem dX5_hasRelation_35 : decode cX5_hasRelation 35 = .ok (.iinc 1 (-1), 3) := dk_132 1 255 (dk_at dksX5_hasRelation_1 12 rfl rfl)
theorem dX5_hasRelation_38 : decode cX5_hasRelation 38 = .ok (.goto (-31), 3) := dk_167 255 225 (dk_at dksX5_hasRelation_1 15 rfl rfl)
theorem dX5_hasRelation_41 : decode cX5_hasRelation 41 = .ok (.iload_n 1, 1) := dk_27 (dk_at dksX5_hasRelation_1 18 rfl rfl)
theorem dX5_hasRelation_42 : decode cX5_hasRelation 42 = .ok (.ifCond .lt 31, 3) := dk_155 0 31 (dk_at dksX5_hasRelation_1 19 rfl rfl)
theorem dX5_hasRelation_45 : decode cX5_hasRelation 45 = .ok (.aload_n 0, 1) := dk_42 (dk_at dksX5_hasRelation_1 22 rfl rfl)
theorem dX5_hasRelation_46 : decode cX5_hasRelation 46 = .ok (.getfield 39, 3) := dk_180 0 39 (dk_at dksX5_hasRelation_2 0 rfl rfl)
theorem dX5_hasRelation_49 : decode cX5_hasRelation 49 = .ok (.iload_n 1, 1) := dk_27 (dk_at dksX5_hasRelation_2 3 rfl rfl)
theorem dX5_hasRelation_50 : decode cX5_hasRelation 50 = .ok (.iaload, 1) := dk_46 (dk_at dksX5_hasRelation_2 4 rfl rfl)
theorem dX5_hasRelation_51 : decode cX5_hasRelation 51 = .ok (.bipush 20, 2) := dk_16 20 (dk_at dksX5_hasRelation_2 5 rfl rfl)
theorem dX5_hasRelation_53 : decode cX5_hasRelation 53 = .ok (.if_icmp .eq 20, 3) := dk_159 0 20 (dk_at dksX5_hasRelation_2 7 rfl rfl)
theorem dX5_hasRelation_56 : decode cX5_hasRelation 56 = .ok (.aload_n 0, 1) := dk_42 (dk_at dksX5_hasRelation_2 10 rfl rfl)
theorem dX5_hasRelation_57 : decode cX5_hasRelation 57 = .ok (.getfield 39, 3) := dk_180 0 39 (dk_at dksX5_hasRelation_2 11 rfl rfl)
theorem dX5_hasRelation_60 : decode cX5_hasRelation 60 = .ok (.iload_n 1, 1) := dk_27 (dk_at dksX5_hasRelation_2 14 rfl rfl)
theorem dX5_hasRelation_61 : decode cX5_hasRelation 61 = .ok (.iaload, 1) := dk_46 (dk_at dksX5_hasRelation_2 15 rfl rfl)
theorem dX5_hasRelation_62 : decode cX5_hasRelation 62 = .ok (.invokestatic 257, 3) := dk_184 1 1 (dk_at dksX5_hasRelation_2 16 rfl rfl)
theorem dX5_hasRelation_65 : decode cX5_hasRelation 65 = .ok (.iconst 4, 1) := dk_7 (dk_at dksX5_hasRelation_2 19 rfl rfl)
theorem dX5_hasRelation_66 : decode cX5_hasRelation 66 = .ok (.if_icmp .ne 7, 3) := dk_160 0 7 (dk_at dksX5_hasRelation_2 20 rfl rfl)
theorem dX5_hasRelation_69 : decode cX5_hasRelation 69 = .ok (.iconst 1, 1) := dk_4 (dk_at dksX5_hasRelation_2 23 rfl rfl)
theorem dX5_hasRelation_70 : decode cX5_hasRelation 70 = .ok (.goto 4, 3) := dk_167 0 4 (dk_at dksX5_hasRelation_3 0 rfl rfl)
theorem dX5_hasRelation_73 : decode cX5_hasRelation 73 = .ok (.iconst 0, 1) := dk_3 (dk_at dksX5_hasRelation_3 3 rfl rfl)
theorem dX5_hasRelation_74 : decode cX5_hasRelation 74 = .ok (.ireturn, 1) := dk_172 (dk_at dksX5_hasRelation_3 4 rfl rfl)
abbrev cX5_fault : ByteArray := prog_17_method_41_code
def yX5_fault : MethodName := ⟨RX5, "fault", "(I)I"⟩
def dkwX5_fault_1 : List UInt8 := [172]
abbrev dktX5_fault_1 : List UInt8 := dkwX5_fault_1 ++ []
def dkwX5_fault_0 : List UInt8 := [27, 154, 0, 10, 42, 180, 0, 182, 167, 0, 16, 27, 4, 160, 0, 10, 42, 180, 0, 13, 167, 0, 4, 2]
abbrev dktX5_fault_0 : List UInt8 := dkwX5_fault_0 ++ dktX5_fault_1
theorem dksX5_fault_0 : cX5_fault.data.toList.drop 0 = dktX5_fault_0 := by decide +kernel
theorem dksX5_fault_1 : cX5_fault.data.toList.drop 24 = dktX5_fault_1 := dk_seg dksX5_fault_0 24 rfl rfl
theorem dX5_fault_0 : decode cX5_fault 0 = .ok (.iload_n 1, 1) := dk_27 (dk_at dksX5_fault_0 0 rfl rfl)
theorem dX5_fault_1 : decode cX5_fault 1 = .ok (.ifCond .ne 10, 3) := dk_154 0 10 (dk_at dksX5_fault_0 1 rfl rfl)
theorem dX5_fault_4 : decode cX5_fault 4 = .ok (.aload_n 0, 1) := dk_42 (dk_at dksX5_fault_0 4 rfl rfl)
theorem dX5_fault_5 : decode cX5_fault 5 = .ok (.getfield 182, 3) := dk_180 0 182 (dk_at dksX5_fault_0 5 rfl rfl)
theorem dX5_fault_8 : decode cX5_fault 8 = .ok (.goto 16, 3) := dk_167 0 16 (dk_at dksX5_fault_0 8 rfl rfl)
theorem dX5_fault_11 : decode cX5_fault 11 = .ok (.iload_n 1, 1) := dk_27 (dk_at dksX5_fault_0 11 rfl rfl)
theorem dX5_fault_12 : decode cX5_fault 12 = .ok (.iconst 1, 1) := dk_4 (dk_at dksX5_fault_0 12 rfl rfl)
theorem dX5_fault_13 : decode cX5_fault 13 = .ok (.if_icmp .ne 10, 3) := dk_160 0 10 (dk_at dksX5_fault_0 13 rfl rfl)
theorem dX5_fault_16 : decode cX5_fault 16 = .ok (.aload_n 0, 1) := dk_42 (dk_at dksX5_fault_0 16 rfl rfl)
theorem dX5_fault_17 : decode cX5_fault 17 = .ok (.getfield 13, 3) := dk_180 0 13 (dk_at dksX5_fault_0 17 rfl rfl)
theorem dX5_fault_20 : decode cX5_fault 20 = .ok (.goto 4, 3) := dk_167 0 4 (dk_at dksX5_fault_0 20 rfl rfl)
theorem dX5_fault_23 : decode cX5_fault 23 = .ok (.iconst (-1), 1) := dk_2 (dk_at dksX5_fault_0 23 rfl rfl)
theorem dX5_fault_24 : decode cX5_fault 24 = .ok (.ireturn, 1) := dk_172 (dk_at dksX5_fault_1 0 rfl rfl)
abbrev cX5_tenant : ByteArray := prog_17_method_56_code
def yX5_tenant : MethodName := ⟨RX5, "tenant", "(II)I"⟩
def dkwX5_tenant_4 : List UInt8 := [16, 8, 27, 96, 46, 172, 42, 180, 0, 88, 16, 16, 27, 96, 46, 172, 42, 27, 182, 1, 141, 172, 2, 172]
abbrev dktX5_tenant_4 : List UInt8 := dkwX5_tenant_4 ++ []
def dkwX5_tenant_3 : List UInt8 := [180, 0, 76, 27, 46, 172, 42, 180, 0, 79, 27, 46, 172, 42, 180, 0, 88, 27, 46, 172, 42, 180, 0, 88]
abbrev dktX5_tenant_3 : List UInt8 := dkwX5_tenant_3 ++ dktX5_tenant_4
def dkwX5_tenant_2 : List UInt8 := [42, 180, 0, 67, 27, 46, 172, 42, 180, 0, 70, 27, 46, 172, 42, 180, 0, 73, 27, 46, 172, 42]
abbrev dktX5_tenant_2 : List UInt8 := dkwX5_tenant_2 ++ dktX5_tenant_3
def dkwX5_tenant_1 : List UInt8 := [170, 0, 0, 0, 117, 0, 0, 0, 0, 0, 0, 0, 8, 0, 0, 0, 49, 0, 0, 0, 56, 0, 0, 0, 63, 0, 0, 0, 70, 0, 0, 0, 77, 0, 0, 0, 84, 0, 0, 0, 91, 0, 0, 0, 101, 0, 0, 0, 111]
abbrev dktX5_tenant_1 : List UInt8 := dkwX5_tenant_1 ++ dktX5_tenant_2
def dkwX5_tenant_0 : List UInt8 := [42, 27, 182, 1, 126, 154, 0, 5, 2, 172, 42, 182, 1, 138, 28]
abbrev dktX5_tenant_0 : List UInt8 := dkwX5_tenant_0 ++ dktX5_tenant_1
theorem dksX5_tenant_0 : cX5_tenant.data.toList.drop 0 = dktX5_tenant_0 := by decide +kernel
theorem dksX5_tenant_1 : cX5_tenant.data.toList.drop 15 = dktX5_tenant_1 := dk_seg dksX5_tenant_0 15 rfl rfl
theorem dksX5_tenant_2 : cX5_tenant.data.toList.drop 64 = dktX5_tenant_2 := dk_seg dksX5_tenant_1 49 rfl rfl
theorem dksX5_tenant_3 : cX5_tenant.data.toList.drop 86 = dktX5_tenant_3 := dk_seg dksX5_tenant_2 22 rfl rfl
theorem dksX5_tenant_4 : cX5_tenant.data.toList.drop 110 = dktX5_tenant_4 := dk_seg dksX5_tenant_3 24 rfl rfl
theorem dX5_tenant_0 : decode cX5_tenant 0 = .ok (.aload_n 0, 1) := dk_42 (dk_at dksX5_tenant_0 0 rfl rfl)
theorem dX5_tenant_1 : decode cX5_tenant 1 = .ok (.iload_n 1, 1) := dk_27 (dk_at dksX5_tenant_0 1 rfl rfl)
theorem dX5_tenant_2 : decode cX5_tenant 2 = .ok (.invokevirtual 382, 3) := dk_182 1 126 (dk_at dksX5_tenant_0 2 rfl rfl)
theorem dX5_tenant_5 : decode cX5_tenant 5 = .ok (.ifCond .ne 5, 3) := dk_154 0 5 (dk_at dksX5_tenant_0 5 rfl rfl)
theorem dX5_tenant_8 : decode cX5_tenant 8 = .ok (.iconst (-1), 1) := dk_2 (dk_at dksX5_tenant_0 8 rfl rfl)
theorem dX5_tenant_9 : decode cX5_tenant 9 = .ok (.ireturn, 1) := dk_172 (dk_at dksX5_tenant_0 9 rfl rfl)
theorem dX5_tenant_10 : decode cX5_tenant 10 = .ok (.aload_n 0, 1) := dk_42 (dk_at dksX5_tenant_0 10 rfl rfl)
theorem dX5_tenant_11 : decode cX5_tenant 11 = .ok (.invokevirtual 394, 3) := dk_182 1 138 (dk_at dksX5_tenant_0 11 rfl rfl)
theorem dX5_tenant_14 : decode cX5_tenant 14 = .ok (.iload_n 2, 1) := dk_28 (dk_at dksX5_tenant_0 14 rfl rfl)
theorem dX5_tenant_15 : decode cX5_tenant 15 = .ok (.tableswitch 117 0 8 #[49, 56, 63, 70, 77, 84, 91, 101, 111], 49) := by decide +kernel
theorem dX5_tenant_64 : decode cX5_tenant 64 = .ok (.aload_n 0, 1) := dk_42 (dk_at dksX5_tenant_2 0 rfl rfl)
theorem dX5_tenant_65 : decode cX5_tenant 65 = .ok (.getfield 67, 3) := dk_180 0 67 (dk_at dksX5_tenant_2 1 rfl rfl)
theorem dX5_tenant_68 : decode cX5_tenant 68 = .ok (.iload_n 1, 1) := dk_27 (dk_at dksX5_tenant_2 4 rfl rfl)
theorem dX5_tenant_69 : decode cX5_tenant 69 = .ok (.iaload, 1) := dk_46 (dk_at dksX5_tenant_2 5 rfl rfl)
theorem dX5_tenant_70 : decode cX5_tenant 70 = .ok (.ireturn, 1) := dk_172 (dk_at dksX5_tenant_2 6 rfl rfl)
theorem dX5_tenant_71 : decode cX5_tenant 71 = .ok (.aload_n 0, 1) := dk_42 (dk_at dksX5_tenant_2 7 rfl rfl)
theorem dX5_tenant_72 : decode cX5_tenant 72 = .ok (.getfield 70, 3) := dk_180 0 70 (dk_at dksX5_tenant_2 8 rfl rfl)
theorem dX5_tenant_75 : decode cX5_tenant 75 = .ok (.iload_n 1, 1) := dk_27 (dk_at dksX5_tenant_2 11 rfl rfl)
theorem dX5_tenant_76 : decode cX5_tenant 76 = .ok (.iaload, 1) := dk_46 (dk_at dksX5_tenant_2 12 rfl rfl)
theorem dX5_tenant_77 : decode cX5_tenant 77 = .ok (.ireturn, 1) := dk_172 (dk_at dksX5_tenant_2 13 rfl rfl)
theorem dX5_tenant_78 : decode cX5_tenant 78 = .ok (.aload_n 0, 1) := dk_42 (dk_at dksX5_tenant_2 14 rfl rfl)
theorem dX5_tenant_79 : decode cX5_tenant 79 = .ok (.getfield 73, 3) := dk_180 0 73 (dk_at dksX5_tenant_2 15 rfl rfl)
theorem dX5_tenant_82 : decode cX5_tenant 82 = .ok (.iload_n 1, 1) := dk_27 (dk_at dksX5_tenant_2 18 rfl rfl)
theorem dX5_tenant_83 : decode cX5_tenant 83 = .ok (.iaload, 1) := dk_46 (dk_at dksX5_tenant_2 19 rfl rfl)
theorem dX5_tenant_84 : decode cX5_tenant 84 = .ok (.ireturn, 1) := dk_172 (dk_at dksX5_tenant_2 20 rfl rfl)
theorem dX5_tenant_85 : decode cX5_tenant 85 = .ok (.aload_n 0, 1) := dk_42 (dk_at dksX5_tenant_2 21 rfl rfl)
theorem dX5_tenant_86 : decode cX5_tenant 86 = .ok (.getfield 76, 3) := dk_180 0 76 (dk_at dksX5_tenant_3 0 rfl rfl)
theorem dX5_tenant_89 : decode cX5_tenant 89 = .ok (.iload_n 1, 1) := dk_27 (dk_at dksX5_tenant_3 3 rfl rfl)
theorem dX5_tenant_90 : decode cX5_tenant 90 = .ok (.iaload, 1) := dk_46 (dk_at dksX5_tenant_3 4 rfl rfl)
theorem dX5_tenant_91 : decode cX5_tenant 91 = .ok (.ireturn, 1) := dk_172 (dk_at dksX5_tenant_3 5 rfl rfl)
theorem dX5_tenant_92 : decode cX5_tenant 92 = .ok (.aload_n 0, 1) := dk_42 (dk_at dksX5_tenant_3 6 rfl rfl)
theorem dX5_tenant_93 : decode cX5_tenant 93 = .ok (.getfield 79, 3) := dk_180 0 79 (dk_at dksX5_tenant_3 7 rfl rfl)
theorem dX5_tenant_96 : decode cX5_tenant 96 = .ok (.iload_n 1, 1) := dk_27 (dk_at dksX5_tenant_3 10 rfl rfl)
theorem dX5_tenant_97 : decode cX5_tenant 97 = .ok (.iaload, 1) := dk_46 (dk_at dksX5_tenant_3 11 rfl rfl)
theorem dX5_tenant_98 : decode cX5_tenant 98 = .ok (.ireturn, 1) := dk_172 (dk_at dksX5_tenant_3 12 rfl rfl)
theorem dX5_tenant_99 : decode cX5_tenant 99 = .ok (.aload_n 0, 1) := dk_42 (dk_at dksX5_tenant_3 13 rfl rfl)
theorem dX5_tenant_100 : decode cX5_tenant 100 = .ok (.getfield 88, 3) := dk_180 0 88 (dk_at dksX5_tenant_3 14 rfl rfl)
theorem dX5_tenant_103 : decode cX5_tenant 103 = .ok (.iload_n 1, 1) := dk_27 (dk_at dksX5_tenant_3 17 rfl rfl)
theorem dX5_tenant_104 : decode cX5_tenant 104 = .ok (.iaload, 1) := dk_46 (dk_at dksX5_tenant_3 18 rfl rfl)
theorem dX5_tenant_105 : decode cX5_tenant 105 = .ok (.ireturn, 1) := dk_172 (dk_at dksX5_tenant_3 19 rfl rfl)
theorem dX5_tenant_106 : decode cX5_tenant 106 = .ok (.aload_n 0, 1) := dk_42 (dk_at dksX5_tenant_3 20 rfl rfl)
theorem dX5_tenant_107 : decode cX5_tenant 107 = .ok (.getfield 88, 3) := dk_180 0 88 (dk_at dksX5_tenant_3 21 rfl rfl)
theorem dX5_tenant_110 : decode cX5_tenant 110 = .ok (.bipush 8, 2) := dk_16 8 (dk_at dksX5_tenant_4 0 rfl rfl)
theorem dX5_tenant_112 : decode cX5_tenant 112 = .ok (.iload_n 1, 1) := dk_27 (dk_at dksX5_tenant_4 2 rfl rfl)
theorem dX5_tenant_113 : decode cX5_tenant 113 = .ok (.iadd, 1) := dk_96 (dk_at dksX5_tenant_4 3 rfl rfl)
theorem dX5_tenant_114 : decode cX5_tenant 114 = .ok (.iaload, 1) := dk_46 (dk_at dksX5_tenant_4 4 rfl rfl)
theorem dX5_tenant_115 : decode cX5_tenant 115 = .ok (.ireturn, 1) := dk_172 (dk_at dksX5_tenant_4 5 rfl rfl)
theorem dX5_tenant_116 : decode cX5_tenant 116 = .ok (.aload_n 0, 1) := dk_42 (dk_at dksX5_tenant_4 6 rfl rfl)
theorem dX5_tenant_117 : decode cX5_tenant 117 = .ok (.getfield 88, 3) := dk_180 0 88 (dk_at dksX5_tenant_4 7 rfl rfl)
theorem dX5_tenant_120 : decode cX5_tenant 120 = .ok (.bipush 16, 2) := dk_16 16 (dk_at dksX5_tenant_4 10 rfl rfl)
theorem dX5_tenant_122 : decode cX5_tenant 122 = .ok (.iload_n 1, 1) := dk_27 (dk_at dksX5_tenant_4 12 rfl rfl)
theorem dX5_tenant_123 : decode cX5_tenant 123 = .ok (.iadd, 1) := dk_96 (dk_at dksX5_tenant_4 13 rfl rfl)
theorem dX5_tenant_124 : decode cX5_tenant 124 = .ok (.iaload, 1) := dk_46 (dk_at dksX5_tenant_4 14 rfl rfl)
theorem dX5_tenant_125 : decode cX5_tenant 125 = .ok (.ireturn, 1) := dk_172 (dk_at dksX5_tenant_4 15 rfl rfl)
theorem dX5_tenant_126 : decode cX5_tenant 126 = .ok (.aload_n 0, 1) := dk_42 (dk_at dksX5_tenant_4 16 rfl rfl)
theorem dX5_tenant_127 : decode cX5_tenant 127 = .ok (.iload_n 1, 1) := dk_27 (dk_at dksX5_tenant_4 17 rfl rfl)
theorem dX5_tenant_128 : decode cX5_tenant 128 = .ok (.invokevirtual 397, 3) := dk_182 1 141 (dk_at dksX5_tenant_4 18 rfl rfl)
theorem dX5_tenant_131 : decode cX5_tenant 131 = .ok (.ireturn, 1) := dk_172 (dk_at dksX5_tenant_4 21 rfl rfl)
theorem dX5_tenant_132 : decode cX5_tenant 132 = .ok (.iconst (-1), 1) := dk_2 (dk_at dksX5_tenant_4 22 rfl rfl)
theorem dX5_tenant_133 : decode cX5_tenant 133 = .ok (.ireturn, 1) := dk_172 (dk_at dksX5_tenant_4 23 rfl rfl)
abbrev cX5_isTenant : ByteArray := prog_17_method_43_code
def yX5_isTenant : MethodName := ⟨RX5, "isTenant", "(I)Z"⟩
def dkwX5_isTenant_0 : List UInt8 := [27, 3, 42, 180, 1, 94, 4, 100, 184, 1, 112, 172]
abbrev dktX5_isTenant_0 : List UInt8 := dkwX5_isTenant_0 ++ []
theorem dksX5_isTenant_0 : cX5_isTenant.data.toList.drop 0 = dktX5_isTenant_0 := by decide +kernel
theorem dX5_isTenant_0 : decode cX5_isTenant 0 = .ok (.iload_n 1, 1) := dk_27 (dk_at dksX5_isTenant_0 0 rfl rfl)
theorem dX5_isTenant_1 : decode cX5_isTenant 1 = .ok (.iconst 0, 1) := dk_3 (dk_at dksX5_isTenant_0 1 rfl rfl)
theorem dX5_isTenant_2 : decode cX5_isTenant 2 = .ok (.aload_n 0, 1) := dk_42 (dk_at dksX5_isTenant_0 2 rfl rfl)
theorem dX5_isTenant_3 : decode cX5_isTenant 3 = .ok (.getfield 350, 3) := dk_180 1 94 (dk_at dksX5_isTenant_0 3 rfl rfl)
theorem dX5_isTenant_6 : decode cX5_isTenant 6 = .ok (.iconst 1, 1) := dk_4 (dk_at dksX5_isTenant_0 6 rfl rfl)
theorem dX5_isTenant_7 : decode cX5_isTenant 7 = .ok (.isub, 1) := dk_100 (dk_at dksX5_isTenant_0 7 rfl rfl)
theorem dX5_isTenant_8 : decode cX5_isTenant 8 = .ok (.invokestatic 368, 3) := dk_184 1 112 (dk_at dksX5_isTenant_0 8 rfl rfl)
theorem dX5_isTenant_11 : decode cX5_isTenant 11 = .ok (.ireturn, 1) := dk_172 (dk_at dksX5_isTenant_0 11 rfl rfl)
abbrev cX5_isIn : ByteArray := prog_17_method_42_code
def yX5_isIn : MethodName := ⟨RX5, "isIn", "(III)Z"⟩
def dkwX5_isIn_0 : List UInt8 := [26, 27, 161, 0, 12, 26, 28, 163, 0, 7, 4, 167, 0, 4, 3, 172]
abbrev dktX5_isIn_0 : List UInt8 := dkwX5_isIn_0 ++ []
theorem dksX5_isIn_0 : cX5_isIn.data.toList.drop 0 = dktX5_isIn_0 := by decide +kernel
theorem dX5_isIn_0 : decode cX5_isIn 0 = .ok (.iload_n 0, 1) := dk_26 (dk_at dksX5_isIn_0 0 rfl rfl)
theorem dX5_isIn_1 : decode cX5_isIn 1 = .ok (.iload_n 1, 1) := dk_27 (dk_at dksX5_isIn_0 1 rfl rfl)
theorem dX5_isIn_2 : decode cX5_isIn 2 = .ok (.if_icmp .lt 12, 3) := dk_161 0 12 (dk_at dksX5_isIn_0 2 rfl rfl)
theorem dX5_isIn_5 : decode cX5_isIn 5 = .ok (.iload_n 0, 1) := dk_26 (dk_at dksX5_isIn_0 5 rfl rfl)
theorem dX5_isIn_6 : decode cX5_isIn 6 = .ok (.iload_n 2, 1) := dk_28 (dk_at dksX5_isIn_0 6 rfl rfl)
theorem dX5_isIn_7 : decode cX5_isIn 7 = .ok (.if_icmp .gt 7, 3) := dk_163 0 7 (dk_at dksX5_isIn_0 7 rfl rfl)
theorem dX5_isIn_10 : decode cX5_isIn 10 = .ok (.iconst 1, 1) := dk_4 (dk_at dksX5_isIn_0 10 rfl rfl)
theorem dX5_isIn_11 : decode cX5_isIn 11 = .ok (.goto 4, 3) := dk_167 0 4 (dk_at dksX5_isIn_0 11 rfl rfl)
theorem dX5_isIn_14 : decode cX5_isIn 14 = .ok (.iconst 0, 1) := dk_3 (dk_at dksX5_isIn_0 14 rfl rfl)
theorem dX5_isIn_15 : decode cX5_isIn 15 = .ok (.ireturn, 1) := dk_172 (dk_at dksX5_isIn_0 15 rfl rfl)
abbrev cX5_load : ByteArray := prog_17_method_45_code
def yX5_load : MethodName := ⟨RX5, "load", "()V"⟩
def dkwX5_load_1 : List UInt8 := [167, 255, 235, 177]
abbrev dktX5_load_1 : List UInt8 := dkwX5_load_1 ++ []
def dkwX5_load_0 : List UInt8 := [3, 60, 27, 16, 28, 162, 0, 21, 42, 180, 0, 88, 27, 42, 180, 0, 85, 27, 46, 79, 132, 1, 1]
abbrev dktX5_load_0 : List UInt8 := dkwX5_load_0 ++ dktX5_load_1
theorem dksX5_load_0 : cX5_load.data.toList.drop 0 = dktX5_load_0 := by decide +kernel
theorem dksX5_load_1 : cX5_load.data.toList.drop 23 = dktX5_load_1 := dk_seg dksX5_load_0 23 rfl rfl
theorem dX5_load_0 : decode cX5_load 0 = .ok (.iconst 0, 1) := dk_3 (dk_at dksX5_load_0 0 rfl rfl)
theorem dX5_load_1 : decode cX5_load 1 = .ok (.istore_n 1, 1) := dk_60 (dk_at dksX5_load_0 1 rfl rfl)
theorem dX5_load_2 : decode cX5_load 2 = .ok (.iload_n 1, 1) := dk_27 (dk_at dksX5_load_0 2 rfl rfl)
theorem dX5_load_3 : decode cX5_load 3 = .ok (.bipush 28, 2) := dk_16 28 (dk_at dksX5_load_0 3 rfl rfl)
theorem dX5_load_5 : decode cX5_load 5 = .ok (.if_icmp .ge 21, 3) := dk_162 0 21 (dk_at dksX5_load_0 5 rfl rfl)
theorem dX5_load_8 : decode cX5_load 8 = .ok (.aload_n 0, 1) := dk_42 (dk_at dksX5_load_0 8 rfl rfl)
theorem dX5_load_9 : decode cX5_load 9 = .ok (.getfield 88, 3) := dk_180 0 88 (dk_at dksX5_load_0 9 rfl rfl)
theorem dX5_load_12 : decode cX5_load 12 = .ok (.iload_n 1, 1) := dk_27 (dk_at dksX5_load_0 12 rfl rfl)
theorem dX5_load_13 : decode cX5_load 13 = .ok (.aload_n 0, 1) := dk_42 (dk_at dksX5_load_0 13 rfl rfl)
theorem dX5_load_14 : decode cX5_load 14 = .ok (.getfield 85, 3) := dk_180 0 85 (dk_at dksX5_load_0 14 rfl rfl)
theorem dX5_load_17 : decode cX5_load 17 = .ok (.iload_n 1, 1) := dk_27 (dk_at dksX5_load_0 17 rfl rfl)
theorem dX5_load_18 : decode cX5_load 18 = .ok (.iaload, 1) := dk_46 (dk_at dksX5_load_0 18 rfl rfl)
theorem dX5_load_19 : decode cX5_load 19 = .ok (.iastore, 1) := dk_79 (dk_at dksX5_load_0 19 rfl rfl)
theorem dX5_load_20 : decode cX5_load 20 = .ok (.iinc 1 1, 3) := dk_132 1 1 (dk_at dksX5_load_0 20 rfl rfl)
theorem dX5_load_23 : decode cX5_load 23 = .ok (.goto (-21), 3) := dk_167 255 235 (dk_at dksX5_load_1 0 rfl rfl)
theorem dX5_load_26 : decode cX5_load 26 = .ok (.return_, 1) := dk_177 (dk_at dksX5_load_1 3 rfl rfl)
abbrev cX5_lackOf : ByteArray := prog_17_method_48_code
def yX5_lackOf : MethodName := ⟨RX5, "lackOf", "(I)I"⟩
def dkwX5_lackOf_1 : List UInt8 := [180, 0, 88, 16, 8, 27, 96, 46, 100, 167, 0, 4, 3, 172]
abbrev dktX5_lackOf_1 : List UInt8 := dkwX5_lackOf_1 ++ []
def dkwX5_lackOf_0 : List UInt8 := [42, 27, 182, 1, 116, 42, 180, 0, 88, 16, 8, 27, 96, 46, 164, 0, 21, 42, 27, 182, 1, 116, 42]
abbrev dktX5_lackOf_0 : List UInt8 := dkwX5_lackOf_0 ++ dktX5_lackOf_1
theorem dksX5_lackOf_0 : cX5_lackOf.data.toList.drop 0 = dktX5_lackOf_0 := by decide +kernel
theorem dksX5_lackOf_1 : cX5_lackOf.data.toList.drop 23 = dktX5_lackOf_1 := dk_seg dksX5_lackOf_0 23 rfl rfl
theorem dX5_lackOf_0 : decode cX5_lackOf 0 = .ok (.aload_n 0, 1) := dk_42 (dk_at dksX5_lackOf_0 0 rfl rfl)
theorem dX5_lackOf_1 : decode cX5_lackOf 1 = .ok (.iload_n 1, 1) := dk_27 (dk_at dksX5_lackOf_0 1 rfl rfl)
theorem dX5_lackOf_2 : decode cX5_lackOf 2 = .ok (.invokevirtual 372, 3) := dk_182 1 116 (dk_at dksX5_lackOf_0 2 rfl rfl)
theorem dX5_lackOf_5 : decode cX5_lackOf 5 = .ok (.aload_n 0, 1) := dk_42 (dk_at dksX5_lackOf_0 5 rfl rfl)
theorem dX5_lackOf_6 : decode cX5_lackOf 6 = .ok (.getfield 88, 3) := dk_180 0 88 (dk_at dksX5_lackOf_0 6 rfl rfl)
theorem dX5_lackOf_9 : decode cX5_lackOf 9 = .ok (.bipush 8, 2) := dk_16 8 (dk_at dksX5_lackOf_0 9 rfl rfl)
theorem dX5_lackOf_11 : decode cX5_lackOf 11 = .ok (.iload_n 1, 1) := dk_27 (dk_at dksX5_lackOf_0 11 rfl rfl)
theorem dX5_lackOf_12 : decode cX5_lackOf 12 = .ok (.iadd, 1) := dk_96 (dk_at dksX5_lackOf_0 12 rfl rfl)
theorem dX5_lackOf_13 : decode cX5_lackOf 13 = .ok (.iaload, 1) := dk_46 (dk_at dksX5_lackOf_0 13 rfl rfl)
theorem dX5_lackOf_14 : decode cX5_lackOf 14 = .ok (.if_icmp .le 21, 3) := dk_164 0 21 (dk_at dksX5_lackOf_0 14 rfl rfl)
theorem dX5_lackOf_17 : decode cX5_lackOf 17 = .ok (.aload_n 0, 1) := dk_42 (dk_at dksX5_lackOf_0 17 rfl rfl)
theorem dX5_lackOf_18 : decode cX5_lackOf 18 = .ok (.iload_n 1, 1) := dk_27 (dk_at dksX5_lackOf_0 18 rfl rfl)
theorem dX5_lackOf_19 : decode cX5_lackOf 19 = .ok (.invokevirtual 372, 3) := dk_182 1 116 (dk_at dksX5_lackOf_0 19 rfl rfl)
theorem dX5_lackOf_22 : decode cX5_lackOf 22 = .ok (.aload_n 0, 1) := dk_42 (dk_at dksX5_lackOf_0 22 rfl rfl)
theorem dX5_lackOf_23 : decode cX5_lackOf 23 = .ok (.getfield 88, 3) := dk_180 0 88 (dk_at dksX5_lackOf_1 0 rfl rfl)
theorem dX5_lackOf_26 : decode cX5_lackOf 26 = .ok (.bipush 8, 2) := dk_16 8 (dk_at dksX5_lackOf_1 3 rfl rfl)
theorem dX5_lackOf_28 : decode cX5_lackOf 28 = .ok (.iload_n 1, 1) := dk_27 (dk_at dksX5_lackOf_1 5 rfl rfl)
theorem dX5_lackOf_29 : decode cX5_lackOf 29 = .ok (.iadd, 1) := dk_96 (dk_at dksX5_lackOf_1 6 rfl rfl)
theorem dX5_lackOf_30 : decode cX5_lackOf 30 = .ok (.iaload, 1) := dk_46 (dk_at dksX5_lackOf_1 7 rfl rfl)
theorem dX5_lackOf_31 : decode cX5_lackOf 31 = .ok (.isub, 1) := dk_100 (dk_at dksX5_lackOf_1 8 rfl rfl)
theorem dX5_lackOf_32 : decode cX5_lackOf 32 = .ok (.goto 4, 3) := dk_167 0 4 (dk_at dksX5_lackOf_1 9 rfl rfl)
theorem dX5_lackOf_35 : decode cX5_lackOf 35 = .ok (.iconst 0, 1) := dk_3 (dk_at dksX5_lackOf_1 12 rfl rfl)
theorem dX5_lackOf_36 : decode cX5_lackOf 36 = .ok (.ireturn, 1) := dk_172 (dk_at dksX5_lackOf_1 13 rfl rfl)
abbrev cX5_dueOf : ByteArray := prog_17_method_47_code
def yX5_dueOf : MethodName := ⟨RX5, "dueOf", "(I)I"⟩
def dkwX5_dueOf_0 : List UInt8 := [42, 180, 0, 76, 27, 46, 42, 180, 0, 88, 16, 16, 27, 96, 46, 96, 172]
abbrev dktX5_dueOf_0 : List UInt8 := dkwX5_dueOf_0 ++ []
theorem dksX5_dueOf_0 : cX5_dueOf.data.toList.drop 0 = dktX5_dueOf_0 := by decide +kernel
theorem dX5_dueOf_0 : decode cX5_dueOf 0 = .ok (.aload_n 0, 1) := dk_42 (dk_at dksX5_dueOf_0 0 rfl rfl)
theorem dX5_dueOf_1 : decode cX5_dueOf 1 = .ok (.getfield 76, 3) := dk_180 0 76 (dk_at dksX5_dueOf_0 1 rfl rfl)
theorem dX5_dueOf_4 : decode cX5_dueOf 4 = .ok (.iload_n 1, 1) := dk_27 (dk_at dksX5_dueOf_0 4 rfl rfl)
theorem dX5_dueOf_5 : decode cX5_dueOf 5 = .ok (.iaload, 1) := dk_46 (dk_at dksX5_dueOf_0 5 rfl rfl)
theorem dX5_dueOf_6 : decode cX5_dueOf 6 = .ok (.aload_n 0, 1) := dk_42 (dk_at dksX5_dueOf_0 6 rfl rfl)
theorem dX5_dueOf_7 : decode cX5_dueOf 7 = .ok (.getfield 88, 3) := dk_180 0 88 (dk_at dksX5_dueOf_0 7 rfl rfl)
theorem dX5_dueOf_10 : decode cX5_dueOf 10 = .ok (.bipush 16, 2) := dk_16 16 (dk_at dksX5_dueOf_0 10 rfl rfl)
theorem dX5_dueOf_12 : decode cX5_dueOf 12 = .ok (.iload_n 1, 1) := dk_27 (dk_at dksX5_dueOf_0 12 rfl rfl)
theorem dX5_dueOf_13 : decode cX5_dueOf 13 = .ok (.iadd, 1) := dk_96 (dk_at dksX5_dueOf_0 13 rfl rfl)
theorem dX5_dueOf_14 : decode cX5_dueOf 14 = .ok (.iaload, 1) := dk_46 (dk_at dksX5_dueOf_0 14 rfl rfl)
theorem dX5_dueOf_15 : decode cX5_dueOf 15 = .ok (.iadd, 1) := dk_96 (dk_at dksX5_dueOf_0 15 rfl rfl)
theorem dX5_dueOf_16 : decode cX5_dueOf 16 = .ok (.ireturn, 1) := dk_172 (dk_at dksX5_dueOf_0 16 rfl rfl)
abbrev cX5_worth : ByteArray := prog_17_method_57_code
def yX5_worth : MethodName := ⟨RX5, "worth", "(IIIII)I"⟩
def dkwX5_worth_2 : List UInt8 := [182, 1, 129, 172]
abbrev dktX5_worth_2 : List UInt8 := dkwX5_worth_2 ++ []
def dkwX5_worth_1 : List UInt8 := [154, 0, 5, 2, 172, 21, 5, 154, 0, 14, 42, 28, 29, 21, 4, 182, 1, 148, 167, 0, 9, 42, 28, 29]
abbrev dktX5_worth_1 : List UInt8 := dkwX5_worth_1 ++ dktX5_worth_2
def dkwX5_worth_0 : List UInt8 := [42, 182, 1, 138, 42, 27, 28, 29, 21, 4, 182, 1, 144, 153, 0, 13, 21, 5, 3, 4, 184, 1, 112]
abbrev dktX5_worth_0 : List UInt8 := dkwX5_worth_0 ++ dktX5_worth_1
theorem dksX5_worth_0 : cX5_worth.data.toList.drop 0 = dktX5_worth_0 := by decide +kernel
theorem dksX5_worth_1 : cX5_worth.data.toList.drop 23 = dktX5_worth_1 := dk_seg dksX5_worth_0 23 rfl rfl
theorem dksX5_worth_2 : cX5_worth.data.toList.drop 47 = dktX5_worth_2 := dk_seg dksX5_worth_1 24 rfl rfl
theorem dX5_worth_0 : decode cX5_worth 0 = .ok (.aload_n 0, 1) := dk_42 (dk_at dksX5_worth_0 0 rfl rfl)
theorem dX5_worth_1 : decode cX5_worth 1 = .ok (.invokevirtual 394, 3) := dk_182 1 138 (dk_at dksX5_worth_0 1 rfl rfl)
theorem dX5_worth_4 : decode cX5_worth 4 = .ok (.aload_n 0, 1) := dk_42 (dk_at dksX5_worth_0 4 rfl rfl)
theorem dX5_worth_5 : decode cX5_worth 5 = .ok (.iload_n 1, 1) := dk_27 (dk_at dksX5_worth_0 5 rfl rfl)
theorem dX5_worth_6 : decode cX5_worth 6 = .ok (.iload_n 2, 1) := dk_28 (dk_at dksX5_worth_0 6 rfl rfl)
theorem dX5_worth_7 : decode cX5_worth 7 = .ok (.iload_n 3, 1) := dk_29 (dk_at dksX5_worth_0 7 rfl rfl)
theorem dX5_worth_8 : decode cX5_worth 8 = .ok (.iload 4, 2) := dk_21 4 (dk_at dksX5_worth_0 8 rfl rfl)
theorem dX5_worth_10 : decode cX5_worth 10 = .ok (.invokevirtual 400, 3) := dk_182 1 144 (dk_at dksX5_worth_0 10 rfl rfl)
theorem dX5_worth_13 : decode cX5_worth 13 = .ok (.ifCond .eq 13, 3) := dk_153 0 13 (dk_at dksX5_worth_0 13 rfl rfl)
theorem dX5_worth_16 : decode cX5_worth 16 = .ok (.iload 5, 2) := dk_21 5 (dk_at dksX5_worth_0 16 rfl rfl)
theorem dX5_worth_18 : decode cX5_worth 18 = .ok (.iconst 0, 1) := dk_3 (dk_at dksX5_worth_0 18 rfl rfl)
theorem dX5_worth_19 : decode cX5_worth 19 = .ok (.iconst 1, 1) := dk_4 (dk_at dksX5_worth_0 19 rfl rfl)
theorem dX5_worth_20 : decode cX5_worth 20 = .ok (.invokestatic 368, 3) := dk_184 1 112 (dk_at dksX5_worth_0 20 rfl rfl)
theorem dX5_worth_23 : decode cX5_worth 23 = .ok (.ifCond .ne 5, 3) := dk_154 0 5 (dk_at dksX5_worth_1 0 rfl rfl)
theorem dX5_worth_26 : decode cX5_worth 26 = .ok (.iconst (-1), 1) := dk_2 (dk_at dksX5_worth_1 3 rfl rfl)
theorem dX5_worth_27 : decode cX5_worth 27 = .ok (.ireturn, 1) := dk_172 (dk_at dksX5_worth_1 4 rfl rfl)
theorem dX5_worth_28 : decode cX5_worth 28 = .ok (.iload 5, 2) := dk_21 5 (dk_at dksX5_worth_1 5 rfl rfl)
theorem dX5_worth_30 : decode cX5_worth 30 = .ok (.ifCond .ne 14, 3) := dk_154 0 14 (dk_at dksX5_worth_1 7 rfl rfl)
theorem dX5_worth_33 : decode cX5_worth 33 = .ok (.aload_n 0, 1) := dk_42 (dk_at dksX5_worth_1 10 rfl rfl)
theorem dX5_worth_34 : decode cX5_worth 34 = .ok (.iload_n 2, 1) := dk_28 (dk_at dksX5_worth_1 11 rfl rfl)
theorem dX5_worth_35 : decode cX5_worth 35 = .ok (.iload_n 3, 1) := dk_29 (dk_at dksX5_worth_1 12 rfl rfl)
theorem dX5_worth_36 : decode cX5_worth 36 = .ok (.iload 4, 2) := dk_21 4 (dk_at dksX5_worth_1 13 rfl rfl)
theorem dX5_worth_38 : decode cX5_worth 38 = .ok (.invokevirtual 404, 3) := dk_182 1 148 (dk_at dksX5_worth_1 15 rfl rfl)
theorem dX5_worth_41 : decode cX5_worth 41 = .ok (.goto 9, 3) := dk_167 0 9 (dk_at dksX5_worth_1 18 rfl rfl)
theorem dX5_worth_44 : decode cX5_worth 44 = .ok (.aload_n 0, 1) := dk_42 (dk_at dksX5_worth_1 21 rfl rfl)
theorem dX5_worth_45 : decode cX5_worth 45 = .ok (.iload_n 2, 1) := dk_28 (dk_at dksX5_worth_1 22 rfl rfl)
theorem dX5_worth_46 : decode cX5_worth 46 = .ok (.iload_n 3, 1) := dk_29 (dk_at dksX5_worth_1 23 rfl rfl)
theorem dX5_worth_47 : decode cX5_worth 47 = .ok (.invokevirtual 385, 3) := dk_182 1 129 (dk_at dksX5_worth_2 0 rfl rfl)
theorem dX5_worth_50 : decode cX5_worth 50 = .ok (.ireturn, 1) := dk_172 (dk_at dksX5_worth_2 3 rfl rfl)
abbrev cX5_canClimb : ByteArray := prog_17_method_51_code
def yX5_canClimb : MethodName := ⟨RX5, "canClimb", "(IIII)Z"⟩
def dkwX5_canClimb_2 : List UInt8 := [3, 172, 42, 28, 29, 182, 1, 129, 42, 180, 0, 88, 27, 46, 163, 0, 7, 4, 167, 0, 4, 3, 172]
abbrev dktX5_canClimb_2 : List UInt8 := dkwX5_canClimb_2 ++ []
def dkwX5_canClimb_1 : List UInt8 := [184, 1, 112, 153, 0, 21, 29, 2, 159, 0, 11, 42, 29, 182, 1, 126, 153, 0, 8, 29, 27, 160, 0, 5]
abbrev dktX5_canClimb_1 : List UInt8 := dkwX5_canClimb_1 ++ dktX5_canClimb_2
def dkwX5_canClimb_0 : List UInt8 := [42, 27, 182, 1, 126, 153, 0, 43, 28, 4, 42, 180, 0, 82, 184, 1, 112, 153, 0, 31, 21, 4, 3, 4]
abbrev dktX5_canClimb_0 : List UInt8 := dkwX5_canClimb_0 ++ dktX5_canClimb_1
theorem dksX5_canClimb_0 : cX5_canClimb.data.toList.drop 0 = dktX5_canClimb_0 := by decide +kernel
theorem dksX5_canClimb_1 : cX5_canClimb.data.toList.drop 24 = dktX5_canClimb_1 := dk_seg dksX5_canClimb_0 24 rfl rfl
theorem dksX5_canClimb_2 : cX5_canClimb.data.toList.drop 48 = dktX5_canClimb_2 := dk_seg dksX5_canClimb_1 24 rfl rfl
theorem dX5_canClimb_0 : decode cX5_canClimb 0 = .ok (.aload_n 0, 1) := dk_42 (dk_at dksX5_canClimb_0 0 rfl rfl)
theorem dX5_canClimb_1 : decode cX5_canClimb 1 = .ok (.iload_n 1, 1) := dk_27 (dk_at dksX5_canClimb_0 1 rfl rfl)
theorem dX5_canClimb_2 : decode cX5_canClimb 2 = .ok (.invokevirtual 382, 3) := dk_182 1 126 (dk_at dksX5_canClimb_0 2 rfl rfl)
theorem dX5_canClimb_5 : decode cX5_canClimb 5 = .ok (.ifCond .eq 43, 3) := dk_153 0 43 (dk_at dksX5_canClimb_0 5 rfl rfl)
theorem dX5_canClimb_8 : decode cX5_canClimb 8 = .ok (.iload_n 2, 1) := dk_28 (dk_at dksX5_canClimb_0 8 rfl rfl)
theorem dX5_canClimb_9 : decode cX5_canClimb 9 = .ok (.iconst 1, 1) := dk_4 (dk_at dksX5_canClimb_0 9 rfl rfl)
theorem dX5_canClimb_10 : decode cX5_canClimb 10 = .ok (.aload_n 0, 1) := dk_42 (dk_at dksX5_canClimb_0 10 rfl rfl)
theorem dX5_canClimb_11 : decode cX5_canClimb 11 = .ok (.getfield 82, 3) := dk_180 0 82 (dk_at dksX5_canClimb_0 11 rfl rfl)
theorem dX5_canClimb_14 : decode cX5_canClimb 14 = .ok (.invokestatic 368, 3) := dk_184 1 112 (dk_at dksX5_canClimb_0 14 rfl rfl)
theorem dX5_canClimb_17 : decode cX5_canClimb 17 = .ok (.ifCond .eq 31, 3) := dk_153 0 31 (dk_at dksX5_canClimb_0 17 rfl rfl)
theorem dX5_canClimb_20 : decode cX5_canClimb 20 = .ok (.iload 4, 2) := dk_21 4 (dk_at dksX5_canClimb_0 20 rfl rfl)
theorem dX5_canClimb_22 : decode cX5_canClimb 22 = .ok (.iconst 0, 1) := dk_3 (dk_at dksX5_canClimb_0 22 rfl rfl)
theorem dX5_canClimb_23 : decode cX5_canClimb 23 = .ok (.iconst 1, 1) := dk_4 (dk_at dksX5_canClimb_0 23 rfl rfl)
theorem dX5_canClimb_24 : decode cX5_canClimb 24 = .ok (.invokestatic 368, 3) := dk_184 1 112 (dk_at dksX5_canClimb_1 0 rfl rfl)
theorem dX5_canClimb_27 : decode cX5_canClimb 27 = .ok (.ifCond .eq 21, 3) := dk_153 0 21 (dk_at dksX5_canClimb_1 3 rfl rfl)
theorem dX5_canClimb_30 : decode cX5_canClimb 30 = .ok (.iload_n 3, 1) := dk_29 (dk_at dksX5_canClimb_1 6 rfl rfl)
theorem dX5_canClimb_31 : decode cX5_canClimb 31 = .ok (.iconst (-1), 1) := dk_2 (dk_at dksX5_canClimb_1 7 rfl rfl)
theorem dX5_canClimb_32 : decode cX5_canClimb 32 = .ok (.if_icmp .eq 11, 3) := dk_159 0 11 (dk_at dksX5_canClimb_1 8 rfl rfl)
theorem dX5_canClimb_35 : decode cX5_canClimb 35 = .ok (.aload_n 0, 1) := dk_42 (dk_at dksX5_canClimb_1 11 rfl rfl)
theorem dX5_canClimb_36 : decode cX5_canClimb 36 = .ok (.iload_n 3, 1) := dk_29 (dk_at dksX5_canClimb_1 12 rfl rfl)
theorem dX5_canClimb_37 : decode cX5_canClimb 37 = .ok (.invokevirtual 382, 3) := dk_182 1 126 (dk_at dksX5_canClimb_1 13 rfl rfl)
theorem dX5_canClimb_40 : decode cX5_canClimb 40 = .ok (.ifCond .eq 8, 3) := dk_153 0 8 (dk_at dksX5_canClimb_1 16 rfl rfl)
theorem dX5_canClimb_43 : decode cX5_canClimb 43 = .ok (.iload_n 3, 1) := dk_29 (dk_at dksX5_canClimb_1 19 rfl rfl)
theorem dX5_canClimb_44 : decode cX5_canClimb 44 = .ok (.iload_n 1, 1) := dk_27 (dk_at dksX5_canClimb_1 20 rfl rfl)
theorem dX5_canClimb_45 : decode cX5_canClimb 45 = .ok (.if_icmp .ne 5, 3) := dk_160 0 5 (dk_at dksX5_canClimb_1 21 rfl rfl)
theorem dX5_canClimb_48 : decode cX5_canClimb 48 = .ok (.iconst 0, 1) := dk_3 (dk_at dksX5_canClimb_2 0 rfl rfl)
theorem dX5_canClimb_49 : decode cX5_canClimb 49 = .ok (.ireturn, 1) := dk_172 (dk_at dksX5_canClimb_2 1 rfl rfl)
theorem dX5_canClimb_50 : decode cX5_canClimb 50 = .ok (.aload_n 0, 1) := dk_42 (dk_at dksX5_canClimb_2 2 rfl rfl)
theorem dX5_canClimb_51 : decode cX5_canClimb 51 = .ok (.iload_n 2, 1) := dk_28 (dk_at dksX5_canClimb_2 3 rfl rfl)
theorem dX5_canClimb_52 : decode cX5_canClimb 52 = .ok (.iload_n 3, 1) := dk_29 (dk_at dksX5_canClimb_2 4 rfl rfl)
theorem dX5_canClimb_53 : decode cX5_canClimb 53 = .ok (.invokevirtual 385, 3) := dk_182 1 129 (dk_at dksX5_canClimb_2 5 rfl rfl)
theorem dX5_canClimb_56 : decode cX5_canClimb 56 = .ok (.aload_n 0, 1) := dk_42 (dk_at dksX5_canClimb_2 8 rfl rfl)
theorem dX5_canClimb_57 : decode cX5_canClimb 57 = .ok (.getfield 88, 3) := dk_180 0 88 (dk_at dksX5_canClimb_2 9 rfl rfl)
theorem dX5_canClimb_60 : decode cX5_canClimb 60 = .ok (.iload_n 1, 1) := dk_27 (dk_at dksX5_canClimb_2 12 rfl rfl)
theorem dX5_canClimb_61 : decode cX5_canClimb 61 = .ok (.iaload, 1) := dk_46 (dk_at dksX5_canClimb_2 13 rfl rfl)
theorem dX5_canClimb_62 : decode cX5_canClimb 62 = .ok (.if_icmp .gt 7, 3) := dk_163 0 7 (dk_at dksX5_canClimb_2 14 rfl rfl)
theorem dX5_canClimb_65 : decode cX5_canClimb 65 = .ok (.iconst 1, 1) := dk_4 (dk_at dksX5_canClimb_2 17 rfl rfl)
theorem dX5_canClimb_66 : decode cX5_canClimb 66 = .ok (.goto 4, 3) := dk_167 0 4 (dk_at dksX5_canClimb_2 18 rfl rfl)
theorem dX5_canClimb_69 : decode cX5_canClimb 69 = .ok (.iconst 0, 1) := dk_3 (dk_at dksX5_canClimb_2 21 rfl rfl)
theorem dX5_canClimb_70 : decode cX5_canClimb 70 = .ok (.ireturn, 1) := dk_172 (dk_at dksX5_canClimb_2 22 rfl rfl)
abbrev cX5_breathFor : ByteArray := prog_17_method_50_code
def yX5_breathFor : MethodName := ⟨RX5, "breathFor", "(II)I"⟩
def dkwX5_breathFor_0 : List UInt8 := [28, 156, 0, 7, 27, 167, 0, 15, 27, 4, 42, 180, 0, 73, 28, 46, 6, 108, 96, 104, 172]
abbrev dktX5_breathFor_0 : List UInt8 := dkwX5_breathFor_0 ++ []
theorem dksX5_breathFor_0 : cX5_breathFor.data.toList.drop 0 = dktX5_breathFor_0 := by decide +kernel
theorem dX5_breathFor_0 : decode cX5_breathFor 0 = .ok (.iload_n 2, 1) := dk_28 (dk_at dksX5_breathFor_0 0 rfl rfl)
theorem dX5_breathFor_1 : decode cX5_breathFor 1 = .ok (.ifCond .ge 7, 3) := dk_156 0 7 (dk_at dksX5_breathFor_0 1 rfl rfl)
theorem dX5_breathFor_4 : decode cX5_breathFor 4 = .ok (.iload_n 1, 1) := dk_27 (dk_at dksX5_breathFor_0 4 rfl rfl)
theorem dX5_breathFor_5 : decode cX5_breathFor 5 = .ok (.goto 15, 3) := dk_167 0 15 (dk_at dksX5_breathFor_0 5 rfl rfl)
theorem dX5_breathFor_8 : decode cX5_breathFor 8 = .ok (.iload_n 1, 1) := dk_27 (dk_at dksX5_breathFor_0 8 rfl rfl)
theorem dX5_breathFor_9 : decode cX5_breathFor 9 = .ok (.iconst 1, 1) := dk_4 (dk_at dksX5_breathFor_0 9 rfl rfl)
theorem dX5_breathFor_10 : decode cX5_breathFor 10 = .ok (.aload_n 0, 1) := dk_42 (dk_at dksX5_breathFor_0 10 rfl rfl)
theorem dX5_breathFor_11 : decode cX5_breathFor 11 = .ok (.getfield 73, 3) := dk_180 0 73 (dk_at dksX5_breathFor_0 11 rfl rfl)
theorem dX5_breathFor_14 : decode cX5_breathFor 14 = .ok (.iload_n 2, 1) := dk_28 (dk_at dksX5_breathFor_0 14 rfl rfl)
theorem dX5_breathFor_15 : decode cX5_breathFor 15 = .ok (.iaload, 1) := dk_46 (dk_at dksX5_breathFor_0 15 rfl rfl)
theorem dX5_breathFor_16 : decode cX5_breathFor 16 = .ok (.iconst 3, 1) := dk_6 (dk_at dksX5_breathFor_0 16 rfl rfl)
theorem dX5_breathFor_17 : decode cX5_breathFor 17 = .ok (.idiv, 1) := dk_108 (dk_at dksX5_breathFor_0 17 rfl rfl)
theorem dX5_breathFor_18 : decode cX5_breathFor 18 = .ok (.iadd, 1) := dk_96 (dk_at dksX5_breathFor_0 18 rfl rfl)
theorem dX5_breathFor_19 : decode cX5_breathFor 19 = .ok (.imul, 1) := dk_104 (dk_at dksX5_breathFor_0 19 rfl rfl)
theorem dX5_breathFor_20 : decode cX5_breathFor 20 = .ok (.ireturn, 1) := dk_172 (dk_at dksX5_breathFor_0 20 rfl rfl)
abbrev cX5_countOf : ByteArray := prog_17_method_49_code
def yX5_countOf : MethodName := ⟨RX5, "countOf", "(III)I"⟩
def dkwX5_countOf_1 : List UInt8 := [182, 1, 119, 17, 3, 231, 184, 1, 123, 172]
abbrev dktX5_countOf_1 : List UInt8 := dkwX5_countOf_1 ++ []
def dkwX5_countOf_0 : List UInt8 := [42, 3, 27, 28, 156, 0, 7, 3, 167, 0, 9, 42, 180, 0, 73, 28, 46, 29, 16, 10, 27, 104]
abbrev dktX5_countOf_0 : List UInt8 := dkwX5_countOf_0 ++ dktX5_countOf_1
theorem dksX5_countOf_0 : cX5_countOf.data.toList.drop 0 = dktX5_countOf_0 := by decide +kernel
theorem dksX5_countOf_1 : cX5_countOf.data.toList.drop 22 = dktX5_countOf_1 := dk_seg dksX5_countOf_0 22 rfl rfl
theorem dX5_countOf_0 : decode cX5_countOf 0 = .ok (.aload_n 0, 1) := dk_42 (dk_at dksX5_countOf_0 0 rfl rfl)
theorem dX5_countOf_1 : decode cX5_countOf 1 = .ok (.iconst 0, 1) := dk_3 (dk_at dksX5_countOf_0 1 rfl rfl)
theorem dX5_countOf_2 : decode cX5_countOf 2 = .ok (.iload_n 1, 1) := dk_27 (dk_at dksX5_countOf_0 2 rfl rfl)
theorem dX5_countOf_3 : decode cX5_countOf 3 = .ok (.iload_n 2, 1) := dk_28 (dk_at dksX5_countOf_0 3 rfl rfl)
theorem dX5_countOf_4 : decode cX5_countOf 4 = .ok (.ifCond .ge 7, 3) := dk_156 0 7 (dk_at dksX5_countOf_0 4 rfl rfl)
theorem dX5_countOf_7 : decode cX5_countOf 7 = .ok (.iconst 0, 1) := dk_3 (dk_at dksX5_countOf_0 7 rfl rfl)
theorem dX5_countOf_8 : decode cX5_countOf 8 = .ok (.goto 9, 3) := dk_167 0 9 (dk_at dksX5_countOf_0 8 rfl rfl)
theorem dX5_countOf_11 : decode cX5_countOf 11 = .ok (.aload_n 0, 1) := dk_42 (dk_at dksX5_countOf_0 11 rfl rfl)
theorem dX5_countOf_12 : decode cX5_countOf 12 = .ok (.getfield 73, 3) := dk_180 0 73 (dk_at dksX5_countOf_0 12 rfl rfl)
theorem dX5_countOf_15 : decode cX5_countOf 15 = .ok (.iload_n 2, 1) := dk_28 (dk_at dksX5_countOf_0 15 rfl rfl)
theorem dX5_countOf_16 : decode cX5_countOf 16 = .ok (.iaload, 1) := dk_46 (dk_at dksX5_countOf_0 16 rfl rfl)
theorem dX5_countOf_17 : decode cX5_countOf 17 = .ok (.iload_n 3, 1) := dk_29 (dk_at dksX5_countOf_0 17 rfl rfl)
theorem dX5_countOf_18 : decode cX5_countOf 18 = .ok (.bipush 10, 2) := dk_16 10 (dk_at dksX5_countOf_0 18 rfl rfl)
theorem dX5_countOf_20 : decode cX5_countOf 20 = .ok (.iload_n 1, 1) := dk_27 (dk_at dksX5_countOf_0 20 rfl rfl)
theorem dX5_countOf_21 : decode cX5_countOf 21 = .ok (.imul, 1) := dk_104 (dk_at dksX5_countOf_0 21 rfl rfl)
theorem dX5_countOf_22 : decode cX5_countOf 22 = .ok (.invokevirtual 375, 3) := dk_182 1 119 (dk_at dksX5_countOf_1 0 rfl rfl)
theorem dX5_countOf_25 : decode cX5_countOf 25 = .ok (.sipush 999, 3) := dk_17 3 231 (dk_at dksX5_countOf_1 3 rfl rfl)
theorem dX5_countOf_28 : decode cX5_countOf 28 = .ok (.invokestatic 379, 3) := dk_184 1 123 (dk_at dksX5_countOf_1 6 rfl rfl)
theorem dX5_countOf_31 : decode cX5_countOf 31 = .ok (.ireturn, 1) := dk_172 (dk_at dksX5_countOf_1 9 rfl rfl)
abbrev cX5_worked : ByteArray := prog_17_method_34_code
def yX5_worked : MethodName := ⟨RX5, "worked", "(IIIII)I"⟩
def dkwX5_worked_10 : List UInt8 := [180, 0, 42, 21, 6, 46, 184, 1, 52, 79, 132, 7, 1, 167, 255, 89, 42, 180, 0, 42, 3, 46, 172]
abbrev dktX5_worked_10 : List UInt8 := dkwX5_worked_10 ++ []
def dkwX5_worked_9 : List UInt8 := [180, 0, 42, 21, 6, 4, 100, 42, 180, 0, 33, 21, 7, 46, 42, 180, 0, 42, 21, 6, 4, 100, 46, 42]
abbrev dktX5_worked_9 : List UInt8 := dkwX5_worked_9 ++ dktX5_worked_10
def dkwX5_worked_8 : List UInt8 := [4, 100, 46, 154, 0, 7, 4, 167, 0, 4, 3, 184, 1, 48, 79, 167, 0, 41, 132, 6, 255, 42]
abbrev dktX5_worked_8 : List UInt8 := dkwX5_worked_8 ++ dktX5_worked_9
def dkwX5_worked_7 : List UInt8 := [180, 0, 30, 21, 7, 46, 5, 160, 0, 35, 42, 180, 0, 42, 21, 6, 4, 100, 42, 180, 0, 42, 21, 6]
abbrev dktX5_worked_7 : List UInt8 := dkwX5_worked_7 ++ dktX5_worked_8
def dkwX5_worked_6 : List UInt8 := [167, 0, 15, 42, 180, 0, 49, 42, 180, 0, 33, 21, 7, 46, 46, 79, 132, 6, 1, 167, 0, 84, 42]
abbrev dktX5_worked_6 : List UInt8 := dkwX5_worked_6 ++ dktX5_worked_7
def dkwX5_worked_5 : List UInt8 := [42, 180, 0, 42, 21, 6, 42, 180, 0, 30, 21, 7, 46, 154, 0, 13, 42, 180, 0, 33, 21, 7, 46]
abbrev dktX5_worked_5 : List UInt8 := dkwX5_worked_5 ++ dktX5_worked_6
def dkwX5_worked_4 : List UInt8 := [162, 0, 156, 42, 180, 0, 30, 21, 7, 46, 153, 0, 14, 42, 180, 0, 30, 21, 7, 46, 4, 160, 0, 48]
abbrev dktX5_worked_4 : List UInt8 := dkwX5_worked_4 ++ dktX5_worked_5
def dkwX5_worked_3 : List UInt8 := [79, 17, 1, 64, 27, 104, 54, 7, 21, 7, 17, 1, 64, 27, 104, 42, 180, 0, 36, 27, 46, 96]
abbrev dktX5_worked_3 : List UInt8 := dkwX5_worked_3 ++ dktX5_worked_4
def dkwX5_worked_2 : List UInt8 := [79, 42, 180, 0, 49, 8, 42, 180, 0, 88, 16, 25, 46, 79, 3, 54, 6, 42, 180, 0, 42, 3, 21, 5]
abbrev dktX5_worked_2 : List UInt8 := dkwX5_worked_2 ++ dktX5_worked_3
def dkwX5_worked_1 : List UInt8 := [180, 0, 49, 6, 42, 180, 0, 88, 16, 26, 46, 79, 42, 180, 0, 49, 7, 42, 180, 0, 88, 16, 24, 46]
abbrev dktX5_worked_1 : List UInt8 := dkwX5_worked_1 ++ dktX5_worked_2
def dkwX5_worked_0 : List UInt8 := [42, 180, 0, 49, 3, 28, 79, 42, 180, 0, 49, 4, 29, 79, 42, 180, 0, 49, 5, 21, 4, 79, 42]
abbrev dktX5_worked_0 : List UInt8 := dkwX5_worked_0 ++ dktX5_worked_1
theorem dksX5_worked_0 : cX5_worked.data.toList.drop 0 = dktX5_worked_0 := by decide +kernel
theorem dksX5_worked_1 : cX5_worked.data.toList.drop 23 = dktX5_worked_1 := dk_seg dksX5_worked_0 23 rfl rfl
theorem dksX5_worked_2 : cX5_worked.data.toList.drop 47 = dktX5_worked_2 := dk_seg dksX5_worked_1 24 rfl rfl
theorem dksX5_worked_3 : cX5_worked.data.toList.drop 71 = dktX5_worked_3 := dk_seg dksX5_worked_2 24 rfl rfl
theorem dksX5_worked_4 : cX5_worked.data.toList.drop 93 = dktX5_worked_4 := dk_seg dksX5_worked_3 22 rfl rfl
theorem dksX5_worked_5 : cX5_worked.data.toList.drop 117 = dktX5_worked_5 := dk_seg dksX5_worked_4 24 rfl rfl
theorem dksX5_worked_6 : cX5_worked.data.toList.drop 140 = dktX5_worked_6 := dk_seg dksX5_worked_5 23 rfl rfl
theorem dksX5_worked_7 : cX5_worked.data.toList.drop 163 = dktX5_worked_7 := dk_seg dksX5_worked_6 23 rfl rfl
theorem dksX5_worked_8 : cX5_worked.data.toList.drop 187 = dktX5_worked_8 := dk_seg dksX5_worked_7 24 rfl rfl
theorem dksX5_worked_9 : cX5_worked.data.toList.drop 209 = dktX5_worked_9 := dk_seg dksX5_worked_8 22 rfl rfl
theorem dksX5_worked_10 : cX5_worked.data.toList.drop 233 = dktX5_worked_10 := dk_seg dksX5_worked_9 24 rfl rfl
theorem dX5_worked_0 : decode cX5_worked 0 = .ok (.aload_n 0, 1) := dk_42 (dk_at dksX5_worked_0 0 rfl rfl)
theorem dX5_worked_1 : decode cX5_worked 1 = .ok (.getfield 49, 3) := dk_180 0 49 (dk_at dksX5_worked_0 1 rfl rfl)
theorem dX5_worked_4 : decode cX5_worked 4 = .ok (.iconst 0, 1) := dk_3 (dk_at dksX5_worked_0 4 rfl rfl)
theorem dX5_worked_5 : decode cX5_worked 5 = .ok (.iload_n 2, 1) := dk_28 (dk_at dksX5_worked_0 5 rfl rfl)
theorem dX5_worked_6 : decode cX5_worked 6 = .ok (.iastore, 1) := dk_79 (dk_at dksX5_worked_0 6 rfl rfl)
theorem dX5_worked_7 : decode cX5_worked 7 = .ok (.aload_n 0, 1) := dk_42 (dk_at dksX5_worked_0 7 rfl rfl)
theorem dX5_worked_8 : decode cX5_worked 8 = .ok (.getfield 49, 3) := dk_180 0 49 (dk_at dksX5_worked_0 8 rfl rfl)
theorem dX5_worked_11 : decode cX5_worked 11 = .ok (.iconst 1, 1) := dk_4 (dk_at dksX5_worked_0 11 rfl rfl)
theorem dX5_worked_12 : decode cX5_worked 12 = .ok (.iload_n 3, 1) := dk_29 (dk_at dksX5_worked_0 12 rfl rfl)
theorem dX5_worked_13 : decode cX5_worked 13 = .ok (.iastore, 1) := dk_79 (dk_at dksX5_worked_0 13 rfl rfl)
theorem dX5_worked_14 : decode cX5_worked 14 = .ok (.aload_n 0, 1) := dk_42 (dk_at dksX5_worked_0 14 rfl rfl)
theorem dX5_worked_15 : decode cX5_worked 15 = .ok (.getfield 49, 3) := dk_180 0 49 (dk_at dksX5_worked_0 15 rfl rfl)
theorem dX5_worked_18 : decode cX5_worked 18 = .ok (.iconst 2, 1) := dk_5 (dk_at dksX5_worked_0 18 rfl rfl)
theorem dX5_worked_19 : decode cX5_worked 19 = .ok (.iload 4, 2) := dk_21 4 (dk_at dksX5_worked_0 19 rfl rfl)
theorem dX5_worked_21 : decode cX5_worked 21 = .ok (.iastore, 1) := dk_79 (dk_at dksX5_worked_0 21 rfl rfl)
theorem dX5_worked_22 : decode cX5_worked 22 = .ok (.aload_n 0, 1) := dk_42 (dk_at dksX5_worked_0 22 rfl rfl)
theorem dX5_worked_23 : decode cX5_worked 23 = .ok (.getfield 49, 3) := dk_180 0 49 (dk_at dksX5_worked_1 0 rfl rfl)
theorem dX5_worked_26 : decode cX5_worked 26 = .ok (.iconst 3, 1) := dk_6 (dk_at dksX5_worked_1 3 rfl rfl)
theorem dX5_worked_27 : decode cX5_worked 27 = .ok (.aload_n 0, 1) := dk_42 (dk_at dksX5_worked_1 4 rfl rfl)
theorem dX5_worked_28 : decode cX5_worked 28 = .ok (.getfield 88, 3) := dk_180 0 88 (dk_at dksX5_worked_1 5 rfl rfl)
theorem dX5_worked_31 : decode cX5_worked 31 = .ok (.bipush 26, 2) := dk_16 26 (dk_at dksX5_worked_1 8 rfl rfl)
theorem dX5_worked_33 : decode cX5_worked 33 = .ok (.iaload, 1) := dk_46 (dk_at dksX5_worked_1 10 rfl rfl)
theorem dX5_worked_34 : decode cX5_worked 34 = .ok (.iastore, 1) := dk_79 (dk_at dksX5_worked_1 11 rfl rfl)
theorem dX5_worked_35 : decode cX5_worked 35 = .ok (.aload_n 0, 1) := dk_42 (dk_at dksX5_worked_1 12 rfl rfl)
theorem dX5_worked_36 : decode cX5_worked 36 = .ok (.getfield 49, 3) := dk_180 0 49 (dk_at dksX5_worked_1 13 rfl rfl)
theorem dX5_worked_39 : decode cX5_worked 39 = .ok (.iconst 4, 1) := dk_7 (dk_at dksX5_worked_1 16 rfl rfl)
theorem dX5_worked_40 : decode cX5_worked 40 = .ok (.aload_n 0, 1) := dk_42 (dk_at dksX5_worked_1 17 rfl rfl)
theorem dX5_worked_41 : decode cX5_worked 41 = .ok (.getfield 88, 3) := dk_180 0 88 (dk_at dksX5_worked_1 18 rfl rfl)
theorem dX5_worked_44 : decode cX5_worked 44 = .ok (.bipush 24, 2) := dk_16 24 (dk_at dksX5_worked_1 21 rfl rfl)
theorem dX5_worked_46 : decode cX5_worked 46 = .ok (.iaload, 1) := dk_46 (dk_at dksX5_worked_1 23 rfl rfl)
theorem dX5_worked_47 : decode cX5_worked 47 = .ok (.iastore, 1) := dk_79 (dk_at dksX5_worked_2 0 rfl rfl)
theorem dX5_worked_48 : decode cX5_worked 48 = .ok (.aload_n 0, 1) := dk_42 (dk_at dksX5_worked_2 1 rfl rfl)
theorem dX5_worked_49 : decode cX5_worked 49 = .ok (.getfield 49, 3) := dk_180 0 49 (dk_at dksX5_worked_2 2 rfl rfl)
theorem dX5_worked_52 : decode cX5_worked 52 = .ok (.iconst 5, 1) := dk_8 (dk_at dksX5_worked_2 5 rfl rfl)
theorem dX5_worked_53 : decode cX5_worked 53 = .ok (.aload_n 0, 1) := dk_42 (dk_at dksX5_worked_2 6 rfl rfl)
theorem dX5_worked_54 : decode cX5_worked 54 = .ok (.getfield 88, 3) := dk_180 0 88 (dk_at dksX5_worked_2 7 rfl rfl)
theorem dX5_worked_57 : decode cX5_worked 57 = .ok (.bipush 25, 2) := dk_16 25 (dk_at dksX5_worked_2 10 rfl rfl)
theorem dX5_worked_59 : decode cX5_worked 59 = .ok (.iaload, 1) := dk_46 (dk_at dksX5_worked_2 12 rfl rfl)
theorem dX5_worked_60 : decode cX5_worked 60 = .ok (.iastore, 1) := dk_79 (dk_at dksX5_worked_2 13 rfl rfl)
theorem dX5_worked_61 : decode cX5_worked 61 = .ok (.iconst 0, 1) := dk_3 (dk_at dksX5_worked_2 14 rfl rfl)
theorem dX5_worked_62 : decode cX5_worked 62 = .ok (.istore 6, 2) := dk_54 6 (dk_at dksX5_worked_2 15 rfl rfl)
theorem dX5_worked_64 : decode cX5_worked 64 = .ok (.aload_n 0, 1) := dk_42 (dk_at dksX5_worked_2 17 rfl rfl)
theorem dX5_worked_65 : decode cX5_worked 65 = .ok (.getfield 42, 3) := dk_180 0 42 (dk_at dksX5_worked_2 18 rfl rfl)
theorem dX5_worked_68 : decode cX5_worked 68 = .ok (.iconst 0, 1) := dk_3 (dk_at dksX5_worked_2 21 rfl rfl)
theorem dX5_worked_69 : decode cX5_worked 69 = .ok (.iload 5, 2) := dk_21 5 (dk_at dksX5_worked_2 22 rfl rfl)
theorem dX5_worked_71 : decode cX5_worked 71 = .ok (.iastore, 1) := dk_79 (dk_at dksX5_worked_3 0 rfl rfl)
theorem dX5_worked_72 : decode cX5_worked 72 = .ok (.sipush 320, 3) := dk_17 1 64 (dk_at dksX5_worked_3 1 rfl rfl)
theorem dX5_worked_75 : decode cX5_worked 75 = .ok (.iload_n 1, 1) := dk_27 (dk_at dksX5_worked_3 4 rfl rfl)
theorem dX5_worked_76 : decode cX5_worked 76 = .ok (.imul, 1) := dk_104 (dk_at dksX5_worked_3 5 rfl rfl)
theorem dX5_worked_77 : decode cX5_worked 77 = .ok (.istore 7, 2) := dk_54 7 (dk_at dksX5_worked_3 6 rfl rfl)
theorem dX5_worked_79 : decode cX5_worked 79 = .ok (.iload 7, 2) := dk_21 7 (dk_at dksX5_worked_3 8 rfl rfl)
theorem dX5_worked_81 : decode cX5_worked 81 = .ok (.sipush 320, 3) := dk_17 1 64 (dk_at dksX5_worked_3 10 rfl rfl)
theorem dX5_worked_84 : decode cX5_worked 84 = .ok (.iload_n 1, 1) := dk_27 (dk_at dksX5_worked_3 13 rfl rfl)
theorem dX5_worked_85 : decode cX5_worked 85 = .ok (.imul, 1) := dk_104 (dk_at dksX5_worked_3 14 rfl rfl)
theorem dX5_worked_86 : decode cX5_worked 86 = .ok (.aload_n 0, 1) := dk_42 (dk_at dksX5_worked_3 15 rfl rfl)
theorem dX5_worked_87 : decode cX5_worked 87 = .ok (.getfield 36, 3) := dk_180 0 36 (dk_at dksX5_worked_3 16 rfl rfl)
theorem dX5_worked_90 : decode cX5_worked 90 = .ok (.iload_n 1, 1) := dk_27 (dk_at dksX5_worked_3 19 rfl rfl)
theorem dX5_worked_91 : decode cX5_worked 91 = .ok (.iaload, 1) := dk_46 (dk_at dksX5_worked_3 20 rfl rfl)
theorem dX5_worked_92 : decode cX5_worked 92 = .ok (.iadd, 1) := dk_96 (dk_at dksX5_worked_3 21 rfl rfl)
theorem dX5_worked_93 : decode cX5_worked 93 = .ok (.if_icmp .ge 156, 3) := dk_162 0 156 (dk_at dksX5_worked_4 0 rfl rfl)
theorem dX5_worked_96 : decode cX5_worked 96 = .ok (.aload_n 0, 1) := dk_42 (dk_at dksX5_worked_4 3 rfl rfl)
theorem dX5_worked_97 : decode cX5_worked 97 = .ok (.getfield 30, 3) := dk_180 0 30 (dk_at dksX5_worked_4 4 rfl rfl)
theorem dX5_worked_100 : decode cX5_worked 100 = .ok (.iload 7, 2) := dk_21 7 (dk_at dksX5_worked_4 7 rfl rfl)
theorem dX5_worked_102 : decode cX5_worked 102 = .ok (.iaload, 1) := dk_46 (dk_at dksX5_worked_4 9 rfl rfl)
theorem dX5_worked_103 : decode cX5_worked 103 = .ok (.ifCond .eq 14, 3) := dk_153 0 14 (dk_at dksX5_worked_4 10 rfl rfl)
theorem dX5_worked_106 : decode cX5_worked 106 = .ok (.aload_n 0, 1) := dk_42 (dk_at dksX5_worked_4 13 rfl rfl)
theorem dX5_worked_107 : decode cX5_worked 107 = .ok (.getfield 30, 3) := dk_180 0 30 (dk_at dksX5_worked_4 14 rfl rfl)
theorem dX5_worked_110 : decode cX5_worked 110 = .ok (.iload 7, 2) := dk_21 7 (dk_at dksX5_worked_4 17 rfl rfl)
theorem dX5_worked_112 : decode cX5_worked 112 = .ok (.iaload, 1) := dk_46 (dk_at dksX5_worked_4 19 rfl rfl)
theorem dX5_worked_113 : decode cX5_worked 113 = .ok (.iconst 1, 1) := dk_4 (dk_at dksX5_worked_4 20 rfl rfl)
theorem dX5_worked_114 : decode cX5_worked 114 = .ok (.if_icmp .ne 48, 3) := dk_160 0 48 (dk_at dksX5_worked_4 21 rfl rfl)
theorem dX5_worked_117 : decode cX5_worked 117 = .ok (.aload_n 0, 1) := dk_42 (dk_at dksX5_worked_5 0 rfl rfl)
theorem dX5_worked_118 : decode cX5_worked 118 = .ok (.getfield 42, 3) := dk_180 0 42 (dk_at dksX5_worked_5 1 rfl rfl)
theorem dX5_worked_121 : decode cX5_worked 121 = .ok (.iload 6, 2) := dk_21 6 (dk_at dksX5_worked_5 4 rfl rfl)
theorem dX5_worked_123 : decode cX5_worked 123 = .ok (.aload_n 0, 1) := dk_42 (dk_at dksX5_worked_5 6 rfl rfl)
theorem dX5_worked_124 : decode cX5_worked 124 = .ok (.getfield 30, 3) := dk_180 0 30 (dk_at dksX5_worked_5 7 rfl rfl)
theorem dX5_worked_127 : decode cX5_worked 127 = .ok (.iload 7, 2) := dk_21 7 (dk_at dksX5_worked_5 10 rfl rfl)
theorem dX5_worked_129 : decode cX5_worked 129 = .ok (.iaload, 1) := dk_46 (dk_at dksX5_worked_5 12 rfl rfl)
theorem dX5_worked_130 : decode cX5_worked 130 = .ok (.ifCond .ne 13, 3) := dk_154 0 13 (dk_at dksX5_worked_5 13 rfl rfl)
theorem dX5_worked_133 : decode cX5_worked 133 = .ok (.aload_n 0, 1) := dk_42 (dk_at dksX5_worked_5 16 rfl rfl)
theorem dX5_worked_134 : decode cX5_worked 134 = .ok (.getfield 33, 3) := dk_180 0 33 (dk_at dksX5_worked_5 17 rfl rfl)
theorem dX5_worked_137 : decode cX5_worked 137 = .ok (.iload 7, 2) := dk_21 7 (dk_at dksX5_worked_5 20 rfl rfl)
theorem dX5_worked_139 : decode cX5_worked 139 = .ok (.iaload, 1) := dk_46 (dk_at dksX5_worked_5 22 rfl rfl)
theorem dX5_worked_140 : decode cX5_worked 140 = .ok (.goto 15, 3) := dk_167 0 15 (dk_at dksX5_worked_6 0 rfl rfl)
theorem dX5_worked_143 : decode cX5_worked 143 = .ok (.aload_n 0, 1) := dk_42 (dk_at dksX5_worked_6 3 rfl rfl)
theorem dX5_worked_144 : decode cX5_worked 144 = .ok (.getfield 49, 3) := dk_180 0 49 (dk_at dksX5_worked_6 4 rfl rfl)
theorem dX5_worked_147 : decode cX5_worked 147 = .ok (.aload_n 0, 1) := dk_42 (dk_at dksX5_worked_6 7 rfl rfl)
theorem dX5_worked_148 : decode cX5_worked 148 = .ok (.getfield 33, 3) := dk_180 0 33 (dk_at dksX5_worked_6 8 rfl rfl)
theorem dX5_worked_151 : decode cX5_worked 151 = .ok (.iload 7, 2) := dk_21 7 (dk_at dksX5_worked_6 11 rfl rfl)
theorem dX5_worked_153 : decode cX5_worked 153 = .ok (.iaload, 1) := dk_46 (dk_at dksX5_worked_6 13 rfl rfl)
theorem dX5_worked_154 : decode cX5_worked 154 = .ok (.iaload, 1) := dk_46 (dk_at dksX5_worked_6 14 rfl rfl)
theorem dX5_worked_155 : decode cX5_worked 155 = .ok (.iastore, 1) := dk_79 (dk_at dksX5_worked_6 15 rfl rfl)
theorem dX5_worked_156 : decode cX5_worked 156 = .ok (.iinc 6 1, 3) := dk_132 6 1 (dk_at dksX5_worked_6 16 rfl rfl)
theorem dX5_worked_159 : decode cX5_worked 159 = .ok (.goto 84, 3) := dk_167 0 84 (dk_at dksX5_worked_6 19 rfl rfl)
theorem dX5_worked_162 : decode cX5_worked 162 = .ok (.aload_n 0, 1) := dk_42 (dk_at dksX5_worked_6 22 rfl rfl)
theorem dX5_worked_163 : decode cX5_worked 163 = .ok (.getfield 30, 3) := dk_180 0 30 (dk_at dksX5_worked_7 0 rfl rfl)
theorem dX5_worked_166 : decode cX5_worked 166 = .ok (.iload 7, 2) := dk_21 7 (dk_at dksX5_worked_7 3 rfl rfl)
theorem dX5_worked_168 : decode cX5_worked 168 = .ok (.iaload, 1) := dk_46 (dk_at dksX5_worked_7 5 rfl rfl)
theorem dX5_worked_169 : decode cX5_worked 169 = .ok (.iconst 2, 1) := dk_5 (dk_at dksX5_worked_7 6 rfl rfl)
theorem dX5_worked_170 : decode cX5_worked 170 = .ok (.if_icmp .ne 35, 3) := dk_160 0 35 (dk_at dksX5_worked_7 7 rfl rfl)
theorem dX5_worked_173 : decode cX5_worked 173 = .ok (.aload_n 0, 1) := dk_42 (dk_at dksX5_worked_7 10 rfl rfl)
theorem dX5_worked_174 : decode cX5_worked 174 = .ok (.getfield 42, 3) := dk_180 0 42 (dk_at dksX5_worked_7 11 rfl rfl)
theorem dX5_worked_177 : decode cX5_worked 177 = .ok (.iload 6, 2) := dk_21 6 (dk_at dksX5_worked_7 14 rfl rfl)
theorem dX5_worked_179 : decode cX5_worked 179 = .ok (.iconst 1, 1) := dk_4 (dk_at dksX5_worked_7 16 rfl rfl)
theorem dX5_worked_180 : decode cX5_worked 180 = .ok (.isub, 1) := dk_100 (dk_at dksX5_worked_7 17 rfl rfl)
theorem dX5_worked_181 : decode cX5_worked 181 = .ok (.aload_n 0, 1) := dk_42 (dk_at dksX5_worked_7 18 rfl rfl)
theorem dX5_worked_182 : decode cX5_worked 182 = .ok (.getfield 42, 3) := dk_180 0 42 (dk_at dksX5_worked_7 19 rfl rfl)
theorem dX5_worked_185 : decode cX5_worked 185 = .ok (.iload 6, 2) := dk_21 6 (dk_at dksX5_worked_7 22 rfl rfl)
theorem dX5_worked_187 : decode cX5_worked 187 = .ok (.iconst 1, 1) := dk_4 (dk_at dksX5_worked_8 0 rfl rfl)
theorem dX5_worked_188 : decode cX5_worked 188 = .ok (.isub, 1) := dk_100 (dk_at dksX5_worked_8 1 rfl rfl)
theorem dX5_worked_189 : decode cX5_worked 189 = .ok (.iaload, 1) := dk_46 (dk_at dksX5_worked_8 2 rfl rfl)
theorem dX5_worked_190 : decode cX5_worked 190 = .ok (.ifCond .ne 7, 3) := dk_154 0 7 (dk_at dksX5_worked_8 3 rfl rfl)
theorem dX5_worked_193 : decode cX5_worked 193 = .ok (.iconst 1, 1) := dk_4 (dk_at dksX5_worked_8 6 rfl rfl)
theorem dX5_worked_194 : decode cX5_worked 194 = .ok (.goto 4, 3) := dk_167 0 4 (dk_at dksX5_worked_8 7 rfl rfl)
theorem dX5_worked_197 : decode cX5_worked 197 = .ok (.iconst 0, 1) := dk_3 (dk_at dksX5_worked_8 10 rfl rfl)
theorem dX5_worked_198 : decode cX5_worked 198 = .ok (.invokestatic 304, 3) := dk_184 1 48 (dk_at dksX5_worked_8 11 rfl rfl)
theorem dX5_worked_201 : decode cX5_worked 201 = .ok (.iastore, 1) := dk_79 (dk_at dksX5_worked_8 14 rfl rfl)
theorem dX5_worked_202 : decode cX5_worked 202 = .ok (.goto 41, 3) := dk_167 0 41 (dk_at dksX5_worked_8 15 rfl rfl)
theorem dX5_worked_205 : decode cX5_worked 205 = .ok (.iinc 6 (-1), 3) := dk_132 6 255 (dk_at dksX5_worked_8 18 rfl rfl)
theorem dX5_worked_208 : decode cX5_worked 208 = .ok (.aload_n 0, 1) := dk_42 (dk_at dksX5_worked_8 21 rfl rfl)
theorem dX5_worked_209 : decode cX5_worked 209 = .ok (.getfield 42, 3) := dk_180 0 42 (dk_at dksX5_worked_9 0 rfl rfl)
theorem dX5_worked_212 : decode cX5_worked 212 = .ok (.iload 6, 2) := dk_21 6 (dk_at dksX5_worked_9 3 rfl rfl)
theorem dX5_worked_214 : decode cX5_worked 214 = .ok (.iconst 1, 1) := dk_4 (dk_at dksX5_worked_9 5 rfl rfl)
theorem dX5_worked_215 : decode cX5_worked 215 = .ok (.isub, 1) := dk_100 (dk_at dksX5_worked_9 6 rfl rfl)
theorem dX5_worked_216 : decode cX5_worked 216 = .ok (.aload_n 0, 1) := dk_42 (dk_at dksX5_worked_9 7 rfl rfl)
theorem dX5_worked_217 : decode cX5_worked 217 = .ok (.getfield 33, 3) := dk_180 0 33 (dk_at dksX5_worked_9 8 rfl rfl)
theorem dX5_worked_220 : decode cX5_worked 220 = .ok (.iload 7, 2) := dk_21 7 (dk_at dksX5_worked_9 11 rfl rfl)
theorem dX5_worked_222 : decode cX5_worked 222 = .ok (.iaload, 1) := dk_46 (dk_at dksX5_worked_9 13 rfl rfl)
theorem dX5_worked_223 : decode cX5_worked 223 = .ok (.aload_n 0, 1) := dk_42 (dk_at dksX5_worked_9 14 rfl rfl)
theorem dX5_worked_224 : decode cX5_worked 224 = .ok (.getfield 42, 3) := dk_180 0 42 (dk_at dksX5_worked_9 15 rfl rfl)
theorem dX5_worked_227 : decode cX5_worked 227 = .ok (.iload 6, 2) := dk_21 6 (dk_at dksX5_worked_9 18 rfl rfl)
theorem dX5_worked_229 : decode cX5_worked 229 = .ok (.iconst 1, 1) := dk_4 (dk_at dksX5_worked_9 20 rfl rfl)
theorem dX5_worked_230 : decode cX5_worked 230 = .ok (.isub, 1) := dk_100 (dk_at dksX5_worked_9 21 rfl rfl)
theorem dX5_worked_231 : decode cX5_worked 231 = .ok (.iaload, 1) := dk_46 (dk_at dksX5_worked_9 22 rfl rfl)
theorem dX5_worked_232 : decode cX5_worked 232 = .ok (.aload_n 0, 1) := dk_42 (dk_at dksX5_worked_9 23 rfl rfl)
theorem dX5_worked_233 : decode cX5_worked 233 = .ok (.getfield 42, 3) := dk_180 0 42 (dk_at dksX5_worked_10 0 rfl rfl)
theorem dX5_worked_236 : decode cX5_worked 236 = .ok (.iload 6, 2) := dk_21 6 (dk_at dksX5_worked_10 3 rfl rfl)
theorem dX5_worked_238 : decode cX5_worked 238 = .ok (.iaload, 1) := dk_46 (dk_at dksX5_worked_10 5 rfl rfl)
theorem dX5_worked_239 : decode cX5_worked 239 = .ok (.invokestatic 308, 3) := dk_184 1 52 (dk_at dksX5_worked_10 6 rfl rfl)
theorem dX5_worked_242 : decode cX5_worked 242 = .ok (.iastore, 1) := dk_79 (dk_at dksX5_worked_10 9 rfl rfl)
theorem dX5_worked_243 : decode cX5_worked 243 = .ok (.iinc 7 1, 3) := dk_132 7 1 (dk_at dksX5_worked_10 10 rfl rfl)
theorem dX5_worked_246 : decode cX5_worked 246 = .ok (.goto (-167), 3) := dk_167 255 89 (dk_at dksX5_worked_10 13 rfl rfl)
theorem dX5_worked_249 : decode cX5_worked 249 = .ok (.aload_n 0, 1) := dk_42 (dk_at dksX5_worked_10 16 rfl rfl)
theorem dX5_worked_250 : decode cX5_worked 250 = .ok (.getfield 42, 3) := dk_180 0 42 (dk_at dksX5_worked_10 17 rfl rfl)
theorem dX5_worked_253 : decode cX5_worked 253 = .ok (.iconst 0, 1) := dk_3 (dk_at dksX5_worked_10 20 rfl rfl)
theorem dX5_worked_254 : decode cX5_worked 254 = .ok (.iaload, 1) := dk_46 (dk_at dksX5_worked_10 21 rfl rfl)
theorem dX5_worked_255 : decode cX5_worked 255 = .ok (.ireturn, 1) := dk_172 (dk_at dksX5_worked_10 22 rfl rfl)
abbrev cX5_truth : ByteArray := prog_17_method_32_code
def yX5_truth : MethodName := ⟨RX5, "truth", "(Z)I"⟩
def dkwX5_truth_0 : List UInt8 := [26, 153, 0, 7, 4, 167, 0, 4, 3, 172]
abbrev dktX5_truth_0 : List UInt8 := dkwX5_truth_0 ++ []
theorem dksX5_truth_0 : cX5_truth.data.toList.drop 0 = dktX5_truth_0 := by decide +kernel
theorem dX5_truth_0 : decode cX5_truth 0 = .ok (.iload_n 0, 1) := dk_26 (dk_at dksX5_truth_0 0 rfl rfl)
theorem dX5_truth_1 : decode cX5_truth 1 = .ok (.ifCond .eq 7, 3) := dk_153 0 7 (dk_at dksX5_truth_0 1 rfl rfl)
theorem dX5_truth_4 : decode cX5_truth 4 = .ok (.iconst 1, 1) := dk_4 (dk_at dksX5_truth_0 4 rfl rfl)
theorem dX5_truth_5 : decode cX5_truth 5 = .ok (.goto 4, 3) := dk_167 0 4 (dk_at dksX5_truth_0 5 rfl rfl)
theorem dX5_truth_8 : decode cX5_truth 8 = .ok (.iconst 0, 1) := dk_3 (dk_at dksX5_truth_0 8 rfl rfl)
theorem dX5_truth_9 : decode cX5_truth 9 = .ok (.ireturn, 1) := dk_172 (dk_at dksX5_truth_0 9 rfl rfl)
abbrev cX5_done : ByteArray := prog_17_method_33_code
def yX5_done : MethodName := ⟨RX5, "done", "(III)I"⟩
def dkwX5_done_6 : List UInt8 := [172, 27, 154, 0, 7, 28, 153, 0, 7, 4, 167, 0, 4, 3, 184, 1, 48, 172]
abbrev dktX5_done_6 : List UInt8 := dkwX5_done_6 ++ []
def dkwX5_done_5 : List UInt8 := [167, 0, 4, 3, 184, 1, 48, 172, 27, 153, 0, 11, 28, 153, 0, 7, 4, 167, 0, 4, 3, 184, 1, 48]
abbrev dktX5_done_5 : List UInt8 := dkwX5_done_5 ++ dktX5_done_6
def dkwX5_done_4 : List UInt8 := [184, 1, 48, 172, 27, 28, 164, 0, 7, 4, 167, 0, 4, 3, 184, 1, 48, 172, 27, 28, 160, 0, 7, 4]
abbrev dktX5_done_4 : List UInt8 := dkwX5_done_4 ++ dktX5_done_5
def dkwX5_done_3 : List UInt8 := [28, 154, 0, 7, 3, 167, 0, 6, 27, 28, 112, 172, 27, 28, 162, 0, 7, 4, 167, 0, 4, 3]
abbrev dktX5_done_3 : List UInt8 := dkwX5_done_3 ++ dktX5_done_4
def dkwX5_done_2 : List UInt8 := [27, 28, 96, 172, 27, 28, 100, 172, 27, 28, 104, 172, 28, 154, 0, 7, 3, 167, 0, 6, 27, 28, 108, 172]
abbrev dktX5_done_2 : List UInt8 := dkwX5_done_2 ++ dktX5_done_3
def dkwX5_done_1 : List UInt8 := [170, 0, 0, 0, 0, 0, 214, 0, 0, 0, 37, 0, 0, 0, 62, 0, 0, 0, 143, 0, 0, 0, 197, 0, 0, 0, 214, 0, 0, 0, 214, 0, 0, 0, 214, 0, 0, 0, 127, 0, 0, 0, 119, 0, 0, 0, 214, 0, 0, 0, 123, 0, 0, 0, 214, 0, 0, 0, 131, 0, 0, 0, 214, 0, 0, 0, 214, 0, 0, 0, 214, 0, 0, 0, 214, 0, 0, 0, 214, 0, 0, 0, 214, 0, 0, 0, 214, 0, 0, 0, 214, 0, 0, 0, 214, 0, 0, 0, 214, 0, 0, 0, 214, 0, 0, 0, 214, 0, 0, 0, 155, 0, 0, 0, 183, 0, 0, 0, 169]
abbrev dktX5_done_1 : List UInt8 := dkwX5_done_1 ++ dktX5_done_2
def dkwX5_done_0 : List UInt8 := [26]
abbrev dktX5_done_0 : List UInt8 := dkwX5_done_0 ++ dktX5_done_1
theorem dksX5_done_0 : cX5_done.data.toList.drop 0 = dktX5_done_0 := by decide +kernel
theorem dksX5_done_1 : cX5_done.data.toList.drop 1 = dktX5_done_1 := dk_seg dksX5_done_0 1 rfl rfl
theorem dksX5_done_2 : cX5_done.data.toList.drop 120 = dktX5_done_2 := dk_seg dksX5_done_1 119 rfl rfl
theorem dksX5_done_3 : cX5_done.data.toList.drop 144 = dktX5_done_3 := dk_seg dksX5_done_2 24 rfl rfl
theorem dksX5_done_4 : cX5_done.data.toList.drop 166 = dktX5_done_4 := dk_seg dksX5_done_3 22 rfl rfl
theorem dksX5_done_5 : cX5_done.data.toList.drop 190 = dktX5_done_5 := dk_seg dksX5_done_4 24 rfl rfl
theorem dksX5_done_6 : cX5_done.data.toList.drop 214 = dktX5_done_6 := dk_seg dksX5_done_5 24 rfl rfl
theorem dX5_done_0 : decode cX5_done 0 = .ok (.iload_n 0, 1) := dk_26 (dk_at dksX5_done_0 0 rfl rfl)
theorem dX5_done_1 : decode cX5_done 1 = .ok (.tableswitch 214 37 62 #[143, 197, 214, 214, 214, 127, 119, 214, 123, 214, 131, 214, 214, 214, 214, 214, 214, 214, 214, 214, 214, 214, 214, 155, 183, 169], 119) := by decide +kernel
theorem dX5_done_120 : decode cX5_done 120 = .ok (.iload_n 1, 1) := dk_27 (dk_at dksX5_done_2 0 rfl rfl)
theorem dX5_done_121 : decode cX5_done 121 = .ok (.iload_n 2, 1) := dk_28 (dk_at dksX5_done_2 1 rfl rfl)
theorem dX5_done_122 : decode cX5_done 122 = .ok (.iadd, 1) := dk_96 (dk_at dksX5_done_2 2 rfl rfl)
theorem dX5_done_123 : decode cX5_done 123 = .ok (.ireturn, 1) := dk_172 (dk_at dksX5_done_2 3 rfl rfl)
theorem dX5_done_124 : decode cX5_done 124 = .ok (.iload_n 1, 1) := dk_27 (dk_at dksX5_done_2 4 rfl rfl)
theorem dX5_done_125 : decode cX5_done 125 = .ok (.iload_n 2, 1) := dk_28 (dk_at dksX5_done_2 5 rfl rfl)
theorem dX5_done_126 : decode cX5_done 126 = .ok (.isub, 1) := dk_100 (dk_at dksX5_done_2 6 rfl rfl)
theorem dX5_done_127 : decode cX5_done 127 = .ok (.ireturn, 1) := dk_172 (dk_at dksX5_done_2 7 rfl rfl)
theorem dX5_done_128 : decode cX5_done 128 = .ok (.iload_n 1, 1) := dk_27 (dk_at dksX5_done_2 8 rfl rfl)
theorem dX5_done_129 : decode cX5_done 129 = .ok (.iload_n 2, 1) := dk_28 (dk_at dksX5_done_2 9 rfl rfl)
theorem dX5_done_130 : decode cX5_done 130 = .ok (.imul, 1) := dk_104 (dk_at dksX5_done_2 10 rfl rfl)
theorem dX5_done_131 : decode cX5_done 131 = .ok (.ireturn, 1) := dk_172 (dk_at dksX5_done_2 11 rfl rfl)
theorem dX5_done_132 : decode cX5_done 132 = .ok (.iload_n 2, 1) := dk_28 (dk_at dksX5_done_2 12 rfl rfl)
theorem dX5_done_133 : decode cX5_done 133 = .ok (.ifCond .ne 7, 3) := dk_154 0 7 (dk_at dksX5_done_2 13 rfl rfl)
theorem dX5_done_136 : decode cX5_done 136 = .ok (.iconst 0, 1) := dk_3 (dk_at dksX5_done_2 16 rfl rfl)
theorem dX5_done_137 : decode cX5_done 137 = .ok (.goto 6, 3) := dk_167 0 6 (dk_at dksX5_done_2 17 rfl rfl)
theorem dX5_done_140 : decode cX5_done 140 = .ok (.iload_n 1, 1) := dk_27 (dk_at dksX5_done_2 20 rfl rfl)
theorem dX5_done_141 : decode cX5_done 141 = .ok (.iload_n 2, 1) := dk_28 (dk_at dksX5_done_2 21 rfl rfl)
theorem dX5_done_142 : decode cX5_done 142 = .ok (.idiv, 1) := dk_108 (dk_at dksX5_done_2 22 rfl rfl)
theorem dX5_done_143 : decode cX5_done 143 = .ok (.ireturn, 1) := dk_172 (dk_at dksX5_done_2 23 rfl rfl)
theorem dX5_done_144 : decode cX5_done 144 = .ok (.iload_n 2, 1) := dk_28 (dk_at dksX5_done_3 0 rfl rfl)
theorem dX5_done_145 : decode cX5_done 145 = .ok (.ifCond .ne 7, 3) := dk_154 0 7 (dk_at dksX5_done_3 1 rfl rfl)
theorem dX5_done_148 : decode cX5_done 148 = .ok (.iconst 0, 1) := dk_3 (dk_at dksX5_done_3 4 rfl rfl)
theorem dX5_done_149 : decode cX5_done 149 = .ok (.goto 6, 3) := dk_167 0 6 (dk_at dksX5_done_3 5 rfl rfl)
theorem dX5_done_152 : decode cX5_done 152 = .ok (.iload_n 1, 1) := dk_27 (dk_at dksX5_done_3 8 rfl rfl)
theorem dX5_done_153 : decode cX5_done 153 = .ok (.iload_n 2, 1) := dk_28 (dk_at dksX5_done_3 9 rfl rfl)
theorem dX5_done_154 : decode cX5_done 154 = .ok (.irem, 1) := dk_112 (dk_at dksX5_done_3 10 rfl rfl)
theorem dX5_done_155 : decode cX5_done 155 = .ok (.ireturn, 1) := dk_172 (dk_at dksX5_done_3 11 rfl rfl)
theorem dX5_done_156 : decode cX5_done 156 = .ok (.iload_n 1, 1) := dk_27 (dk_at dksX5_done_3 12 rfl rfl)
theorem dX5_done_157 : decode cX5_done 157 = .ok (.iload_n 2, 1) := dk_28 (dk_at dksX5_done_3 13 rfl rfl)
theorem dX5_done_158 : decode cX5_done 158 = .ok (.if_icmp .ge 7, 3) := dk_162 0 7 (dk_at dksX5_done_3 14 rfl rfl)
theorem dX5_done_161 : decode cX5_done 161 = .ok (.iconst 1, 1) := dk_4 (dk_at dksX5_done_3 17 rfl rfl)
theorem dX5_done_162 : decode cX5_done 162 = .ok (.goto 4, 3) := dk_167 0 4 (dk_at dksX5_done_3 18 rfl rfl)
theorem dX5_done_165 : decode cX5_done 165 = .ok (.iconst 0, 1) := dk_3 (dk_at dksX5_done_3 21 rfl rfl)
theorem dX5_done_166 : decode cX5_done 166 = .ok (.invokestatic 304, 3) := dk_184 1 48 (dk_at dksX5_done_4 0 rfl rfl)
theorem dX5_done_169 : decode cX5_done 169 = .ok (.ireturn, 1) := dk_172 (dk_at dksX5_done_4 3 rfl rfl)
theorem dX5_done_170 : decode cX5_done 170 = .ok (.iload_n 1, 1) := dk_27 (dk_at dksX5_done_4 4 rfl rfl)
theorem dX5_done_171 : decode cX5_done 171 = .ok (.iload_n 2, 1) := dk_28 (dk_at dksX5_done_4 5 rfl rfl)
theorem dX5_done_172 : decode cX5_done 172 = .ok (.if_icmp .le 7, 3) := dk_164 0 7 (dk_at dksX5_done_4 6 rfl rfl)
theorem dX5_done_175 : decode cX5_done 175 = .ok (.iconst 1, 1) := dk_4 (dk_at dksX5_done_4 9 rfl rfl)
theorem dX5_done_176 : decode cX5_done 176 = .ok (.goto 4, 3) := dk_167 0 4 (dk_at dksX5_done_4 10 rfl rfl)
theorem dX5_done_179 : decode cX5_done 179 = .ok (.iconst 0, 1) := dk_3 (dk_at dksX5_done_4 13 rfl rfl)
theorem dX5_done_180 : decode cX5_done 180 = .ok (.invokestatic 304, 3) := dk_184 1 48 (dk_at dksX5_done_4 14 rfl rfl)
theorem dX5_done_183 : decode cX5_done 183 = .ok (.ireturn, 1) := dk_172 (dk_at dksX5_done_4 17 rfl rfl)
theorem dX5_done_184 : decode cX5_done 184 = .ok (.iload_n 1, 1) := dk_27 (dk_at dksX5_done_4 18 rfl rfl)
theorem dX5_done_185 : decode cX5_done 185 = .ok (.iload_n 2, 1) := dk_28 (dk_at dksX5_done_4 19 rfl rfl)
theorem dX5_done_186 : decode cX5_done 186 = .ok (.if_icmp .ne 7, 3) := dk_160 0 7 (dk_at dksX5_done_4 20 rfl rfl)
theorem dX5_done_189 : decode cX5_done 189 = .ok (.iconst 1, 1) := dk_4 (dk_at dksX5_done_4 23 rfl rfl)
theorem dX5_done_190 : decode cX5_done 190 = .ok (.goto 4, 3) := dk_167 0 4 (dk_at dksX5_done_5 0 rfl rfl)
theorem dX5_done_193 : decode cX5_done 193 = .ok (.iconst 0, 1) := dk_3 (dk_at dksX5_done_5 3 rfl rfl)
theorem dX5_done_194 : decode cX5_done 194 = .ok (.invokestatic 304, 3) := dk_184 1 48 (dk_at dksX5_done_5 4 rfl rfl)
theorem dX5_done_197 : decode cX5_done 197 = .ok (.ireturn, 1) := dk_172 (dk_at dksX5_done_5 7 rfl rfl)
theorem dX5_done_198 : decode cX5_done 198 = .ok (.iload_n 1, 1) := dk_27 (dk_at dksX5_done_5 8 rfl rfl)
theorem dX5_done_199 : decode cX5_done 199 = .ok (.ifCond .eq 11, 3) := dk_153 0 11 (dk_at dksX5_done_5 9 rfl rfl)
theorem dX5_done_202 : decode cX5_done 202 = .ok (.iload_n 2, 1) := dk_28 (dk_at dksX5_done_5 12 rfl rfl)
theorem dX5_done_203 : decode cX5_done 203 = .ok (.ifCond .eq 7, 3) := dk_153 0 7 (dk_at dksX5_done_5 13 rfl rfl)
theorem dX5_done_206 : decode cX5_done 206 = .ok (.iconst 1, 1) := dk_4 (dk_at dksX5_done_5 16 rfl rfl)
theorem dX5_done_207 : decode cX5_done 207 = .ok (.goto 4, 3) := dk_167 0 4 (dk_at dksX5_done_5 17 rfl rfl)
theorem dX5_done_210 : decode cX5_done 210 = .ok (.iconst 0, 1) := dk_3 (dk_at dksX5_done_5 20 rfl rfl)
theorem dX5_done_211 : decode cX5_done 211 = .ok (.invokestatic 304, 3) := dk_184 1 48 (dk_at dksX5_done_5 21 rfl rfl)
theorem dX5_done_214 : decode cX5_done 214 = .ok (.ireturn, 1) := dk_172 (dk_at dksX5_done_6 0 rfl rfl)
theorem dX5_done_215 : decode cX5_done 215 = .ok (.iload_n 1, 1) := dk_27 (dk_at dksX5_done_6 1 rfl rfl)
theorem dX5_done_216 : decode cX5_done 216 = .ok (.ifCond .ne 7, 3) := dk_154 0 7 (dk_at dksX5_done_6 2 rfl rfl)
theorem dX5_done_219 : decode cX5_done 219 = .ok (.iload_n 2, 1) := dk_28 (dk_at dksX5_done_6 5 rfl rfl)
theorem dX5_done_220 : decode cX5_done 220 = .ok (.ifCond .eq 7, 3) := dk_153 0 7 (dk_at dksX5_done_6 6 rfl rfl)
theorem dX5_done_223 : decode cX5_done 223 = .ok (.iconst 1, 1) := dk_4 (dk_at dksX5_done_6 9 rfl rfl)
theorem dX5_done_224 : decode cX5_done 224 = .ok (.goto 4, 3) := dk_167 0 4 (dk_at dksX5_done_6 10 rfl rfl)
theorem dX5_done_227 : decode cX5_done 227 = .ok (.iconst 0, 1) := dk_3 (dk_at dksX5_done_6 13 rfl rfl)
theorem dX5_done_228 : decode cX5_done 228 = .ok (.invokestatic 304, 3) := dk_184 1 48 (dk_at dksX5_done_6 14 rfl rfl)
theorem dX5_done_231 : decode cX5_done 231 = .ok (.ireturn, 1) := dk_172 (dk_at dksX5_done_6 17 rfl rfl)
abbrev cX5_within : ByteArray := prog_17_method_35_code
def yX5_within : MethodName := ⟨RX5, "within", "(II)I"⟩
def dkwX5_within_0 : List UInt8 := [26, 156, 0, 7, 3, 167, 0, 13, 26, 27, 164, 0, 7, 27, 167, 0, 4, 26, 172]
abbrev dktX5_within_0 : List UInt8 := dkwX5_within_0 ++ []
theorem dksX5_within_0 : cX5_within.data.toList.drop 0 = dktX5_within_0 := by decide +kernel
theorem dX5_within_0 : decode cX5_within 0 = .ok (.iload_n 0, 1) := dk_26 (dk_at dksX5_within_0 0 rfl rfl)
theorem dX5_within_1 : decode cX5_within 1 = .ok (.ifCond .ge 7, 3) := dk_156 0 7 (dk_at dksX5_within_0 1 rfl rfl)
theorem dX5_within_4 : decode cX5_within 4 = .ok (.iconst 0, 1) := dk_3 (dk_at dksX5_within_0 4 rfl rfl)
theorem dX5_within_5 : decode cX5_within 5 = .ok (.goto 13, 3) := dk_167 0 13 (dk_at dksX5_within_0 5 rfl rfl)
theorem dX5_within_8 : decode cX5_within 8 = .ok (.iload_n 0, 1) := dk_26 (dk_at dksX5_within_0 8 rfl rfl)
theorem dX5_within_9 : decode cX5_within 9 = .ok (.iload_n 1, 1) := dk_27 (dk_at dksX5_within_0 9 rfl rfl)
theorem dX5_within_10 : decode cX5_within 10 = .ok (.if_icmp .le 7, 3) := dk_164 0 7 (dk_at dksX5_within_0 10 rfl rfl)
theorem dX5_within_13 : decode cX5_within 13 = .ok (.iload_n 1, 1) := dk_27 (dk_at dksX5_within_0 13 rfl rfl)
theorem dX5_within_14 : decode cX5_within 14 = .ok (.goto 4, 3) := dk_167 0 4 (dk_at dksX5_within_0 14 rfl rfl)
theorem dX5_within_17 : decode cX5_within 17 = .ok (.iload_n 0, 1) := dk_26 (dk_at dksX5_within_0 17 rfl rfl)
theorem dX5_within_18 : decode cX5_within 18 = .ok (.ireturn, 1) := dk_172 (dk_at dksX5_within_0 18 rfl rfl)
abbrev cX5_climb : ByteArray := prog_17_method_60_code
def yX5_climb : MethodName := ⟨RX5, "climb", "(IIII)I"⟩
def dkwX5_climb_4 : List UInt8 := [172]
abbrev dktX5_climb_4 : List UInt8 := dkwX5_climb_4 ++ []
def dkwX5_climb_3 : List UInt8 := [28, 29, 21, 4, 182, 1, 148, 54, 5, 42, 27, 28, 29, 21, 5, 182, 1, 154, 42, 182, 1, 158, 21, 5]
abbrev dktX5_climb_3 : List UInt8 := dkwX5_climb_3 ++ dktX5_climb_4
def dkwX5_climb_2 : List UInt8 := [42, 180, 0, 88, 16, 27, 46, 16, 100, 112, 42, 180, 0, 79, 27, 46, 162, 0, 7, 3, 167, 0, 11, 42]
abbrev dktX5_climb_2 : List UInt8 := dkwX5_climb_2 ++ dktX5_climb_3
def dkwX5_climb_1 : List UInt8 := [180, 0, 88, 16, 27, 42, 180, 0, 88, 16, 27, 46, 17, 0, 137, 104, 16, 71, 96, 17, 3, 232, 112, 79]
abbrev dktX5_climb_1 : List UInt8 := dkwX5_climb_1 ++ dktX5_climb_2
def dkwX5_climb_0 : List UInt8 := [42, 182, 1, 138, 42, 27, 28, 29, 21, 4, 182, 1, 144, 154, 0, 5, 2, 172, 42, 182, 1, 151, 42]
abbrev dktX5_climb_0 : List UInt8 := dkwX5_climb_0 ++ dktX5_climb_1
theorem dksX5_climb_0 : cX5_climb.data.toList.drop 0 = dktX5_climb_0 := by decide +kernel
theorem dksX5_climb_1 : cX5_climb.data.toList.drop 23 = dktX5_climb_1 := dk_seg dksX5_climb_0 23 rfl rfl
theorem dksX5_climb_2 : cX5_climb.data.toList.drop 47 = dktX5_climb_2 := dk_seg dksX5_climb_1 24 rfl rfl
theorem dksX5_climb_3 : cX5_climb.data.toList.drop 71 = dktX5_climb_3 := dk_seg dksX5_climb_2 24 rfl rfl
theorem dksX5_climb_4 : cX5_climb.data.toList.drop 95 = dktX5_climb_4 := dk_seg dksX5_climb_3 24 rfl rfl
theorem dX5_climb_0 : decode cX5_climb 0 = .ok (.aload_n 0, 1) := dk_42 (dk_at dksX5_climb_0 0 rfl rfl)
theorem dX5_climb_1 : decode cX5_climb 1 = .ok (.invokevirtual 394, 3) := dk_182 1 138 (dk_at dksX5_climb_0 1 rfl rfl)
theorem dX5_climb_4 : decode cX5_climb 4 = .ok (.aload_n 0, 1) := dk_42 (dk_at dksX5_climb_0 4 rfl rfl)
theorem dX5_climb_5 : decode cX5_climb 5 = .ok (.iload_n 1, 1) := dk_27 (dk_at dksX5_climb_0 5 rfl rfl)
theorem dX5_climb_6 : decode cX5_climb 6 = .ok (.iload_n 2, 1) := dk_28 (dk_at dksX5_climb_0 6 rfl rfl)
theorem dX5_climb_7 : decode cX5_climb 7 = .ok (.iload_n 3, 1) := dk_29 (dk_at dksX5_climb_0 7 rfl rfl)
theorem dX5_climb_8 : decode cX5_climb 8 = .ok (.iload 4, 2) := dk_21 4 (dk_at dksX5_climb_0 8 rfl rfl)
theorem dX5_climb_10 : decode cX5_climb 10 = .ok (.invokevirtual 400, 3) := dk_182 1 144 (dk_at dksX5_climb_0 10 rfl rfl)
theorem dX5_climb_13 : decode cX5_climb 13 = .ok (.ifCond .ne 5, 3) := dk_154 0 5 (dk_at dksX5_climb_0 13 rfl rfl)
theorem dX5_climb_16 : decode cX5_climb 16 = .ok (.iconst (-1), 1) := dk_2 (dk_at dksX5_climb_0 16 rfl rfl)
theorem dX5_climb_17 : decode cX5_climb 17 = .ok (.ireturn, 1) := dk_172 (dk_at dksX5_climb_0 17 rfl rfl)
theorem dX5_climb_18 : decode cX5_climb 18 = .ok (.aload_n 0, 1) := dk_42 (dk_at dksX5_climb_0 18 rfl rfl)
theorem dX5_climb_19 : decode cX5_climb 19 = .ok (.invokevirtual 407, 3) := dk_182 1 151 (dk_at dksX5_climb_0 19 rfl rfl)
theorem dX5_climb_22 : decode cX5_climb 22 = .ok (.aload_n 0, 1) := dk_42 (dk_at dksX5_climb_0 22 rfl rfl)
theorem dX5_climb_23 : decode cX5_climb 23 = .ok (.getfield 88, 3) := dk_180 0 88 (dk_at dksX5_climb_1 0 rfl rfl)
theorem dX5_climb_26 : decode cX5_climb 26 = .ok (.bipush 27, 2) := dk_16 27 (dk_at dksX5_climb_1 3 rfl rfl)
theorem dX5_climb_28 : decode cX5_climb 28 = .ok (.aload_n 0, 1) := dk_42 (dk_at dksX5_climb_1 5 rfl rfl)
theorem dX5_climb_29 : decode cX5_climb 29 = .ok (.getfield 88, 3) := dk_180 0 88 (dk_at dksX5_climb_1 6 rfl rfl)
theorem dX5_climb_32 : decode cX5_climb 32 = .ok (.bipush 27, 2) := dk_16 27 (dk_at dksX5_climb_1 9 rfl rfl)
theorem dX5_climb_34 : decode cX5_climb 34 = .ok (.iaload, 1) := dk_46 (dk_at dksX5_climb_1 11 rfl rfl)
theorem dX5_climb_35 : decode cX5_climb 35 = .ok (.sipush 137, 3) := dk_17 0 137 (dk_at dksX5_climb_1 12 rfl rfl)
theorem dX5_climb_38 : decode cX5_climb 38 = .ok (.imul, 1) := dk_104 (dk_at dksX5_climb_1 15 rfl rfl)
theorem dX5_climb_39 : decode cX5_climb 39 = .ok (.bipush 71, 2) := dk_16 71 (dk_at dksX5_climb_1 16 rfl rfl)
theorem dX5_climb_41 : decode cX5_climb 41 = .ok (.iadd, 1) := dk_96 (dk_at dksX5_climb_1 18 rfl rfl)
theorem dX5_climb_42 : decode cX5_climb 42 = .ok (.sipush 1000, 3) := dk_17 3 232 (dk_at dksX5_climb_1 19 rfl rfl)
theorem dX5_climb_45 : decode cX5_climb 45 = .ok (.irem, 1) := dk_112 (dk_at dksX5_climb_1 22 rfl rfl)
theorem dX5_climb_46 : decode cX5_climb 46 = .ok (.iastore, 1) := dk_79 (dk_at dksX5_climb_1 23 rfl rfl)
theorem dX5_climb_47 : decode cX5_climb 47 = .ok (.aload_n 0, 1) := dk_42 (dk_at dksX5_climb_2 0 rfl rfl)
theorem dX5_climb_48 : decode cX5_climb 48 = .ok (.getfield 88, 3) := dk_180 0 88 (dk_at dksX5_climb_2 1 rfl rfl)
theorem dX5_climb_51 : decode cX5_climb 51 = .ok (.bipush 27, 2) := dk_16 27 (dk_at dksX5_climb_2 4 rfl rfl)
theorem dX5_climb_53 : decode cX5_climb 53 = .ok (.iaload, 1) := dk_46 (dk_at dksX5_climb_2 6 rfl rfl)
theorem dX5_climb_54 : decode cX5_climb 54 = .ok (.bipush 100, 2) := dk_16 100 (dk_at dksX5_climb_2 7 rfl rfl)
theorem dX5_climb_56 : decode cX5_climb 56 = .ok (.irem, 1) := dk_112 (dk_at dksX5_climb_2 9 rfl rfl)
theorem dX5_climb_57 : decode cX5_climb 57 = .ok (.aload_n 0, 1) := dk_42 (dk_at dksX5_climb_2 10 rfl rfl)
theorem dX5_climb_58 : decode cX5_climb 58 = .ok (.getfield 79, 3) := dk_180 0 79 (dk_at dksX5_climb_2 11 rfl rfl)
theorem dX5_climb_61 : decode cX5_climb 61 = .ok (.iload_n 1, 1) := dk_27 (dk_at dksX5_climb_2 14 rfl rfl)
theorem dX5_climb_62 : decode cX5_climb 62 = .ok (.iaload, 1) := dk_46 (dk_at dksX5_climb_2 15 rfl rfl)
theorem dX5_climb_63 : decode cX5_climb 63 = .ok (.if_icmp .ge 7, 3) := dk_162 0 7 (dk_at dksX5_climb_2 16 rfl rfl)
theorem dX5_climb_66 : decode cX5_climb 66 = .ok (.iconst 0, 1) := dk_3 (dk_at dksX5_climb_2 19 rfl rfl)
theorem dX5_climb_67 : decode cX5_climb 67 = .ok (.goto 11, 3) := dk_167 0 11 (dk_at dksX5_climb_2 20 rfl rfl)
theorem dX5_climb_70 : decode cX5_climb 70 = .ok (.aload_n 0, 1) := dk_42 (dk_at dksX5_climb_2 23 rfl rfl)
theorem dX5_climb_71 : decode cX5_climb 71 = .ok (.iload_n 2, 1) := dk_28 (dk_at dksX5_climb_3 0 rfl rfl)
theorem dX5_climb_72 : decode cX5_climb 72 = .ok (.iload_n 3, 1) := dk_29 (dk_at dksX5_climb_3 1 rfl rfl)
theorem dX5_climb_73 : decode cX5_climb 73 = .ok (.iload 4, 2) := dk_21 4 (dk_at dksX5_climb_3 2 rfl rfl)
theorem dX5_climb_75 : decode cX5_climb 75 = .ok (.invokevirtual 404, 3) := dk_182 1 148 (dk_at dksX5_climb_3 4 rfl rfl)
theorem dX5_climb_78 : decode cX5_climb 78 = .ok (.istore 5, 2) := dk_54 5 (dk_at dksX5_climb_3 7 rfl rfl)
theorem dX5_climb_80 : decode cX5_climb 80 = .ok (.aload_n 0, 1) := dk_42 (dk_at dksX5_climb_3 9 rfl rfl)
theorem dX5_climb_81 : decode cX5_climb 81 = .ok (.iload_n 1, 1) := dk_27 (dk_at dksX5_climb_3 10 rfl rfl)
theorem dX5_climb_82 : decode cX5_climb 82 = .ok (.iload_n 2, 1) := dk_28 (dk_at dksX5_climb_3 11 rfl rfl)
theorem dX5_climb_83 : decode cX5_climb 83 = .ok (.iload_n 3, 1) := dk_29 (dk_at dksX5_climb_3 12 rfl rfl)
theorem dX5_climb_84 : decode cX5_climb 84 = .ok (.iload 5, 2) := dk_21 5 (dk_at dksX5_climb_3 13 rfl rfl)
theorem dX5_climb_86 : decode cX5_climb 86 = .ok (.invokevirtual 410, 3) := dk_182 1 154 (dk_at dksX5_climb_3 15 rfl rfl)
theorem dX5_climb_89 : decode cX5_climb 89 = .ok (.aload_n 0, 1) := dk_42 (dk_at dksX5_climb_3 18 rfl rfl)
theorem dX5_climb_90 : decode cX5_climb 90 = .ok (.invokevirtual 414, 3) := dk_182 1 158 (dk_at dksX5_climb_3 19 rfl rfl)
theorem dX5_climb_93 : decode cX5_climb 93 = .ok (.iload 5, 2) := dk_21 5 (dk_at dksX5_climb_3 22 rfl rfl)
theorem dX5_climb_95 : decode cX5_climb 95 = .ok (.ireturn, 1) := dk_172 (dk_at dksX5_climb_4 0 rfl rfl)
abbrev cX5_act : ByteArray := prog_17_method_58_code
def yX5_act : MethodName := ⟨RX5, "act", "()V"⟩
def dkwX5_act_4 : List UInt8 := [3, 181, 1, 103, 177]
abbrev dktX5_act_4 : List UInt8 := dkwX5_act_4 ++ []
def dkwX5_act_3 : List UInt8 := [42, 180, 0, 85, 27, 46, 79, 132, 1, 1, 167, 255, 227, 42, 89, 180, 1, 100, 4, 96, 181, 1, 100, 42]
abbrev dktX5_act_3 : List UInt8 := dkwX5_act_3 ++ dktX5_act_4
def dkwX5_act_2 : List UInt8 := [181, 1, 100, 3, 60, 27, 16, 28, 162, 0, 29, 42, 180, 0, 91, 16, 28, 42, 180, 1, 100, 104, 27, 96]
abbrev dktX5_act_2 : List UInt8 := dkwX5_act_2 ++ dktX5_act_3
def dkwX5_act_1 : List UInt8 := [180, 0, 91, 16, 28, 27, 96, 46, 79, 132, 1, 1, 167, 255, 231, 42, 89, 180, 1, 100, 4, 100]
abbrev dktX5_act_1 : List UInt8 := dkwX5_act_1 ++ dktX5_act_2
def dkwX5_act_0 : List UInt8 := [42, 180, 1, 100, 16, 40, 160, 0, 43, 3, 60, 27, 17, 4, 68, 162, 0, 24, 42, 180, 0, 91, 27, 42]
abbrev dktX5_act_0 : List UInt8 := dkwX5_act_0 ++ dktX5_act_1
theorem dksX5_act_0 : cX5_act.data.toList.drop 0 = dktX5_act_0 := by decide +kernel
theorem dksX5_act_1 : cX5_act.data.toList.drop 24 = dktX5_act_1 := dk_seg dksX5_act_0 24 rfl rfl
theorem dksX5_act_2 : cX5_act.data.toList.drop 46 = dktX5_act_2 := dk_seg dksX5_act_1 22 rfl rfl
theorem dksX5_act_3 : cX5_act.data.toList.drop 70 = dktX5_act_3 := dk_seg dksX5_act_2 24 rfl rfl
theorem dksX5_act_4 : cX5_act.data.toList.drop 94 = dktX5_act_4 := dk_seg dksX5_act_3 24 rfl rfl
theorem dX5_act_0 : decode cX5_act 0 = .ok (.aload_n 0, 1) := dk_42 (dk_at dksX5_act_0 0 rfl rfl)
theorem dX5_act_1 : decode cX5_act 1 = .ok (.getfield 356, 3) := dk_180 1 100 (dk_at dksX5_act_0 1 rfl rfl)
theorem dX5_act_4 : decode cX5_act 4 = .ok (.bipush 40, 2) := dk_16 40 (dk_at dksX5_act_0 4 rfl rfl)
theorem dX5_act_6 : decode cX5_act 6 = .ok (.if_icmp .ne 43, 3) := dk_160 0 43 (dk_at dksX5_act_0 6 rfl rfl)
theorem dX5_act_9 : decode cX5_act 9 = .ok (.iconst 0, 1) := dk_3 (dk_at dksX5_act_0 9 rfl rfl)
theorem dX5_act_10 : decode cX5_act 10 = .ok (.istore_n 1, 1) := dk_60 (dk_at dksX5_act_0 10 rfl rfl)
theorem dX5_act_11 : decode cX5_act 11 = .ok (.iload_n 1, 1) := dk_27 (dk_at dksX5_act_0 11 rfl rfl)
theorem dX5_act_12 : decode cX5_act 12 = .ok (.sipush 1092, 3) := dk_17 4 68 (dk_at dksX5_act_0 12 rfl rfl)
theorem dX5_act_15 : decode cX5_act 15 = .ok (.if_icmp .ge 24, 3) := dk_162 0 24 (dk_at dksX5_act_0 15 rfl rfl)
theorem dX5_act_18 : decode cX5_act 18 = .ok (.aload_n 0, 1) := dk_42 (dk_at dksX5_act_0 18 rfl rfl)
theorem dX5_act_19 : decode cX5_act 19 = .ok (.getfield 91, 3) := dk_180 0 91 (dk_at dksX5_act_0 19 rfl rfl)
theorem dX5_act_22 : decode cX5_act 22 = .ok (.iload_n 1, 1) := dk_27 (dk_at dksX5_act_0 22 rfl rfl)
theorem dX5_act_23 : decode cX5_act 23 = .ok (.aload_n 0, 1) := dk_42 (dk_at dksX5_act_0 23 rfl rfl)
theorem dX5_act_24 : decode cX5_act 24 = .ok (.getfield 91, 3) := dk_180 0 91 (dk_at dksX5_act_1 0 rfl rfl)
theorem dX5_act_27 : decode cX5_act 27 = .ok (.bipush 28, 2) := dk_16 28 (dk_at dksX5_act_1 3 rfl rfl)
theorem dX5_act_29 : decode cX5_act 29 = .ok (.iload_n 1, 1) := dk_27 (dk_at dksX5_act_1 5 rfl rfl)
theorem dX5_act_30 : decode cX5_act 30 = .ok (.iadd, 1) := dk_96 (dk_at dksX5_act_1 6 rfl rfl)
theorem dX5_act_31 : decode cX5_act 31 = .ok (.iaload, 1) := dk_46 (dk_at dksX5_act_1 7 rfl rfl)
theorem dX5_act_32 : decode cX5_act 32 = .ok (.iastore, 1) := dk_79 (dk_at dksX5_act_1 8 rfl rfl)
theorem dX5_act_33 : decode cX5_act 33 = .ok (.iinc 1 1, 3) := dk_132 1 1 (dk_at dksX5_act_1 9 rfl rfl)
theorem dX5_act_36 : decode cX5_act 36 = .ok (.goto (-25), 3) := dk_167 255 231 (dk_at dksX5_act_1 12 rfl rfl)
theorem dX5_act_39 : decode cX5_act 39 = .ok (.aload_n 0, 1) := dk_42 (dk_at dksX5_act_1 15 rfl rfl)
theorem dX5_act_40 : decode cX5_act 40 = .ok (.dup, 1) := dk_89 (dk_at dksX5_act_1 16 rfl rfl)
theorem dX5_act_41 : decode cX5_act 41 = .ok (.getfield 356, 3) := dk_180 1 100 (dk_at dksX5_act_1 17 rfl rfl)
theorem dX5_act_44 : decode cX5_act 44 = .ok (.iconst 1, 1) := dk_4 (dk_at dksX5_act_1 20 rfl rfl)
theorem dX5_act_45 : decode cX5_act 45 = .ok (.isub, 1) := dk_100 (dk_at dksX5_act_1 21 rfl rfl)
theorem dX5_act_46 : decode cX5_act 46 = .ok (.putfield 356, 3) := dk_181 1 100 (dk_at dksX5_act_2 0 rfl rfl)
theorem dX5_act_49 : decode cX5_act 49 = .ok (.iconst 0, 1) := dk_3 (dk_at dksX5_act_2 3 rfl rfl)
theorem dX5_act_50 : decode cX5_act 50 = .ok (.istore_n 1, 1) := dk_60 (dk_at dksX5_act_2 4 rfl rfl)
theorem dX5_act_51 : decode cX5_act 51 = .ok (.iload_n 1, 1) := dk_27 (dk_at dksX5_act_2 5 rfl rfl)
theorem dX5_act_52 : decode cX5_act 52 = .ok (.bipush 28, 2) := dk_16 28 (dk_at dksX5_act_2 6 rfl rfl)
theorem dX5_act_54 : decode cX5_act 54 = .ok (.if_icmp .ge 29, 3) := dk_162 0 29 (dk_at dksX5_act_2 8 rfl rfl)
theorem dX5_act_57 : decode cX5_act 57 = .ok (.aload_n 0, 1) := dk_42 (dk_at dksX5_act_2 11 rfl rfl)
theorem dX5_act_58 : decode cX5_act 58 = .ok (.getfield 91, 3) := dk_180 0 91 (dk_at dksX5_act_2 12 rfl rfl)
theorem dX5_act_61 : decode cX5_act 61 = .ok (.bipush 28, 2) := dk_16 28 (dk_at dksX5_act_2 15 rfl rfl)
theorem dX5_act_63 : decode cX5_act 63 = .ok (.aload_n 0, 1) := dk_42 (dk_at dksX5_act_2 17 rfl rfl)
theorem dX5_act_64 : decode cX5_act 64 = .ok (.getfield 356, 3) := dk_180 1 100 (dk_at dksX5_act_2 18 rfl rfl)
theorem dX5_act_67 : decode cX5_act 67 = .ok (.imul, 1) := dk_104 (dk_at dksX5_act_2 21 rfl rfl)
theorem dX5_act_68 : decode cX5_act 68 = .ok (.iload_n 1, 1) := dk_27 (dk_at dksX5_act_2 22 rfl rfl)
theorem dX5_act_69 : decode cX5_act 69 = .ok (.iadd, 1) := dk_96 (dk_at dksX5_act_2 23 rfl rfl)
theorem dX5_act_70 : decode cX5_act 70 = .ok (.aload_n 0, 1) := dk_42 (dk_at dksX5_act_3 0 rfl rfl)
theorem dX5_act_71 : decode cX5_act 71 = .ok (.getfield 85, 3) := dk_180 0 85 (dk_at dksX5_act_3 1 rfl rfl)
theorem dX5_act_74 : decode cX5_act 74 = .ok (.iload_n 1, 1) := dk_27 (dk_at dksX5_act_3 4 rfl rfl)
theorem dX5_act_75 : decode cX5_act 75 = .ok (.iaload, 1) := dk_46 (dk_at dksX5_act_3 5 rfl rfl)
theorem dX5_act_76 : decode cX5_act 76 = .ok (.iastore, 1) := dk_79 (dk_at dksX5_act_3 6 rfl rfl)
theorem dX5_act_77 : decode cX5_act 77 = .ok (.iinc 1 1, 3) := dk_132 1 1 (dk_at dksX5_act_3 7 rfl rfl)
theorem dX5_act_80 : decode cX5_act 80 = .ok (.goto (-29), 3) := dk_167 255 227 (dk_at dksX5_act_3 10 rfl rfl)
theorem dX5_act_83 : decode cX5_act 83 = .ok (.aload_n 0, 1) := dk_42 (dk_at dksX5_act_3 13 rfl rfl)
theorem dX5_act_84 : decode cX5_act 84 = .ok (.dup, 1) := dk_89 (dk_at dksX5_act_3 14 rfl rfl)
theorem dX5_act_85 : decode cX5_act 85 = .ok (.getfield 356, 3) := dk_180 1 100 (dk_at dksX5_act_3 15 rfl rfl)
theorem dX5_act_88 : decode cX5_act 88 = .ok (.iconst 1, 1) := dk_4 (dk_at dksX5_act_3 18 rfl rfl)
theorem dX5_act_89 : decode cX5_act 89 = .ok (.iadd, 1) := dk_96 (dk_at dksX5_act_3 19 rfl rfl)
theorem dX5_act_90 : decode cX5_act 90 = .ok (.putfield 356, 3) := dk_181 1 100 (dk_at dksX5_act_3 20 rfl rfl)
theorem dX5_act_93 : decode cX5_act 93 = .ok (.aload_n 0, 1) := dk_42 (dk_at dksX5_act_3 23 rfl rfl)
theorem dX5_act_94 : decode cX5_act 94 = .ok (.iconst 0, 1) := dk_3 (dk_at dksX5_act_4 0 rfl rfl)
theorem dX5_act_95 : decode cX5_act 95 = .ok (.putfield 359, 3) := dk_181 1 103 (dk_at dksX5_act_4 1 rfl rfl)
theorem dX5_act_98 : decode cX5_act 98 = .ok (.return_, 1) := dk_177 (dk_at dksX5_act_4 4 rfl rfl)
abbrev cX5_goClimb : ByteArray := prog_17_method_52_code
def yX5_goClimb : MethodName := ⟨RX5, "goClimb", "(IIII)V"⟩
def dkwX5_goClimb_2 : List UInt8 := [16, 24, 92, 46, 28, 96, 79, 177]
abbrev dktX5_goClimb_2 : List UInt8 := dkwX5_goClimb_2 ++ []
def dkwX5_goClimb_1 : List UInt8 := [184, 1, 123, 79, 42, 180, 0, 88, 27, 92, 46, 42, 28, 29, 182, 1, 129, 100, 79, 42, 180, 0, 88]
abbrev dktX5_goClimb_1 : List UInt8 := dkwX5_goClimb_1 ++ dktX5_goClimb_2
def dkwX5_goClimb_0 : List UInt8 := [42, 180, 0, 88, 16, 8, 27, 96, 42, 180, 0, 88, 16, 8, 27, 96, 46, 21, 4, 96, 17, 39, 15]
abbrev dktX5_goClimb_0 : List UInt8 := dkwX5_goClimb_0 ++ dktX5_goClimb_1
theorem dksX5_goClimb_0 : cX5_goClimb.data.toList.drop 0 = dktX5_goClimb_0 := by decide +kernel
theorem dksX5_goClimb_1 : cX5_goClimb.data.toList.drop 23 = dktX5_goClimb_1 := dk_seg dksX5_goClimb_0 23 rfl rfl
theorem dksX5_goClimb_2 : cX5_goClimb.data.toList.drop 46 = dktX5_goClimb_2 := dk_seg dksX5_goClimb_1 23 rfl rfl
theorem dX5_goClimb_0 : decode cX5_goClimb 0 = .ok (.aload_n 0, 1) := dk_42 (dk_at dksX5_goClimb_0 0 rfl rfl)
theorem dX5_goClimb_1 : decode cX5_goClimb 1 = .ok (.getfield 88, 3) := dk_180 0 88 (dk_at dksX5_goClimb_0 1 rfl rfl)
theorem dX5_goClimb_4 : decode cX5_goClimb 4 = .ok (.bipush 8, 2) := dk_16 8 (dk_at dksX5_goClimb_0 4 rfl rfl)
theorem dX5_goClimb_6 : decode cX5_goClimb 6 = .ok (.iload_n 1, 1) := dk_27 (dk_at dksX5_goClimb_0 6 rfl rfl)
theorem dX5_goClimb_7 : decode cX5_goClimb 7 = .ok (.iadd, 1) := dk_96 (dk_at dksX5_goClimb_0 7 rfl rfl)
theorem dX5_goClimb_8 : decode cX5_goClimb 8 = .ok (.aload_n 0, 1) := dk_42 (dk_at dksX5_goClimb_0 8 rfl rfl)
theorem dX5_goClimb_9 : decode cX5_goClimb 9 = .ok (.getfield 88, 3) := dk_180 0 88 (dk_at dksX5_goClimb_0 9 rfl rfl)
theorem dX5_goClimb_12 : decode cX5_goClimb 12 = .ok (.bipush 8, 2) := dk_16 8 (dk_at dksX5_goClimb_0 12 rfl rfl)
theorem dX5_goClimb_14 : decode cX5_goClimb 14 = .ok (.iload_n 1, 1) := dk_27 (dk_at dksX5_goClimb_0 14 rfl rfl)
theorem dX5_goClimb_15 : decode cX5_goClimb 15 = .ok (.iadd, 1) := dk_96 (dk_at dksX5_goClimb_0 15 rfl rfl)
theorem dX5_goClimb_16 : decode cX5_goClimb 16 = .ok (.iaload, 1) := dk_46 (dk_at dksX5_goClimb_0 16 rfl rfl)
theorem dX5_goClimb_17 : decode cX5_goClimb 17 = .ok (.iload 4, 2) := dk_21 4 (dk_at dksX5_goClimb_0 17 rfl rfl)
theorem dX5_goClimb_19 : decode cX5_goClimb 19 = .ok (.iadd, 1) := dk_96 (dk_at dksX5_goClimb_0 19 rfl rfl)
theorem dX5_goClimb_20 : decode cX5_goClimb 20 = .ok (.sipush 9999, 3) := dk_17 39 15 (dk_at dksX5_goClimb_0 20 rfl rfl)
theorem dX5_goClimb_23 : decode cX5_goClimb 23 = .ok (.invokestatic 379, 3) := dk_184 1 123 (dk_at dksX5_goClimb_1 0 rfl rfl)
theorem dX5_goClimb_26 : decode cX5_goClimb 26 = .ok (.iastore, 1) := dk_79 (dk_at dksX5_goClimb_1 3 rfl rfl)
theorem dX5_goClimb_27 : decode cX5_goClimb 27 = .ok (.aload_n 0, 1) := dk_42 (dk_at dksX5_goClimb_1 4 rfl rfl)
theorem dX5_goClimb_28 : decode cX5_goClimb 28 = .ok (.getfield 88, 3) := dk_180 0 88 (dk_at dksX5_goClimb_1 5 rfl rfl)
theorem dX5_goClimb_31 : decode cX5_goClimb 31 = .ok (.iload_n 1, 1) := dk_27 (dk_at dksX5_goClimb_1 8 rfl rfl)
theorem dX5_goClimb_32 : decode cX5_goClimb 32 = .ok (.dup2, 1) := dk_92 (dk_at dksX5_goClimb_1 9 rfl rfl)
theorem dX5_goClimb_33 : decode cX5_goClimb 33 = .ok (.iaload, 1) := dk_46 (dk_at dksX5_goClimb_1 10 rfl rfl)
theorem dX5_goClimb_34 : decode cX5_goClimb 34 = .ok (.aload_n 0, 1) := dk_42 (dk_at dksX5_goClimb_1 11 rfl rfl)
theorem dX5_goClimb_35 : decode cX5_goClimb 35 = .ok (.iload_n 2, 1) := dk_28 (dk_at dksX5_goClimb_1 12 rfl rfl)
theorem dX5_goClimb_36 : decode cX5_goClimb 36 = .ok (.iload_n 3, 1) := dk_29 (dk_at dksX5_goClimb_1 13 rfl rfl)
theorem dX5_goClimb_37 : decode cX5_goClimb 37 = .ok (.invokevirtual 385, 3) := dk_182 1 129 (dk_at dksX5_goClimb_1 14 rfl rfl)
theorem dX5_goClimb_40 : decode cX5_goClimb 40 = .ok (.isub, 1) := dk_100 (dk_at dksX5_goClimb_1 17 rfl rfl)
theorem dX5_goClimb_41 : decode cX5_goClimb 41 = .ok (.iastore, 1) := dk_79 (dk_at dksX5_goClimb_1 18 rfl rfl)
theorem dX5_goClimb_42 : decode cX5_goClimb 42 = .ok (.aload_n 0, 1) := dk_42 (dk_at dksX5_goClimb_1 19 rfl rfl)
theorem dX5_goClimb_43 : decode cX5_goClimb 43 = .ok (.getfield 88, 3) := dk_180 0 88 (dk_at dksX5_goClimb_1 20 rfl rfl)
theorem dX5_goClimb_46 : decode cX5_goClimb 46 = .ok (.bipush 24, 2) := dk_16 24 (dk_at dksX5_goClimb_2 0 rfl rfl)
theorem dX5_goClimb_48 : decode cX5_goClimb 48 = .ok (.dup2, 1) := dk_92 (dk_at dksX5_goClimb_2 2 rfl rfl)
theorem dX5_goClimb_49 : decode cX5_goClimb 49 = .ok (.iaload, 1) := dk_46 (dk_at dksX5_goClimb_2 3 rfl rfl)
theorem dX5_goClimb_50 : decode cX5_goClimb 50 = .ok (.iload_n 2, 1) := dk_28 (dk_at dksX5_goClimb_2 4 rfl rfl)
theorem dX5_goClimb_51 : decode cX5_goClimb 51 = .ok (.iadd, 1) := dk_96 (dk_at dksX5_goClimb_2 5 rfl rfl)
theorem dX5_goClimb_52 : decode cX5_goClimb 52 = .ok (.iastore, 1) := dk_79 (dk_at dksX5_goClimb_2 6 rfl rfl)
theorem dX5_goClimb_53 : decode cX5_goClimb 53 = .ok (.return_, 1) := dk_177 (dk_at dksX5_goClimb_2 7 rfl rfl)
abbrev cX5_keepAir : ByteArray := prog_17_method_46_code
def yX5_keepAir : MethodName := ⟨RX5, "keepAir", "()V"⟩
def dkwX5_keepAir_1 : List UInt8 := [167, 255, 235, 177]
abbrev dktX5_keepAir_1 : List UInt8 := dkwX5_keepAir_1 ++ []
def dkwX5_keepAir_0 : List UInt8 := [3, 60, 27, 16, 28, 162, 0, 21, 42, 180, 0, 85, 27, 42, 180, 0, 88, 27, 46, 79, 132, 1, 1]
abbrev dktX5_keepAir_0 : List UInt8 := dkwX5_keepAir_0 ++ dktX5_keepAir_1
theorem dksX5_keepAir_0 : cX5_keepAir.data.toList.drop 0 = dktX5_keepAir_0 := by decide +kernel
theorem dksX5_keepAir_1 : cX5_keepAir.data.toList.drop 23 = dktX5_keepAir_1 := dk_seg dksX5_keepAir_0 23 rfl rfl
theorem dX5_keepAir_0 : decode cX5_keepAir 0 = .ok (.iconst 0, 1) := dk_3 (dk_at dksX5_keepAir_0 0 rfl rfl)
theorem dX5_keepAir_1 : decode cX5_keepAir 1 = .ok (.istore_n 1, 1) := dk_60 (dk_at dksX5_keepAir_0 1 rfl rfl)
theorem dX5_keepAir_2 : decode cX5_keepAir 2 = .ok (.iload_n 1, 1) := dk_27 (dk_at dksX5_keepAir_0 2 rfl rfl)
theorem dX5_keepAir_3 : decode cX5_keepAir 3 = .ok (.bipush 28, 2) := dk_16 28 (dk_at dksX5_keepAir_0 3 rfl rfl)
theorem dX5_keepAir_5 : decode cX5_keepAir 5 = .ok (.if_icmp .ge 21, 3) := dk_162 0 21 (dk_at dksX5_keepAir_0 5 rfl rfl)
theorem dX5_keepAir_8 : decode cX5_keepAir 8 = .ok (.aload_n 0, 1) := dk_42 (dk_at dksX5_keepAir_0 8 rfl rfl)
theorem dX5_keepAir_9 : decode cX5_keepAir 9 = .ok (.getfield 85, 3) := dk_180 0 85 (dk_at dksX5_keepAir_0 9 rfl rfl)
theorem dX5_keepAir_12 : decode cX5_keepAir 12 = .ok (.iload_n 1, 1) := dk_27 (dk_at dksX5_keepAir_0 12 rfl rfl)
theorem dX5_keepAir_13 : decode cX5_keepAir 13 = .ok (.aload_n 0, 1) := dk_42 (dk_at dksX5_keepAir_0 13 rfl rfl)
theorem dX5_keepAir_14 : decode cX5_keepAir 14 = .ok (.getfield 88, 3) := dk_180 0 88 (dk_at dksX5_keepAir_0 14 rfl rfl)
theorem dX5_keepAir_17 : decode cX5_keepAir 17 = .ok (.iload_n 1, 1) := dk_27 (dk_at dksX5_keepAir_0 17 rfl rfl)
theorem dX5_keepAir_18 : decode cX5_keepAir 18 = .ok (.iaload, 1) := dk_46 (dk_at dksX5_keepAir_0 18 rfl rfl)
theorem dX5_keepAir_19 : decode cX5_keepAir 19 = .ok (.iastore, 1) := dk_79 (dk_at dksX5_keepAir_0 19 rfl rfl)
theorem dX5_keepAir_20 : decode cX5_keepAir 20 = .ok (.iinc 1 1, 3) := dk_132 1 1 (dk_at dksX5_keepAir_0 20 rfl rfl)
theorem dX5_keepAir_23 : decode cX5_keepAir 23 = .ok (.goto (-21), 3) := dk_167 255 235 (dk_at dksX5_keepAir_1 0 rfl rfl)
theorem dX5_keepAir_26 : decode cX5_keepAir 26 = .ok (.return_, 1) := dk_177 (dk_at dksX5_keepAir_1 3 rfl rfl)
abbrev cX5_give : ByteArray := prog_17_method_61_code
def yX5_give : MethodName := ⟨RX5, "give", "(III)I"⟩
def dkwX5_give_4 : List UInt8 := [172]
abbrev dktX5_give_4 : List UInt8 := dkwX5_give_4 ++ []
def dkwX5_give_3 : List UInt8 := [100, 79, 42, 180, 0, 85, 16, 8, 28, 96, 92, 46, 29, 96, 79, 42, 180, 0, 85, 16, 8, 28, 96, 46]
abbrev dktX5_give_3 : List UInt8 := dkwX5_give_3 ++ dktX5_give_4
def dkwX5_give_2 : List UInt8 := [96, 17, 39, 15, 164, 0, 5, 2, 172, 42, 182, 1, 151, 42, 180, 0, 85, 16, 8, 27, 96, 92, 46, 29]
abbrev dktX5_give_2 : List UInt8 := dkwX5_give_2 ++ dktX5_give_3
def dkwX5_give_1 : List UInt8 := [180, 0, 85, 16, 8, 27, 96, 46, 184, 1, 112, 153, 0, 20, 42, 180, 0, 85, 16, 8, 28, 96, 46, 29]
abbrev dktX5_give_1 : List UInt8 := dkwX5_give_1 ++ dktX5_give_2
def dkwX5_give_0 : List UInt8 := [42, 27, 182, 1, 126, 153, 0, 50, 42, 28, 182, 1, 126, 153, 0, 42, 27, 28, 159, 0, 37, 29, 4, 42]
abbrev dktX5_give_0 : List UInt8 := dkwX5_give_0 ++ dktX5_give_1
theorem dksX5_give_0 : cX5_give.data.toList.drop 0 = dktX5_give_0 := by decide +kernel
theorem dksX5_give_1 : cX5_give.data.toList.drop 24 = dktX5_give_1 := dk_seg dksX5_give_0 24 rfl rfl
theorem dksX5_give_2 : cX5_give.data.toList.drop 48 = dktX5_give_2 := dk_seg dksX5_give_1 24 rfl rfl
theorem dksX5_give_3 : cX5_give.data.toList.drop 72 = dktX5_give_3 := dk_seg dksX5_give_2 24 rfl rfl
theorem dksX5_give_4 : cX5_give.data.toList.drop 96 = dktX5_give_4 := dk_seg dksX5_give_3 24 rfl rfl
theorem dX5_give_0 : decode cX5_give 0 = .ok (.aload_n 0, 1) := dk_42 (dk_at dksX5_give_0 0 rfl rfl)
theorem dX5_give_1 : decode cX5_give 1 = .ok (.iload_n 1, 1) := dk_27 (dk_at dksX5_give_0 1 rfl rfl)
theorem dX5_give_2 : decode cX5_give 2 = .ok (.invokevirtual 382, 3) := dk_182 1 126 (dk_at dksX5_give_0 2 rfl rfl)
theorem dX5_give_5 : decode cX5_give 5 = .ok (.ifCond .eq 50, 3) := dk_153 0 50 (dk_at dksX5_give_0 5 rfl rfl)
theorem dX5_give_8 : decode cX5_give 8 = .ok (.aload_n 0, 1) := dk_42 (dk_at dksX5_give_0 8 rfl rfl)
theorem dX5_give_9 : decode cX5_give 9 = .ok (.iload_n 2, 1) := dk_28 (dk_at dksX5_give_0 9 rfl rfl)
theorem dX5_give_10 : decode cX5_give 10 = .ok (.invokevirtual 382, 3) := dk_182 1 126 (dk_at dksX5_give_0 10 rfl rfl)
theorem dX5_give_13 : decode cX5_give 13 = .ok (.ifCond .eq 42, 3) := dk_153 0 42 (dk_at dksX5_give_0 13 rfl rfl)
theorem dX5_give_16 : decode cX5_give 16 = .ok (.iload_n 1, 1) := dk_27 (dk_at dksX5_give_0 16 rfl rfl)
theorem dX5_give_17 : decode cX5_give 17 = .ok (.iload_n 2, 1) := dk_28 (dk_at dksX5_give_0 17 rfl rfl)
theorem dX5_give_18 : decode cX5_give 18 = .ok (.if_icmp .eq 37, 3) := dk_159 0 37 (dk_at dksX5_give_0 18 rfl rfl)
theorem dX5_give_21 : decode cX5_give 21 = .ok (.iload_n 3, 1) := dk_29 (dk_at dksX5_give_0 21 rfl rfl)
theorem dX5_give_22 : decode cX5_give 22 = .ok (.iconst 1, 1) := dk_4 (dk_at dksX5_give_0 22 rfl rfl)
theorem dX5_give_23 : decode cX5_give 23 = .ok (.aload_n 0, 1) := dk_42 (dk_at dksX5_give_0 23 rfl rfl)
theorem dX5_give_24 : decode cX5_give 24 = .ok (.getfield 85, 3) := dk_180 0 85 (dk_at dksX5_give_1 0 rfl rfl)
theorem dX5_give_27 : decode cX5_give 27 = .ok (.bipush 8, 2) := dk_16 8 (dk_at dksX5_give_1 3 rfl rfl)
theorem dX5_give_29 : decode cX5_give 29 = .ok (.iload_n 1, 1) := dk_27 (dk_at dksX5_give_1 5 rfl rfl)
theorem dX5_give_30 : decode cX5_give 30 = .ok (.iadd, 1) := dk_96 (dk_at dksX5_give_1 6 rfl rfl)
theorem dX5_give_31 : decode cX5_give 31 = .ok (.iaload, 1) := dk_46 (dk_at dksX5_give_1 7 rfl rfl)
theorem dX5_give_32 : decode cX5_give 32 = .ok (.invokestatic 368, 3) := dk_184 1 112 (dk_at dksX5_give_1 8 rfl rfl)
theorem dX5_give_35 : decode cX5_give 35 = .ok (.ifCond .eq 20, 3) := dk_153 0 20 (dk_at dksX5_give_1 11 rfl rfl)
theorem dX5_give_38 : decode cX5_give 38 = .ok (.aload_n 0, 1) := dk_42 (dk_at dksX5_give_1 14 rfl rfl)
theorem dX5_give_39 : decode cX5_give 39 = .ok (.getfield 85, 3) := dk_180 0 85 (dk_at dksX5_give_1 15 rfl rfl)
theorem dX5_give_42 : decode cX5_give 42 = .ok (.bipush 8, 2) := dk_16 8 (dk_at dksX5_give_1 18 rfl rfl)
theorem dX5_give_44 : decode cX5_give 44 = .ok (.iload_n 2, 1) := dk_28 (dk_at dksX5_give_1 20 rfl rfl)
theorem dX5_give_45 : decode cX5_give 45 = .ok (.iadd, 1) := dk_96 (dk_at dksX5_give_1 21 rfl rfl)
theorem dX5_give_46 : decode cX5_give 46 = .ok (.iaload, 1) := dk_46 (dk_at dksX5_give_1 22 rfl rfl)
theorem dX5_give_47 : decode cX5_give 47 = .ok (.iload_n 3, 1) := dk_29 (dk_at dksX5_give_1 23 rfl rfl)
theorem dX5_give_48 : decode cX5_give 48 = .ok (.iadd, 1) := dk_96 (dk_at dksX5_give_2 0 rfl rfl)
theorem dX5_give_49 : decode cX5_give 49 = .ok (.sipush 9999, 3) := dk_17 39 15 (dk_at dksX5_give_2 1 rfl rfl)
theorem dX5_give_52 : decode cX5_give 52 = .ok (.if_icmp .le 5, 3) := dk_164 0 5 (dk_at dksX5_give_2 4 rfl rfl)
theorem dX5_give_55 : decode cX5_give 55 = .ok (.iconst (-1), 1) := dk_2 (dk_at dksX5_give_2 7 rfl rfl)
theorem dX5_give_56 : decode cX5_give 56 = .ok (.ireturn, 1) := dk_172 (dk_at dksX5_give_2 8 rfl rfl)
theorem dX5_give_57 : decode cX5_give 57 = .ok (.aload_n 0, 1) := dk_42 (dk_at dksX5_give_2 9 rfl rfl)
theorem dX5_give_58 : decode cX5_give 58 = .ok (.invokevirtual 407, 3) := dk_182 1 151 (dk_at dksX5_give_2 10 rfl rfl)
theorem dX5_give_61 : decode cX5_give 61 = .ok (.aload_n 0, 1) := dk_42 (dk_at dksX5_give_2 13 rfl rfl)
theorem dX5_give_62 : decode cX5_give 62 = .ok (.getfield 85, 3) := dk_180 0 85 (dk_at dksX5_give_2 14 rfl rfl)
theorem dX5_give_65 : decode cX5_give 65 = .ok (.bipush 8, 2) := dk_16 8 (dk_at dksX5_give_2 17 rfl rfl)
theorem dX5_give_67 : decode cX5_give 67 = .ok (.iload_n 1, 1) := dk_27 (dk_at dksX5_give_2 19 rfl rfl)
theorem dX5_give_68 : decode cX5_give 68 = .ok (.iadd, 1) := dk_96 (dk_at dksX5_give_2 20 rfl rfl)
theorem dX5_give_69 : decode cX5_give 69 = .ok (.dup2, 1) := dk_92 (dk_at dksX5_give_2 21 rfl rfl)
theorem dX5_give_70 : decode cX5_give 70 = .ok (.iaload, 1) := dk_46 (dk_at dksX5_give_2 22 rfl rfl)
theorem dX5_give_71 : decode cX5_give 71 = .ok (.iload_n 3, 1) := dk_29 (dk_at dksX5_give_2 23 rfl rfl)
theorem dX5_give_72 : decode cX5_give 72 = .ok (.isub, 1) := dk_100 (dk_at dksX5_give_3 0 rfl rfl)
theorem dX5_give_73 : decode cX5_give 73 = .ok (.iastore, 1) := dk_79 (dk_at dksX5_give_3 1 rfl rfl)
theorem dX5_give_74 : decode cX5_give 74 = .ok (.aload_n 0, 1) := dk_42 (dk_at dksX5_give_3 2 rfl rfl)
theorem dX5_give_75 : decode cX5_give 75 = .ok (.getfield 85, 3) := dk_180 0 85 (dk_at dksX5_give_3 3 rfl rfl)
theorem dX5_give_78 : decode cX5_give 78 = .ok (.bipush 8, 2) := dk_16 8 (dk_at dksX5_give_3 6 rfl rfl)
theorem dX5_give_80 : decode cX5_give 80 = .ok (.iload_n 2, 1) := dk_28 (dk_at dksX5_give_3 8 rfl rfl)
theorem dX5_give_81 : decode cX5_give 81 = .ok (.iadd, 1) := dk_96 (dk_at dksX5_give_3 9 rfl rfl)
theorem dX5_give_82 : decode cX5_give 82 = .ok (.dup2, 1) := dk_92 (dk_at dksX5_give_3 10 rfl rfl)
theorem dX5_give_83 : decode cX5_give 83 = .ok (.iaload, 1) := dk_46 (dk_at dksX5_give_3 11 rfl rfl)
theorem dX5_give_84 : decode cX5_give 84 = .ok (.iload_n 3, 1) := dk_29 (dk_at dksX5_give_3 12 rfl rfl)
theorem dX5_give_85 : decode cX5_give 85 = .ok (.iadd, 1) := dk_96 (dk_at dksX5_give_3 13 rfl rfl)
theorem dX5_give_86 : decode cX5_give 86 = .ok (.iastore, 1) := dk_79 (dk_at dksX5_give_3 14 rfl rfl)
theorem dX5_give_87 : decode cX5_give 87 = .ok (.aload_n 0, 1) := dk_42 (dk_at dksX5_give_3 15 rfl rfl)
theorem dX5_give_88 : decode cX5_give 88 = .ok (.getfield 85, 3) := dk_180 0 85 (dk_at dksX5_give_3 16 rfl rfl)
theorem dX5_give_91 : decode cX5_give 91 = .ok (.bipush 8, 2) := dk_16 8 (dk_at dksX5_give_3 19 rfl rfl)
theorem dX5_give_93 : decode cX5_give 93 = .ok (.iload_n 2, 1) := dk_28 (dk_at dksX5_give_3 21 rfl rfl)
theorem dX5_give_94 : decode cX5_give 94 = .ok (.iadd, 1) := dk_96 (dk_at dksX5_give_3 22 rfl rfl)
theorem dX5_give_95 : decode cX5_give 95 = .ok (.iaload, 1) := dk_46 (dk_at dksX5_give_3 23 rfl rfl)
theorem dX5_give_96 : decode cX5_give 96 = .ok (.ireturn, 1) := dk_172 (dk_at dksX5_give_4 0 rfl rfl)
abbrev cX5_week : ByteArray := prog_17_method_62_code
def yX5_week : MethodName := ⟨RX5, "week", "()I"⟩
def dkwX5_week_1 : List UInt8 := [182, 1, 161, 42, 182, 1, 158, 42, 180, 0, 85, 16, 25, 46, 172]
abbrev dktX5_week_1 : List UInt8 := dkwX5_week_1 ++ []
def dkwX5_week_0 : List UInt8 := [42, 180, 0, 85, 16, 26, 46, 17, 3, 231, 160, 0, 5, 2, 172, 42, 182, 1, 151, 42, 182, 1, 138, 42]
abbrev dktX5_week_0 : List UInt8 := dkwX5_week_0 ++ dktX5_week_1
theorem dksX5_week_0 : cX5_week.data.toList.drop 0 = dktX5_week_0 := by decide +kernel
theorem dksX5_week_1 : cX5_week.data.toList.drop 24 = dktX5_week_1 := dk_seg dksX5_week_0 24 rfl rfl
theorem dX5_week_0 : decode cX5_week 0 = .ok (.aload_n 0, 1) := dk_42 (dk_at dksX5_week_0 0 rfl rfl)
theorem dX5_week_1 : decode cX5_week 1 = .ok (.getfield 85, 3) := dk_180 0 85 (dk_at dksX5_week_0 1 rfl rfl)
theorem dX5_week_4 : decode cX5_week 4 = .ok (.bipush 26, 2) := dk_16 26 (dk_at dksX5_week_0 4 rfl rfl)
theorem dX5_week_6 : decode cX5_week 6 = .ok (.iaload, 1) := dk_46 (dk_at dksX5_week_0 6 rfl rfl)
theorem dX5_week_7 : decode cX5_week 7 = .ok (.sipush 999, 3) := dk_17 3 231 (dk_at dksX5_week_0 7 rfl rfl)
theorem dX5_week_10 : decode cX5_week 10 = .ok (.if_icmp .ne 5, 3) := dk_160 0 5 (dk_at dksX5_week_0 10 rfl rfl)
theorem dX5_week_13 : decode cX5_week 13 = .ok (.iconst (-1), 1) := dk_2 (dk_at dksX5_week_0 13 rfl rfl)
theorem dX5_week_14 : decode cX5_week 14 = .ok (.ireturn, 1) := dk_172 (dk_at dksX5_week_0 14 rfl rfl)
theorem dX5_week_15 : decode cX5_week 15 = .ok (.aload_n 0, 1) := dk_42 (dk_at dksX5_week_0 15 rfl rfl)
theorem dX5_week_16 : decode cX5_week 16 = .ok (.invokevirtual 407, 3) := dk_182 1 151 (dk_at dksX5_week_0 16 rfl rfl)
theorem dX5_week_19 : decode cX5_week 19 = .ok (.aload_n 0, 1) := dk_42 (dk_at dksX5_week_0 19 rfl rfl)
theorem dX5_week_20 : decode cX5_week 20 = .ok (.invokevirtual 394, 3) := dk_182 1 138 (dk_at dksX5_week_0 20 rfl rfl)
theorem dX5_week_23 : decode cX5_week 23 = .ok (.aload_n 0, 1) := dk_42 (dk_at dksX5_week_0 23 rfl rfl)
theorem dX5_week_24 : decode cX5_week 24 = .ok (.invokevirtual 417, 3) := dk_182 1 161 (dk_at dksX5_week_1 0 rfl rfl)
theorem dX5_week_27 : decode cX5_week 27 = .ok (.aload_n 0, 1) := dk_42 (dk_at dksX5_week_1 3 rfl rfl)
theorem dX5_week_28 : decode cX5_week 28 = .ok (.invokevirtual 414, 3) := dk_182 1 158 (dk_at dksX5_week_1 4 rfl rfl)
theorem dX5_week_31 : decode cX5_week 31 = .ok (.aload_n 0, 1) := dk_42 (dk_at dksX5_week_1 7 rfl rfl)
theorem dX5_week_32 : decode cX5_week 32 = .ok (.getfield 85, 3) := dk_180 0 85 (dk_at dksX5_week_1 8 rfl rfl)
theorem dX5_week_35 : decode cX5_week 35 = .ok (.bipush 25, 2) := dk_16 25 (dk_at dksX5_week_1 11 rfl rfl)
theorem dX5_week_37 : decode cX5_week 37 = .ok (.iaload, 1) := dk_46 (dk_at dksX5_week_1 13 rfl rfl)
theorem dX5_week_38 : decode cX5_week 38 = .ok (.ireturn, 1) := dk_172 (dk_at dksX5_week_1 14 rfl rfl)
abbrev cX5_goWeek : ByteArray := prog_17_method_55_code
def yX5_goWeek : MethodName := ⟨RX5, "goWeek", "()V"⟩
def dkwX5_goWeek_7 : List UInt8 := [92, 46, 28, 100, 79, 132, 1, 1, 167, 255, 131, 177]
abbrev dktX5_goWeek_7 : List UInt8 := dkwX5_goWeek_7 ++ []
def dkwX5_goWeek_6 : List UInt8 := [96, 46, 61, 42, 180, 0, 88, 16, 8, 27, 96, 92, 46, 28, 100, 79, 42, 180, 0, 88, 16, 16, 27, 96]
abbrev dktX5_goWeek_6 : List UInt8 := dkwX5_goWeek_6 ++ dktX5_goWeek_7
def dkwX5_goWeek_5 : List UInt8 := [96, 46, 162, 0, 15, 42, 180, 0, 88, 16, 8, 27, 96, 46, 167, 0, 12, 42, 180, 0, 88, 16, 16, 27]
abbrev dktX5_goWeek_5 : List UInt8 := dkwX5_goWeek_5 ++ dktX5_goWeek_6
def dkwX5_goWeek_4 : List UInt8 := [42, 180, 0, 76, 27, 46, 96, 79, 42, 180, 0, 88, 16, 8, 27, 96, 46, 42, 180, 0, 88, 16, 16, 27]
abbrev dktX5_goWeek_4 : List UInt8 := dkwX5_goWeek_4 ++ dktX5_goWeek_5
def dkwX5_goWeek_3 : List UInt8 := [180, 0, 88, 16, 26, 46, 7, 112, 158, 0, 6, 167, 0, 90, 42, 180, 0, 88, 16, 16, 27, 96, 92, 46]
abbrev dktX5_goWeek_3 : List UInt8 := dkwX5_goWeek_3 ++ dktX5_goWeek_4
def dkwX5_goWeek_2 : List UInt8 := [60, 27, 42, 180, 1, 94, 162, 0, 123, 42, 180, 0, 88, 27, 42, 180, 0, 70, 27, 46, 79, 42]
abbrev dktX5_goWeek_2 : List UInt8 := dkwX5_goWeek_2 ++ dktX5_goWeek_3
def dkwX5_goWeek_1 : List UInt8 := [184, 1, 123, 79, 42, 180, 0, 88, 16, 24, 3, 79, 42, 180, 0, 88, 16, 26, 92, 46, 4, 96, 79, 3]
abbrev dktX5_goWeek_1 : List UInt8 := dkwX5_goWeek_1 ++ dktX5_goWeek_2
def dkwX5_goWeek_0 : List UInt8 := [42, 180, 0, 88, 16, 25, 42, 180, 0, 88, 16, 25, 46, 42, 182, 1, 135, 96, 42, 180, 0, 82]
abbrev dktX5_goWeek_0 : List UInt8 := dkwX5_goWeek_0 ++ dktX5_goWeek_1
theorem dksX5_goWeek_0 : cX5_goWeek.data.toList.drop 0 = dktX5_goWeek_0 := by decide +kernel
theorem dksX5_goWeek_1 : cX5_goWeek.data.toList.drop 22 = dktX5_goWeek_1 := dk_seg dksX5_goWeek_0 22 rfl rfl
theorem dksX5_goWeek_2 : cX5_goWeek.data.toList.drop 46 = dktX5_goWeek_2 := dk_seg dksX5_goWeek_1 24 rfl rfl
theorem dksX5_goWeek_3 : cX5_goWeek.data.toList.drop 68 = dktX5_goWeek_3 := dk_seg dksX5_goWeek_2 22 rfl rfl
theorem dksX5_goWeek_4 : cX5_goWeek.data.toList.drop 92 = dktX5_goWeek_4 := dk_seg dksX5_goWeek_3 24 rfl rfl
theorem dksX5_goWeek_5 : cX5_goWeek.data.toList.drop 116 = dktX5_goWeek_5 := dk_seg dksX5_goWeek_4 24 rfl rfl
theorem dksX5_goWeek_6 : cX5_goWeek.data.toList.drop 140 = dktX5_goWeek_6 := dk_seg dksX5_goWeek_5 24 rfl rfl
theorem dksX5_goWeek_7 : cX5_goWeek.data.toList.drop 164 = dktX5_goWeek_7 := dk_seg dksX5_goWeek_6 24 rfl rfl
theorem dX5_goWeek_0 : decode cX5_goWeek 0 = .ok (.aload_n 0, 1) := dk_42 (dk_at dksX5_goWeek_0 0 rfl rfl)
theorem dX5_goWeek_1 : decode cX5_goWeek 1 = .ok (.getfield 88, 3) := dk_180 0 88 (dk_at dksX5_goWeek_0 1 rfl rfl)
theorem dX5_goWeek_4 : decode cX5_goWeek 4 = .ok (.bipush 25, 2) := dk_16 25 (dk_at dksX5_goWeek_0 4 rfl rfl)
theorem dX5_goWeek_6 : decode cX5_goWeek 6 = .ok (.aload_n 0, 1) := dk_42 (dk_at dksX5_goWeek_0 6 rfl rfl)
theorem dX5_goWeek_7 : decode cX5_goWeek 7 = .ok (.getfield 88, 3) := dk_180 0 88 (dk_at dksX5_goWeek_0 7 rfl rfl)
theorem dX5_goWeek_10 : decode cX5_goWeek 10 = .ok (.bipush 25, 2) := dk_16 25 (dk_at dksX5_goWeek_0 10 rfl rfl)
theorem dX5_goWeek_12 : decode cX5_goWeek 12 = .ok (.iaload, 1) := dk_46 (dk_at dksX5_goWeek_0 12 rfl rfl)
theorem dX5_goWeek_13 : decode cX5_goWeek 13 = .ok (.aload_n 0, 1) := dk_42 (dk_at dksX5_goWeek_0 13 rfl rfl)
theorem dX5_goWeek_14 : decode cX5_goWeek 14 = .ok (.invokevirtual 391, 3) := dk_182 1 135 (dk_at dksX5_goWeek_0 14 rfl rfl)
theorem dX5_goWeek_17 : decode cX5_goWeek 17 = .ok (.iadd, 1) := dk_96 (dk_at dksX5_goWeek_0 17 rfl rfl)
theorem dX5_goWeek_18 : decode cX5_goWeek 18 = .ok (.aload_n 0, 1) := dk_42 (dk_at dksX5_goWeek_0 18 rfl rfl)
theorem dX5_goWeek_19 : decode cX5_goWeek 19 = .ok (.getfield 82, 3) := dk_180 0 82 (dk_at dksX5_goWeek_0 19 rfl rfl)
theorem dX5_goWeek_22 : decode cX5_goWeek 22 = .ok (.invokestatic 379, 3) := dk_184 1 123 (dk_at dksX5_goWeek_1 0 rfl rfl)
theorem dX5_goWeek_25 : decode cX5_goWeek 25 = .ok (.iastore, 1) := dk_79 (dk_at dksX5_goWeek_1 3 rfl rfl)
theorem dX5_goWeek_26 : decode cX5_goWeek 26 = .ok (.aload_n 0, 1) := dk_42 (dk_at dksX5_goWeek_1 4 rfl rfl)
theorem dX5_goWeek_27 : decode cX5_goWeek 27 = .ok (.getfield 88, 3) := dk_180 0 88 (dk_at dksX5_goWeek_1 5 rfl rfl)
theorem dX5_goWeek_30 : decode cX5_goWeek 30 = .ok (.bipush 24, 2) := dk_16 24 (dk_at dksX5_goWeek_1 8 rfl rfl)
theorem dX5_goWeek_32 : decode cX5_goWeek 32 = .ok (.iconst 0, 1) := dk_3 (dk_at dksX5_goWeek_1 10 rfl rfl)
theorem dX5_goWeek_33 : decode cX5_goWeek 33 = .ok (.iastore, 1) := dk_79 (dk_at dksX5_goWeek_1 11 rfl rfl)
theorem dX5_goWeek_34 : decode cX5_goWeek 34 = .ok (.aload_n 0, 1) := dk_42 (dk_at dksX5_goWeek_1 12 rfl rfl)
theorem dX5_goWeek_35 : decode cX5_goWeek 35 = .ok (.getfield 88, 3) := dk_180 0 88 (dk_at dksX5_goWeek_1 13 rfl rfl)
theorem dX5_goWeek_38 : decode cX5_goWeek 38 = .ok (.bipush 26, 2) := dk_16 26 (dk_at dksX5_goWeek_1 16 rfl rfl)
theorem dX5_goWeek_40 : decode cX5_goWeek 40 = .ok (.dup2, 1) := dk_92 (dk_at dksX5_goWeek_1 18 rfl rfl)
theorem dX5_goWeek_41 : decode cX5_goWeek 41 = .ok (.iaload, 1) := dk_46 (dk_at dksX5_goWeek_1 19 rfl rfl)
theorem dX5_goWeek_42 : decode cX5_goWeek 42 = .ok (.iconst 1, 1) := dk_4 (dk_at dksX5_goWeek_1 20 rfl rfl)
theorem dX5_goWeek_43 : decode cX5_goWeek 43 = .ok (.iadd, 1) := dk_96 (dk_at dksX5_goWeek_1 21 rfl rfl)
theorem dX5_goWeek_44 : decode cX5_goWeek 44 = .ok (.iastore, 1) := dk_79 (dk_at dksX5_goWeek_1 22 rfl rfl)
theorem dX5_goWeek_45 : decode cX5_goWeek 45 = .ok (.iconst 0, 1) := dk_3 (dk_at dksX5_goWeek_1 23 rfl rfl)
theorem dX5_goWeek_46 : decode cX5_goWeek 46 = .ok (.istore_n 1, 1) := dk_60 (dk_at dksX5_goWeek_2 0 rfl rfl)
theorem dX5_goWeek_47 : decode cX5_goWeek 47 = .ok (.iload_n 1, 1) := dk_27 (dk_at dksX5_goWeek_2 1 rfl rfl)
theorem dX5_goWeek_48 : decode cX5_goWeek 48 = .ok (.aload_n 0, 1) := dk_42 (dk_at dksX5_goWeek_2 2 rfl rfl)
theorem dX5_goWeek_49 : decode cX5_goWeek 49 = .ok (.getfield 350, 3) := dk_180 1 94 (dk_at dksX5_goWeek_2 3 rfl rfl)
theorem dX5_goWeek_52 : decode cX5_goWeek 52 = .ok (.if_icmp .ge 123, 3) := dk_162 0 123 (dk_at dksX5_goWeek_2 6 rfl rfl)
theorem dX5_goWeek_55 : decode cX5_goWeek 55 = .ok (.aload_n 0, 1) := dk_42 (dk_at dksX5_goWeek_2 9 rfl rfl)
theorem dX5_goWeek_56 : decode cX5_goWeek 56 = .ok (.getfield 88, 3) := dk_180 0 88 (dk_at dksX5_goWeek_2 10 rfl rfl)
theorem dX5_goWeek_59 : decode cX5_goWeek 59 = .ok (.iload_n 1, 1) := dk_27 (dk_at dksX5_goWeek_2 13 rfl rfl)
theorem dX5_goWeek_60 : decode cX5_goWeek 60 = .ok (.aload_n 0, 1) := dk_42 (dk_at dksX5_goWeek_2 14 rfl rfl)
theorem dX5_goWeek_61 : decode cX5_goWeek 61 = .ok (.getfield 70, 3) := dk_180 0 70 (dk_at dksX5_goWeek_2 15 rfl rfl)
theorem dX5_goWeek_64 : decode cX5_goWeek 64 = .ok (.iload_n 1, 1) := dk_27 (dk_at dksX5_goWeek_2 18 rfl rfl)
theorem dX5_goWeek_65 : decode cX5_goWeek 65 = .ok (.iaload, 1) := dk_46 (dk_at dksX5_goWeek_2 19 rfl rfl)
theorem dX5_goWeek_66 : decode cX5_goWeek 66 = .ok (.iastore, 1) := dk_79 (dk_at dksX5_goWeek_2 20 rfl rfl)
theorem dX5_goWeek_67 : decode cX5_goWeek 67 = .ok (.aload_n 0, 1) := dk_42 (dk_at dksX5_goWeek_2 21 rfl rfl)
theorem dX5_goWeek_68 : decode cX5_goWeek 68 = .ok (.getfield 88, 3) := dk_180 0 88 (dk_at dksX5_goWeek_3 0 rfl rfl)
theorem dX5_goWeek_71 : decode cX5_goWeek 71 = .ok (.bipush 26, 2) := dk_16 26 (dk_at dksX5_goWeek_3 3 rfl rfl)
theorem dX5_goWeek_73 : decode cX5_goWeek 73 = .ok (.iaload, 1) := dk_46 (dk_at dksX5_goWeek_3 5 rfl rfl)
theorem dX5_goWeek_74 : decode cX5_goWeek 74 = .ok (.iconst 4, 1) := dk_7 (dk_at dksX5_goWeek_3 6 rfl rfl)
theorem dX5_goWeek_75 : decode cX5_goWeek 75 = .ok (.irem, 1) := dk_112 (dk_at dksX5_goWeek_3 7 rfl rfl)
theorem dX5_goWeek_76 : decode cX5_goWeek 76 = .ok (.ifCond .le 6, 3) := dk_158 0 6 (dk_at dksX5_goWeek_3 8 rfl rfl)
theorem dX5_goWeek_79 : decode cX5_goWeek 79 = .ok (.goto 90, 3) := dk_167 0 90 (dk_at dksX5_goWeek_3 11 rfl rfl)
theorem dX5_goWeek_82 : decode cX5_goWeek 82 = .ok (.aload_n 0, 1) := dk_42 (dk_at dksX5_goWeek_3 14 rfl rfl)
theorem dX5_goWeek_83 : decode cX5_goWeek 83 = .ok (.getfield 88, 3) := dk_180 0 88 (dk_at dksX5_goWeek_3 15 rfl rfl)
theorem dX5_goWeek_86 : decode cX5_goWeek 86 = .ok (.bipush 16, 2) := dk_16 16 (dk_at dksX5_goWeek_3 18 rfl rfl)
theorem dX5_goWeek_88 : decode cX5_goWeek 88 = .ok (.iload_n 1, 1) := dk_27 (dk_at dksX5_goWeek_3 20 rfl rfl)
theorem dX5_goWeek_89 : decode cX5_goWeek 89 = .ok (.iadd, 1) := dk_96 (dk_at dksX5_goWeek_3 21 rfl rfl)
theorem dX5_goWeek_90 : decode cX5_goWeek 90 = .ok (.dup2, 1) := dk_92 (dk_at dksX5_goWeek_3 22 rfl rfl)
theorem dX5_goWeek_91 : decode cX5_goWeek 91 = .ok (.iaload, 1) := dk_46 (dk_at dksX5_goWeek_3 23 rfl rfl)
theorem dX5_goWeek_92 : decode cX5_goWeek 92 = .ok (.aload_n 0, 1) := dk_42 (dk_at dksX5_goWeek_4 0 rfl rfl)
theorem dX5_goWeek_93 : decode cX5_goWeek 93 = .ok (.getfield 76, 3) := dk_180 0 76 (dk_at dksX5_goWeek_4 1 rfl rfl)
theorem dX5_goWeek_96 : decode cX5_goWeek 96 = .ok (.iload_n 1, 1) := dk_27 (dk_at dksX5_goWeek_4 4 rfl rfl)
theorem dX5_goWeek_97 : decode cX5_goWeek 97 = .ok (.iaload, 1) := dk_46 (dk_at dksX5_goWeek_4 5 rfl rfl)
theorem dX5_goWeek_98 : decode cX5_goWeek 98 = .ok (.iadd, 1) := dk_96 (dk_at dksX5_goWeek_4 6 rfl rfl)
theorem dX5_goWeek_99 : decode cX5_goWeek 99 = .ok (.iastore, 1) := dk_79 (dk_at dksX5_goWeek_4 7 rfl rfl)
theorem dX5_goWeek_100 : decode cX5_goWeek 100 = .ok (.aload_n 0, 1) := dk_42 (dk_at dksX5_goWeek_4 8 rfl rfl)
theorem dX5_goWeek_101 : decode cX5_goWeek 101 = .ok (.getfield 88, 3) := dk_180 0 88 (dk_at dksX5_goWeek_4 9 rfl rfl)
theorem dX5_goWeek_104 : decode cX5_goWeek 104 = .ok (.bipush 8, 2) := dk_16 8 (dk_at dksX5_goWeek_4 12 rfl rfl)
theorem dX5_goWeek_106 : decode cX5_goWeek 106 = .ok (.iload_n 1, 1) := dk_27 (dk_at dksX5_goWeek_4 14 rfl rfl)
theorem dX5_goWeek_107 : decode cX5_goWeek 107 = .ok (.iadd, 1) := dk_96 (dk_at dksX5_goWeek_4 15 rfl rfl)
theorem dX5_goWeek_108 : decode cX5_goWeek 108 = .ok (.iaload, 1) := dk_46 (dk_at dksX5_goWeek_4 16 rfl rfl)
theorem dX5_goWeek_109 : decode cX5_goWeek 109 = .ok (.aload_n 0, 1) := dk_42 (dk_at dksX5_goWeek_4 17 rfl rfl)
theorem dX5_goWeek_110 : decode cX5_goWeek 110 = .ok (.getfield 88, 3) := dk_180 0 88 (dk_at dksX5_goWeek_4 18 rfl rfl)
theorem dX5_goWeek_113 : decode cX5_goWeek 113 = .ok (.bipush 16, 2) := dk_16 16 (dk_at dksX5_goWeek_4 21 rfl rfl)
theorem dX5_goWeek_115 : decode cX5_goWeek 115 = .ok (.iload_n 1, 1) := dk_27 (dk_at dksX5_goWeek_4 23 rfl rfl)
theorem dX5_goWeek_116 : decode cX5_goWeek 116 = .ok (.iadd, 1) := dk_96 (dk_at dksX5_goWeek_5 0 rfl rfl)
theorem dX5_goWeek_117 : decode cX5_goWeek 117 = .ok (.iaload, 1) := dk_46 (dk_at dksX5_goWeek_5 1 rfl rfl)
theorem dX5_goWeek_118 : decode cX5_goWeek 118 = .ok (.if_icmp .ge 15, 3) := dk_162 0 15 (dk_at dksX5_goWeek_5 2 rfl rfl)
theorem dX5_goWeek_121 : decode cX5_goWeek 121 = .ok (.aload_n 0, 1) := dk_42 (dk_at dksX5_goWeek_5 5 rfl rfl)
theorem dX5_goWeek_122 : decode cX5_goWeek 122 = .ok (.getfield 88, 3) := dk_180 0 88 (dk_at dksX5_goWeek_5 6 rfl rfl)
theorem dX5_goWeek_125 : decode cX5_goWeek 125 = .ok (.bipush 8, 2) := dk_16 8 (dk_at dksX5_goWeek_5 9 rfl rfl)
theorem dX5_goWeek_127 : decode cX5_goWeek 127 = .ok (.iload_n 1, 1) := dk_27 (dk_at dksX5_goWeek_5 11 rfl rfl)
theorem dX5_goWeek_128 : decode cX5_goWeek 128 = .ok (.iadd, 1) := dk_96 (dk_at dksX5_goWeek_5 12 rfl rfl)
theorem dX5_goWeek_129 : decode cX5_goWeek 129 = .ok (.iaload, 1) := dk_46 (dk_at dksX5_goWeek_5 13 rfl rfl)
theorem dX5_goWeek_130 : decode cX5_goWeek 130 = .ok (.goto 12, 3) := dk_167 0 12 (dk_at dksX5_goWeek_5 14 rfl rfl)
theorem dX5_goWeek_133 : decode cX5_goWeek 133 = .ok (.aload_n 0, 1) := dk_42 (dk_at dksX5_goWeek_5 17 rfl rfl)
theorem dX5_goWeek_134 : decode cX5_goWeek 134 = .ok (.getfield 88, 3) := dk_180 0 88 (dk_at dksX5_goWeek_5 18 rfl rfl)
theorem dX5_goWeek_137 : decode cX5_goWeek 137 = .ok (.bipush 16, 2) := dk_16 16 (dk_at dksX5_goWeek_5 21 rfl rfl)
theorem dX5_goWeek_139 : decode cX5_goWeek 139 = .ok (.iload_n 1, 1) := dk_27 (dk_at dksX5_goWeek_5 23 rfl rfl)
theorem dX5_goWeek_140 : decode cX5_goWeek 140 = .ok (.iadd, 1) := dk_96 (dk_at dksX5_goWeek_6 0 rfl rfl)
theorem dX5_goWeek_141 : decode cX5_goWeek 141 = .ok (.iaload, 1) := dk_46 (dk_at dksX5_goWeek_6 1 rfl rfl)
theorem dX5_goWeek_142 : decode cX5_goWeek 142 = .ok (.istore_n 2, 1) := dk_61 (dk_at dksX5_goWeek_6 2 rfl rfl)
theorem dX5_goWeek_143 : decode cX5_goWeek 143 = .ok (.aload_n 0, 1) := dk_42 (dk_at dksX5_goWeek_6 3 rfl rfl)
theorem dX5_goWeek_144 : decode cX5_goWeek 144 = .ok (.getfield 88, 3) := dk_180 0 88 (dk_at dksX5_goWeek_6 4 rfl rfl)
theorem dX5_goWeek_147 : decode cX5_goWeek 147 = .ok (.bipush 8, 2) := dk_16 8 (dk_at dksX5_goWeek_6 7 rfl rfl)
theorem dX5_goWeek_149 : decode cX5_goWeek 149 = .ok (.iload_n 1, 1) := dk_27 (dk_at dksX5_goWeek_6 9 rfl rfl)
theorem dX5_goWeek_150 : decode cX5_goWeek 150 = .ok (.iadd, 1) := dk_96 (dk_at dksX5_goWeek_6 10 rfl rfl)
theorem dX5_goWeek_151 : decode cX5_goWeek 151 = .ok (.dup2, 1) := dk_92 (dk_at dksX5_goWeek_6 11 rfl rfl)
theorem dX5_goWeek_152 : decode cX5_goWeek 152 = .ok (.iaload, 1) := dk_46 (dk_at dksX5_goWeek_6 12 rfl rfl)
theorem dX5_goWeek_153 : decode cX5_goWeek 153 = .ok (.iload_n 2, 1) := dk_28 (dk_at dksX5_goWeek_6 13 rfl rfl)
theorem dX5_goWeek_154 : decode cX5_goWeek 154 = .ok (.isub, 1) := dk_100 (dk_at dksX5_goWeek_6 14 rfl rfl)
theorem dX5_goWeek_155 : decode cX5_goWeek 155 = .ok (.iastore, 1) := dk_79 (dk_at dksX5_goWeek_6 15 rfl rfl)
theorem dX5_goWeek_156 : decode cX5_goWeek 156 = .ok (.aload_n 0, 1) := dk_42 (dk_at dksX5_goWeek_6 16 rfl rfl)
theorem dX5_goWeek_157 : decode cX5_goWeek 157 = .ok (.getfield 88, 3) := dk_180 0 88 (dk_at dksX5_goWeek_6 17 rfl rfl)
theorem dX5_goWeek_160 : decode cX5_goWeek 160 = .ok (.bipush 16, 2) := dk_16 16 (dk_at dksX5_goWeek_6 20 rfl rfl)
theorem dX5_goWeek_162 : decode cX5_goWeek 162 = .ok (.iload_n 1, 1) := dk_27 (dk_at dksX5_goWeek_6 22 rfl rfl)
theorem dX5_goWeek_163 : decode cX5_goWeek 163 = .ok (.iadd, 1) := dk_96 (dk_at dksX5_goWeek_6 23 rfl rfl)
theorem dX5_goWeek_164 : decode cX5_goWeek 164 = .ok (.dup2, 1) := dk_92 (dk_at dksX5_goWeek_7 0 rfl rfl)
theorem dX5_goWeek_165 : decode cX5_goWeek 165 = .ok (.iaload, 1) := dk_46 (dk_at dksX5_goWeek_7 1 rfl rfl)
theorem dX5_goWeek_166 : decode cX5_goWeek 166 = .ok (.iload_n 2, 1) := dk_28 (dk_at dksX5_goWeek_7 2 rfl rfl)
theorem dX5_goWeek_167 : decode cX5_goWeek 167 = .ok (.isub, 1) := dk_100 (dk_at dksX5_goWeek_7 3 rfl rfl)
theorem dX5_goWeek_168 : decode cX5_goWeek 168 = .ok (.iastore, 1) := dk_79 (dk_at dksX5_goWeek_7 4 rfl rfl)
theorem dX5_goWeek_169 : decode cX5_goWeek 169 = .ok (.iinc 1 1, 3) := dk_132 1 1 (dk_at dksX5_goWeek_7 5 rfl rfl)
theorem dX5_goWeek_172 : decode cX5_goWeek 172 = .ok (.goto (-125), 3) := dk_167 255 131 (dk_at dksX5_goWeek_7 8 rfl rfl)
theorem dX5_goWeek_175 : decode cX5_goWeek 175 = .ok (.return_, 1) := dk_177 (dk_at dksX5_goWeek_7 11 rfl rfl)
abbrev cX5_pullHere : ByteArray := prog_17_method_54_code
def yX5_pullHere : MethodName := ⟨RX5, "pullHere", "()I"⟩
def dkwX5_pullHere_1 : List UInt8 := [172]
abbrev dktX5_pullHere_1 : List UInt8 := dkwX5_pullHere_1 ++ []
def dkwX5_pullHere_0 : List UInt8 := [42, 4, 42, 180, 0, 82, 42, 182, 1, 132, 3, 42, 180, 0, 88, 16, 24, 46, 16, 10, 108, 182, 1, 119]
abbrev dktX5_pullHere_0 : List UInt8 := dkwX5_pullHere_0 ++ dktX5_pullHere_1
theorem dksX5_pullHere_0 : cX5_pullHere.data.toList.drop 0 = dktX5_pullHere_0 := by decide +kernel
theorem dksX5_pullHere_1 : cX5_pullHere.data.toList.drop 24 = dktX5_pullHere_1 := dk_seg dksX5_pullHere_0 24 rfl rfl
theorem dX5_pullHere_0 : decode cX5_pullHere 0 = .ok (.aload_n 0, 1) := dk_42 (dk_at dksX5_pullHere_0 0 rfl rfl)
theorem dX5_pullHere_1 : decode cX5_pullHere 1 = .ok (.iconst 1, 1) := dk_4 (dk_at dksX5_pullHere_0 1 rfl rfl)
theorem dX5_pullHere_2 : decode cX5_pullHere 2 = .ok (.aload_n 0, 1) := dk_42 (dk_at dksX5_pullHere_0 2 rfl rfl)
theorem dX5_pullHere_3 : decode cX5_pullHere 3 = .ok (.getfield 82, 3) := dk_180 0 82 (dk_at dksX5_pullHere_0 3 rfl rfl)
theorem dX5_pullHere_6 : decode cX5_pullHere 6 = .ok (.aload_n 0, 1) := dk_42 (dk_at dksX5_pullHere_0 6 rfl rfl)
theorem dX5_pullHere_7 : decode cX5_pullHere 7 = .ok (.invokevirtual 388, 3) := dk_182 1 132 (dk_at dksX5_pullHere_0 7 rfl rfl)
theorem dX5_pullHere_10 : decode cX5_pullHere 10 = .ok (.iconst 0, 1) := dk_3 (dk_at dksX5_pullHere_0 10 rfl rfl)
theorem dX5_pullHere_11 : decode cX5_pullHere 11 = .ok (.aload_n 0, 1) := dk_42 (dk_at dksX5_pullHere_0 11 rfl rfl)
theorem dX5_pullHere_12 : decode cX5_pullHere 12 = .ok (.getfield 88, 3) := dk_180 0 88 (dk_at dksX5_pullHere_0 12 rfl rfl)
theorem dX5_pullHere_15 : decode cX5_pullHere 15 = .ok (.bipush 24, 2) := dk_16 24 (dk_at dksX5_pullHere_0 15 rfl rfl)
theorem dX5_pullHere_17 : decode cX5_pullHere 17 = .ok (.iaload, 1) := dk_46 (dk_at dksX5_pullHere_0 17 rfl rfl)
theorem dX5_pullHere_18 : decode cX5_pullHere 18 = .ok (.bipush 10, 2) := dk_16 10 (dk_at dksX5_pullHere_0 18 rfl rfl)
theorem dX5_pullHere_20 : decode cX5_pullHere 20 = .ok (.idiv, 1) := dk_108 (dk_at dksX5_pullHere_0 20 rfl rfl)
theorem dX5_pullHere_21 : decode cX5_pullHere 21 = .ok (.invokevirtual 375, 3) := dk_182 1 119 (dk_at dksX5_pullHere_0 21 rfl rfl)
theorem dX5_pullHere_24 : decode cX5_pullHere 24 = .ok (.ireturn, 1) := dk_172 (dk_at dksX5_pullHere_1 0 rfl rfl)
abbrev cX5_allHeavy : ByteArray := prog_17_method_53_code
def yX5_allHeavy : MethodName := ⟨RX5, "allHeavy", "()I"⟩
def dkwX5_allHeavy_1 : List UInt8 := [167, 255, 236, 27, 172]
abbrev dktX5_allHeavy_1 : List UInt8 := dkwX5_allHeavy_1 ++ []
def dkwX5_allHeavy_0 : List UInt8 := [3, 60, 3, 61, 28, 42, 180, 1, 94, 162, 0, 18, 27, 42, 180, 0, 73, 28, 46, 96, 60, 132, 2, 1]
abbrev dktX5_allHeavy_0 : List UInt8 := dkwX5_allHeavy_0 ++ dktX5_allHeavy_1
theorem dksX5_allHeavy_0 : cX5_allHeavy.data.toList.drop 0 = dktX5_allHeavy_0 := by decide +kernel
theorem dksX5_allHeavy_1 : cX5_allHeavy.data.toList.drop 24 = dktX5_allHeavy_1 := dk_seg dksX5_allHeavy_0 24 rfl rfl
theorem dX5_allHeavy_0 : decode cX5_allHeavy 0 = .ok (.iconst 0, 1) := dk_3 (dk_at dksX5_allHeavy_0 0 rfl rfl)
theorem dX5_allHeavy_1 : decode cX5_allHeavy 1 = .ok (.istore_n 1, 1) := dk_60 (dk_at dksX5_allHeavy_0 1 rfl rfl)
theorem dX5_allHeavy_2 : decode cX5_allHeavy 2 = .ok (.iconst 0, 1) := dk_3 (dk_at dksX5_allHeavy_0 2 rfl rfl)
theorem dX5_allHeavy_3 : decode cX5_allHeavy 3 = .ok (.istore_n 2, 1) := dk_61 (dk_at dksX5_allHeavy_0 3 rfl rfl)
theorem dX5_allHeavy_4 : decode cX5_allHeavy 4 = .ok (.iload_n 2, 1) := dk_28 (dk_at dksX5_allHeavy_0 4 rfl rfl)
theorem dX5_allHeavy_5 : decode cX5_allHeavy 5 = .ok (.aload_n 0, 1) := dk_42 (dk_at dksX5_allHeavy_0 5 rfl rfl)
theorem dX5_allHeavy_6 : decode cX5_allHeavy 6 = .ok (.getfield 350, 3) := dk_180 1 94 (dk_at dksX5_allHeavy_0 6 rfl rfl)
theorem dX5_allHeavy_9 : decode cX5_allHeavy 9 = .ok (.if_icmp .ge 18, 3) := dk_162 0 18 (dk_at dksX5_allHeavy_0 9 rfl rfl)
theorem dX5_allHeavy_12 : decode cX5_allHeavy 12 = .ok (.iload_n 1, 1) := dk_27 (dk_at dksX5_allHeavy_0 12 rfl rfl)
theorem dX5_allHeavy_13 : decode cX5_allHeavy 13 = .ok (.aload_n 0, 1) := dk_42 (dk_at dksX5_allHeavy_0 13 rfl rfl)
theorem dX5_allHeavy_14 : decode cX5_allHeavy 14 = .ok (.getfield 73, 3) := dk_180 0 73 (dk_at dksX5_allHeavy_0 14 rfl rfl)
theorem dX5_allHeavy_17 : decode cX5_allHeavy 17 = .ok (.iload_n 2, 1) := dk_28 (dk_at dksX5_allHeavy_0 17 rfl rfl)
theorem dX5_allHeavy_18 : decode cX5_allHeavy 18 = .ok (.iaload, 1) := dk_46 (dk_at dksX5_allHeavy_0 18 rfl rfl)
theorem dX5_allHeavy_19 : decode cX5_allHeavy 19 = .ok (.iadd, 1) := dk_96 (dk_at dksX5_allHeavy_0 19 rfl rfl)
theorem dX5_allHeavy_20 : decode cX5_allHeavy 20 = .ok (.istore_n 1, 1) := dk_60 (dk_at dksX5_allHeavy_0 20 rfl rfl)
theorem dX5_allHeavy_21 : decode cX5_allHeavy 21 = .ok (.iinc 2 1, 3) := dk_132 2 1 (dk_at dksX5_allHeavy_0 21 rfl rfl)
theorem dX5_allHeavy_24 : decode cX5_allHeavy 24 = .ok (.goto (-20), 3) := dk_167 255 236 (dk_at dksX5_allHeavy_1 0 rfl rfl)
theorem dX5_allHeavy_27 : decode cX5_allHeavy 27 = .ok (.iload_n 1, 1) := dk_27 (dk_at dksX5_allHeavy_1 3 rfl rfl)
theorem dX5_allHeavy_28 : decode cX5_allHeavy 28 = .ok (.ireturn, 1) := dk_172 (dk_at dksX5_allHeavy_1 4 rfl rfl)
abbrev cX5_undo : ByteArray := prog_17_method_63_code
def yX5_undo : MethodName := ⟨RX5, "undo", "()Z"⟩
def dkwX5_undo_1 : List UInt8 := [4, 96, 181, 1, 103, 42, 16, 28, 42, 180, 1, 100, 104, 182, 1, 164, 4, 172]
abbrev dktX5_undo_1 : List UInt8 := dkwX5_undo_1 ++ []
def dkwX5_undo_0 : List UInt8 := [42, 180, 1, 100, 154, 0, 5, 3, 172, 42, 89, 180, 1, 100, 4, 100, 181, 1, 100, 42, 89, 180, 1, 103]
abbrev dktX5_undo_0 : List UInt8 := dkwX5_undo_0 ++ dktX5_undo_1
theorem dksX5_undo_0 : cX5_undo.data.toList.drop 0 = dktX5_undo_0 := by decide +kernel
theorem dksX5_undo_1 : cX5_undo.data.toList.drop 24 = dktX5_undo_1 := dk_seg dksX5_undo_0 24 rfl rfl
theorem dX5_undo_0 : decode cX5_undo 0 = .ok (.aload_n 0, 1) := dk_42 (dk_at dksX5_undo_0 0 rfl rfl)
theorem dX5_undo_1 : decode cX5_undo 1 = .ok (.getfield 356, 3) := dk_180 1 100 (dk_at dksX5_undo_0 1 rfl rfl)
theorem dX5_undo_4 : decode cX5_undo 4 = .ok (.ifCond .ne 5, 3) := dk_154 0 5 (dk_at dksX5_undo_0 4 rfl rfl)
theorem dX5_undo_7 : decode cX5_undo 7 = .ok (.iconst 0, 1) := dk_3 (dk_at dksX5_undo_0 7 rfl rfl)
theorem dX5_undo_8 : decode cX5_undo 8 = .ok (.ireturn, 1) := dk_172 (dk_at dksX5_undo_0 8 rfl rfl)
theorem dX5_undo_9 : decode cX5_undo 9 = .ok (.aload_n 0, 1) := dk_42 (dk_at dksX5_undo_0 9 rfl rfl)
theorem dX5_undo_10 : decode cX5_undo 10 = .ok (.dup, 1) := dk_89 (dk_at dksX5_undo_0 10 rfl rfl)
theorem dX5_undo_11 : decode cX5_undo 11 = .ok (.getfield 356, 3) := dk_180 1 100 (dk_at dksX5_undo_0 11 rfl rfl)
theorem dX5_undo_14 : decode cX5_undo 14 = .ok (.iconst 1, 1) := dk_4 (dk_at dksX5_undo_0 14 rfl rfl)
theorem dX5_undo_15 : decode cX5_undo 15 = .ok (.isub, 1) := dk_100 (dk_at dksX5_undo_0 15 rfl rfl)
theorem dX5_undo_16 : decode cX5_undo 16 = .ok (.putfield 356, 3) := dk_181 1 100 (dk_at dksX5_undo_0 16 rfl rfl)
theorem dX5_undo_19 : decode cX5_undo 19 = .ok (.aload_n 0, 1) := dk_42 (dk_at dksX5_undo_0 19 rfl rfl)
theorem dX5_undo_20 : decode cX5_undo 20 = .ok (.dup, 1) := dk_89 (dk_at dksX5_undo_0 20 rfl rfl)
theorem dX5_undo_21 : decode cX5_undo 21 = .ok (.getfield 359, 3) := dk_180 1 103 (dk_at dksX5_undo_0 21 rfl rfl)
theorem dX5_undo_24 : decode cX5_undo 24 = .ok (.iconst 1, 1) := dk_4 (dk_at dksX5_undo_1 0 rfl rfl)
theorem dX5_undo_25 : decode cX5_undo 25 = .ok (.iadd, 1) := dk_96 (dk_at dksX5_undo_1 1 rfl rfl)
theorem dX5_undo_26 : decode cX5_undo 26 = .ok (.putfield 359, 3) := dk_181 1 103 (dk_at dksX5_undo_1 2 rfl rfl)
theorem dX5_undo_29 : decode cX5_undo 29 = .ok (.aload_n 0, 1) := dk_42 (dk_at dksX5_undo_1 5 rfl rfl)
theorem dX5_undo_30 : decode cX5_undo 30 = .ok (.bipush 28, 2) := dk_16 28 (dk_at dksX5_undo_1 6 rfl rfl)
theorem dX5_undo_32 : decode cX5_undo 32 = .ok (.aload_n 0, 1) := dk_42 (dk_at dksX5_undo_1 8 rfl rfl)
theorem dX5_undo_33 : decode cX5_undo 33 = .ok (.getfield 356, 3) := dk_180 1 100 (dk_at dksX5_undo_1 9 rfl rfl)
theorem dX5_undo_36 : decode cX5_undo 36 = .ok (.imul, 1) := dk_104 (dk_at dksX5_undo_1 12 rfl rfl)
theorem dX5_undo_37 : decode cX5_undo 37 = .ok (.invokevirtual 420, 3) := dk_182 1 164 (dk_at dksX5_undo_1 13 rfl rfl)
theorem dX5_undo_40 : decode cX5_undo 40 = .ok (.iconst 1, 1) := dk_4 (dk_at dksX5_undo_1 16 rfl rfl)
theorem dX5_undo_41 : decode cX5_undo 41 = .ok (.ireturn, 1) := dk_172 (dk_at dksX5_undo_1 17 rfl rfl)
abbrev cX5_exchange : ByteArray := prog_17_method_59_code
def yX5_exchange : MethodName := ⟨RX5, "exchange", "(I)V"⟩
def dkwX5_exchange_1 : List UInt8 := [42, 180, 0, 85, 28, 46, 79, 42, 180, 0, 85, 28, 29, 79, 132, 2, 1, 167, 255, 217, 177]
abbrev dktX5_exchange_1 : List UInt8 := dkwX5_exchange_1 ++ []
def dkwX5_exchange_0 : List UInt8 := [3, 61, 28, 16, 28, 162, 0, 39, 42, 180, 0, 91, 27, 28, 96, 46, 62, 42, 180, 0, 91, 27, 28, 96]
abbrev dktX5_exchange_0 : List UInt8 := dkwX5_exchange_0 ++ dktX5_exchange_1
theorem dksX5_exchange_0 : cX5_exchange.data.toList.drop 0 = dktX5_exchange_0 := by decide +kernel
theorem dksX5_exchange_1 : cX5_exchange.data.toList.drop 24 = dktX5_exchange_1 := dk_seg dksX5_exchange_0 24 rfl rfl
theorem dX5_exchange_0 : decode cX5_exchange 0 = .ok (.iconst 0, 1) := dk_3 (dk_at dksX5_exchange_0 0 rfl rfl)
theorem dX5_exchange_1 : decode cX5_exchange 1 = .ok (.istore_n 2, 1) := dk_61 (dk_at dksX5_exchange_0 1 rfl rfl)
theorem dX5_exchange_2 : decode cX5_exchange 2 = .ok (.iload_n 2, 1) := dk_28 (dk_at dksX5_exchange_0 2 rfl rfl)
theorem dX5_exchange_3 : decode cX5_exchange 3 = .ok (.bipush 28, 2) := dk_16 28 (dk_at dksX5_exchange_0 3 rfl rfl)
theorem dX5_exchange_5 : decode cX5_exchange 5 = .ok (.if_icmp .ge 39, 3) := dk_162 0 39 (dk_at dksX5_exchange_0 5 rfl rfl)
theorem dX5_exchange_8 : decode cX5_exchange 8 = .ok (.aload_n 0, 1) := dk_42 (dk_at dksX5_exchange_0 8 rfl rfl)
theorem dX5_exchange_9 : decode cX5_exchange 9 = .ok (.getfield 91, 3) := dk_180 0 91 (dk_at dksX5_exchange_0 9 rfl rfl)
theorem dX5_exchange_12 : decode cX5_exchange 12 = .ok (.iload_n 1, 1) := dk_27 (dk_at dksX5_exchange_0 12 rfl rfl)
theorem dX5_exchange_13 : decode cX5_exchange 13 = .ok (.iload_n 2, 1) := dk_28 (dk_at dksX5_exchange_0 13 rfl rfl)
theorem dX5_exchange_14 : decode cX5_exchange 14 = .ok (.iadd, 1) := dk_96 (dk_at dksX5_exchange_0 14 rfl rfl)
theorem dX5_exchange_15 : decode cX5_exchange 15 = .ok (.iaload, 1) := dk_46 (dk_at dksX5_exchange_0 15 rfl rfl)
theorem dX5_exchange_16 : decode cX5_exchange 16 = .ok (.istore_n 3, 1) := dk_62 (dk_at dksX5_exchange_0 16 rfl rfl)
theorem dX5_exchange_17 : decode cX5_exchange 17 = .ok (.aload_n 0, 1) := dk_42 (dk_at dksX5_exchange_0 17 rfl rfl)
theorem dX5_exchange_18 : decode cX5_exchange 18 = .ok (.getfield 91, 3) := dk_180 0 91 (dk_at dksX5_exchange_0 18 rfl rfl)
theorem dX5_exchange_21 : decode cX5_exchange 21 = .ok (.iload_n 1, 1) := dk_27 (dk_at dksX5_exchange_0 21 rfl rfl)
theorem dX5_exchange_22 : decode cX5_exchange 22 = .ok (.iload_n 2, 1) := dk_28 (dk_at dksX5_exchange_0 22 rfl rfl)
theorem dX5_exchange_23 : decode cX5_exchange 23 = .ok (.iadd, 1) := dk_96 (dk_at dksX5_exchange_0 23 rfl rfl)
theorem dX5_exchange_24 : decode cX5_exchange 24 = .ok (.aload_n 0, 1) := dk_42 (dk_at dksX5_exchange_1 0 rfl rfl)
theorem dX5_exchange_25 : decode cX5_exchange 25 = .ok (.getfield 85, 3) := dk_180 0 85 (dk_at dksX5_exchange_1 1 rfl rfl)
theorem dX5_exchange_28 : decode cX5_exchange 28 = .ok (.iload_n 2, 1) := dk_28 (dk_at dksX5_exchange_1 4 rfl rfl)
theorem dX5_exchange_29 : decode cX5_exchange 29 = .ok (.iaload, 1) := dk_46 (dk_at dksX5_exchange_1 5 rfl rfl)
theorem dX5_exchange_30 : decode cX5_exchange 30 = .ok (.iastore, 1) := dk_79 (dk_at dksX5_exchange_1 6 rfl rfl)
theorem dX5_exchange_31 : decode cX5_exchange 31 = .ok (.aload_n 0, 1) := dk_42 (dk_at dksX5_exchange_1 7 rfl rfl)
theorem dX5_exchange_32 : decode cX5_exchange 32 = .ok (.getfield 85, 3) := dk_180 0 85 (dk_at dksX5_exchange_1 8 rfl rfl)
theorem dX5_exchange_35 : decode cX5_exchange 35 = .ok (.iload_n 2, 1) := dk_28 (dk_at dksX5_exchange_1 11 rfl rfl)
theorem dX5_exchange_36 : decode cX5_exchange 36 = .ok (.iload_n 3, 1) := dk_29 (dk_at dksX5_exchange_1 12 rfl rfl)
theorem dX5_exchange_37 : decode cX5_exchange 37 = .ok (.iastore, 1) := dk_79 (dk_at dksX5_exchange_1 13 rfl rfl)
theorem dX5_exchange_38 : decode cX5_exchange 38 = .ok (.iinc 2 1, 3) := dk_132 2 1 (dk_at dksX5_exchange_1 14 rfl rfl)
theorem dX5_exchange_41 : decode cX5_exchange 41 = .ok (.goto (-39), 3) := dk_167 255 217 (dk_at dksX5_exchange_1 17 rfl rfl)
theorem dX5_exchange_44 : decode cX5_exchange 44 = .ok (.return_, 1) := dk_177 (dk_at dksX5_exchange_1 20 rfl rfl)
abbrev cX5_redo : ByteArray := prog_17_method_64_code
def yX5_redo : MethodName := ⟨RX5, "redo", "()Z"⟩
def dkwX5_redo_1 : List UInt8 := [180, 1, 100, 4, 96, 181, 1, 100, 42, 89, 180, 1, 103, 4, 100, 181, 1, 103, 4, 172]
abbrev dktX5_redo_1 : List UInt8 := dkwX5_redo_1 ++ []
def dkwX5_redo_0 : List UInt8 := [42, 180, 1, 103, 154, 0, 5, 3, 172, 42, 16, 28, 42, 180, 1, 100, 104, 182, 1, 164, 42, 89]
abbrev dktX5_redo_0 : List UInt8 := dkwX5_redo_0 ++ dktX5_redo_1
theorem dksX5_redo_0 : cX5_redo.data.toList.drop 0 = dktX5_redo_0 := by decide +kernel
theorem dksX5_redo_1 : cX5_redo.data.toList.drop 22 = dktX5_redo_1 := dk_seg dksX5_redo_0 22 rfl rfl
theorem dX5_redo_0 : decode cX5_redo 0 = .ok (.aload_n 0, 1) := dk_42 (dk_at dksX5_redo_0 0 rfl rfl)
theorem dX5_redo_1 : decode cX5_redo 1 = .ok (.getfield 359, 3) := dk_180 1 103 (dk_at dksX5_redo_0 1 rfl rfl)
theorem dX5_redo_4 : decode cX5_redo 4 = .ok (.ifCond .ne 5, 3) := dk_154 0 5 (dk_at dksX5_redo_0 4 rfl rfl)
theorem dX5_redo_7 : decode cX5_redo 7 = .ok (.iconst 0, 1) := dk_3 (dk_at dksX5_redo_0 7 rfl rfl)
theorem dX5_redo_8 : decode cX5_redo 8 = .ok (.ireturn, 1) := dk_172 (dk_at dksX5_redo_0 8 rfl rfl)
theorem dX5_redo_9 : decode cX5_redo 9 = .ok (.aload_n 0, 1) := dk_42 (dk_at dksX5_redo_0 9 rfl rfl)
theorem dX5_redo_10 : decode cX5_redo 10 = .ok (.bipush 28, 2) := dk_16 28 (dk_at dksX5_redo_0 10 rfl rfl)
theorem dX5_redo_12 : decode cX5_redo 12 = .ok (.aload_n 0, 1) := dk_42 (dk_at dksX5_redo_0 12 rfl rfl)
theorem dX5_redo_13 : decode cX5_redo 13 = .ok (.getfield 356, 3) := dk_180 1 100 (dk_at dksX5_redo_0 13 rfl rfl)
theorem dX5_redo_16 : decode cX5_redo 16 = .ok (.imul, 1) := dk_104 (dk_at dksX5_redo_0 16 rfl rfl)
theorem dX5_redo_17 : decode cX5_redo 17 = .ok (.invokevirtual 420, 3) := dk_182 1 164 (dk_at dksX5_redo_0 17 rfl rfl)
theorem dX5_redo_20 : decode cX5_redo 20 = .ok (.aload_n 0, 1) := dk_42 (dk_at dksX5_redo_0 20 rfl rfl)
theorem dX5_redo_21 : decode cX5_redo 21 = .ok (.dup, 1) := dk_89 (dk_at dksX5_redo_0 21 rfl rfl)
theorem dX5_redo_22 : decode cX5_redo 22 = .ok (.getfield 356, 3) := dk_180 1 100 (dk_at dksX5_redo_1 0 rfl rfl)
theorem dX5_redo_25 : decode cX5_redo 25 = .ok (.iconst 1, 1) := dk_4 (dk_at dksX5_redo_1 3 rfl rfl)
theorem dX5_redo_26 : decode cX5_redo 26 = .ok (.iadd, 1) := dk_96 (dk_at dksX5_redo_1 4 rfl rfl)
theorem dX5_redo_27 : decode cX5_redo 27 = .ok (.putfield 356, 3) := dk_181 1 100 (dk_at dksX5_redo_1 5 rfl rfl)
theorem dX5_redo_30 : decode cX5_redo 30 = .ok (.aload_n 0, 1) := dk_42 (dk_at dksX5_redo_1 8 rfl rfl)
theorem dX5_redo_31 : decode cX5_redo 31 = .ok (.dup, 1) := dk_89 (dk_at dksX5_redo_1 9 rfl rfl)
theorem dX5_redo_32 : decode cX5_redo 32 = .ok (.getfield 359, 3) := dk_180 1 103 (dk_at dksX5_redo_1 10 rfl rfl)
theorem dX5_redo_35 : decode cX5_redo 35 = .ok (.iconst 1, 1) := dk_4 (dk_at dksX5_redo_1 13 rfl rfl)
theorem dX5_redo_36 : decode cX5_redo 36 = .ok (.isub, 1) := dk_100 (dk_at dksX5_redo_1 14 rfl rfl)
theorem dX5_redo_37 : decode cX5_redo 37 = .ok (.putfield 359, 3) := dk_181 1 103 (dk_at dksX5_redo_1 15 rfl rfl)
theorem dX5_redo_40 : decode cX5_redo 40 = .ok (.iconst 1, 1) := dk_4 (dk_at dksX5_redo_1 18 rfl rfl)
theorem dX5_redo_41 : decode cX5_redo 41 = .ok (.ireturn, 1) := dk_172 (dk_at dksX5_redo_1 19 rfl rfl)
abbrev cX5_fewest : ByteArray := prog_17_method_67_code
def yX5_fewest : MethodName := ⟨RX5, "fewest", "(I)I"⟩
def dkwX5_fewest_5 : List UInt8 := [181, 1, 109, 28, 172, 132, 2, 1, 167, 255, 149, 2, 172]
abbrev dktX5_fewest_5 : List UInt8 := dkwX5_fewest_5 ++ []
def dkwX5_fewest_4 : List UInt8 := [132, 6, 1, 167, 255, 233, 132, 4, 1, 167, 255, 184, 29, 19, 1, 167, 160, 0, 6, 167, 0, 10, 42, 28]
abbrev dktX5_fewest_4 : List UInt8 := dkwX5_fewest_4 ++ dktX5_fewest_5
def dkwX5_fewest_3 : List UInt8 := [3, 54, 6, 21, 6, 28, 162, 0, 23, 42, 180, 0, 97, 21, 6, 42, 180, 0, 94, 21, 6, 46, 79]
abbrev dktX5_fewest_3 : List UInt8 := dkwX5_fewest_3 ++ dktX5_fewest_4
def dkwX5_fewest_2 : List UInt8 := [21, 4, 182, 1, 171, 54, 5, 21, 5, 155, 0, 44, 21, 5, 29, 161, 0, 6, 167, 0, 35, 21, 5, 62]
abbrev dktX5_fewest_2 : List UInt8 := dkwX5_fewest_2 ++ dktX5_fewest_3
def dkwX5_fewest_1 : List UInt8 := [19, 1, 167, 62, 3, 54, 4, 21, 4, 42, 180, 0, 82, 28, 184, 1, 168, 162, 0, 65, 42, 27, 28]
abbrev dktX5_fewest_1 : List UInt8 := dkwX5_fewest_1 ++ dktX5_fewest_2
def dkwX5_fewest_0 : List UInt8 := [42, 3, 181, 1, 109, 42, 27, 182, 1, 126, 154, 0, 5, 2, 172, 3, 61, 28, 7, 163, 0, 108]
abbrev dktX5_fewest_0 : List UInt8 := dkwX5_fewest_0 ++ dktX5_fewest_1
theorem dksX5_fewest_0 : cX5_fewest.data.toList.drop 0 = dktX5_fewest_0 := by decide +kernel
theorem dksX5_fewest_1 : cX5_fewest.data.toList.drop 22 = dktX5_fewest_1 := dk_seg dksX5_fewest_0 22 rfl rfl
theorem dksX5_fewest_2 : cX5_fewest.data.toList.drop 45 = dktX5_fewest_2 := dk_seg dksX5_fewest_1 23 rfl rfl
theorem dksX5_fewest_3 : cX5_fewest.data.toList.drop 69 = dktX5_fewest_3 := dk_seg dksX5_fewest_2 24 rfl rfl
theorem dksX5_fewest_4 : cX5_fewest.data.toList.drop 92 = dktX5_fewest_4 := dk_seg dksX5_fewest_3 23 rfl rfl
theorem dksX5_fewest_5 : cX5_fewest.data.toList.drop 116 = dktX5_fewest_5 := dk_seg dksX5_fewest_4 24 rfl rfl
theorem dX5_fewest_0 : decode cX5_fewest 0 = .ok (.aload_n 0, 1) := dk_42 (dk_at dksX5_fewest_0 0 rfl rfl)
theorem dX5_fewest_1 : decode cX5_fewest 1 = .ok (.iconst 0, 1) := dk_3 (dk_at dksX5_fewest_0 1 rfl rfl)
theorem dX5_fewest_2 : decode cX5_fewest 2 = .ok (.putfield 365, 3) := dk_181 1 109 (dk_at dksX5_fewest_0 2 rfl rfl)
theorem dX5_fewest_5 : decode cX5_fewest 5 = .ok (.aload_n 0, 1) := dk_42 (dk_at dksX5_fewest_0 5 rfl rfl)
theorem dX5_fewest_6 : decode cX5_fewest 6 = .ok (.iload_n 1, 1) := dk_27 (dk_at dksX5_fewest_0 6 rfl rfl)
theorem dX5_fewest_7 : decode cX5_fewest 7 = .ok (.invokevirtual 382, 3) := dk_182 1 126 (dk_at dksX5_fewest_0 7 rfl rfl)
theorem dX5_fewest_10 : decode cX5_fewest 10 = .ok (.ifCond .ne 5, 3) := dk_154 0 5 (dk_at dksX5_fewest_0 10 rfl rfl)
theorem dX5_fewest_13 : decode cX5_fewest 13 = .ok (.iconst (-1), 1) := dk_2 (dk_at dksX5_fewest_0 13 rfl rfl)
theorem dX5_fewest_14 : decode cX5_fewest 14 = .ok (.ireturn, 1) := dk_172 (dk_at dksX5_fewest_0 14 rfl rfl)
theorem dX5_fewest_15 : decode cX5_fewest 15 = .ok (.iconst 0, 1) := dk_3 (dk_at dksX5_fewest_0 15 rfl rfl)
theorem dX5_fewest_16 : decode cX5_fewest 16 = .ok (.istore_n 2, 1) := dk_61 (dk_at dksX5_fewest_0 16 rfl rfl)
theorem dX5_fewest_17 : decode cX5_fewest 17 = .ok (.iload_n 2, 1) := dk_28 (dk_at dksX5_fewest_0 17 rfl rfl)
theorem dX5_fewest_18 : decode cX5_fewest 18 = .ok (.iconst 4, 1) := dk_7 (dk_at dksX5_fewest_0 18 rfl rfl)
theorem dX5_fewest_19 : decode cX5_fewest 19 = .ok (.if_icmp .gt 108, 3) := dk_163 0 108 (dk_at dksX5_fewest_0 19 rfl rfl)
theorem dX5_fewest_22 : decode cX5_fewest 22 = .ok (.ldc_w 423, 3) := dk_19 1 167 (dk_at dksX5_fewest_1 0 rfl rfl)
theorem dX5_fewest_25 : decode cX5_fewest 25 = .ok (.istore_n 3, 1) := dk_62 (dk_at dksX5_fewest_1 3 rfl rfl)
theorem dX5_fewest_26 : decode cX5_fewest 26 = .ok (.iconst 0, 1) := dk_3 (dk_at dksX5_fewest_1 4 rfl rfl)
theorem dX5_fewest_27 : decode cX5_fewest 27 = .ok (.istore 4, 2) := dk_54 4 (dk_at dksX5_fewest_1 5 rfl rfl)
theorem dX5_fewest_29 : decode cX5_fewest 29 = .ok (.iload 4, 2) := dk_21 4 (dk_at dksX5_fewest_1 7 rfl rfl)
theorem dX5_fewest_31 : decode cX5_fewest 31 = .ok (.aload_n 0, 1) := dk_42 (dk_at dksX5_fewest_1 9 rfl rfl)
theorem dX5_fewest_32 : decode cX5_fewest 32 = .ok (.getfield 82, 3) := dk_180 0 82 (dk_at dksX5_fewest_1 10 rfl rfl)
theorem dX5_fewest_35 : decode cX5_fewest 35 = .ok (.iload_n 2, 1) := dk_28 (dk_at dksX5_fewest_1 13 rfl rfl)
theorem dX5_fewest_36 : decode cX5_fewest 36 = .ok (.invokestatic 424, 3) := dk_184 1 168 (dk_at dksX5_fewest_1 14 rfl rfl)
theorem dX5_fewest_39 : decode cX5_fewest 39 = .ok (.if_icmp .ge 65, 3) := dk_162 0 65 (dk_at dksX5_fewest_1 17 rfl rfl)
theorem dX5_fewest_42 : decode cX5_fewest 42 = .ok (.aload_n 0, 1) := dk_42 (dk_at dksX5_fewest_1 20 rfl rfl)
theorem dX5_fewest_43 : decode cX5_fewest 43 = .ok (.iload_n 1, 1) := dk_27 (dk_at dksX5_fewest_1 21 rfl rfl)
theorem dX5_fewest_44 : decode cX5_fewest 44 = .ok (.iload_n 2, 1) := dk_28 (dk_at dksX5_fewest_1 22 rfl rfl)
theorem dX5_fewest_45 : decode cX5_fewest 45 = .ok (.iload 4, 2) := dk_21 4 (dk_at dksX5_fewest_2 0 rfl rfl)
theorem dX5_fewest_47 : decode cX5_fewest 47 = .ok (.invokevirtual 427, 3) := dk_182 1 171 (dk_at dksX5_fewest_2 2 rfl rfl)
theorem dX5_fewest_50 : decode cX5_fewest 50 = .ok (.istore 5, 2) := dk_54 5 (dk_at dksX5_fewest_2 5 rfl rfl)
theorem dX5_fewest_52 : decode cX5_fewest 52 = .ok (.iload 5, 2) := dk_21 5 (dk_at dksX5_fewest_2 7 rfl rfl)
theorem dX5_fewest_54 : decode cX5_fewest 54 = .ok (.ifCond .lt 44, 3) := dk_155 0 44 (dk_at dksX5_fewest_2 9 rfl rfl)
theorem dX5_fewest_57 : decode cX5_fewest 57 = .ok (.iload 5, 2) := dk_21 5 (dk_at dksX5_fewest_2 12 rfl rfl)
theorem dX5_fewest_59 : decode cX5_fewest 59 = .ok (.iload_n 3, 1) := dk_29 (dk_at dksX5_fewest_2 14 rfl rfl)
theorem dX5_fewest_60 : decode cX5_fewest 60 = .ok (.if_icmp .lt 6, 3) := dk_161 0 6 (dk_at dksX5_fewest_2 15 rfl rfl)
theorem dX5_fewest_63 : decode cX5_fewest 63 = .ok (.goto 35, 3) := dk_167 0 35 (dk_at dksX5_fewest_2 18 rfl rfl)
theorem dX5_fewest_66 : decode cX5_fewest 66 = .ok (.iload 5, 2) := dk_21 5 (dk_at dksX5_fewest_2 21 rfl rfl)
theorem dX5_fewest_68 : decode cX5_fewest 68 = .ok (.istore_n 3, 1) := dk_62 (dk_at dksX5_fewest_2 23 rfl rfl)
theorem dX5_fewest_69 : decode cX5_fewest 69 = .ok (.iconst 0, 1) := dk_3 (dk_at dksX5_fewest_3 0 rfl rfl)
theorem dX5_fewest_70 : decode cX5_fewest 70 = .ok (.istore 6, 2) := dk_54 6 (dk_at dksX5_fewest_3 1 rfl rfl)
theorem dX5_fewest_72 : decode cX5_fewest 72 = .ok (.iload 6, 2) := dk_21 6 (dk_at dksX5_fewest_3 3 rfl rfl)
theorem dX5_fewest_74 : decode cX5_fewest 74 = .ok (.iload_n 2, 1) := dk_28 (dk_at dksX5_fewest_3 5 rfl rfl)
theorem dX5_fewest_75 : decode cX5_fewest 75 = .ok (.if_icmp .ge 23, 3) := dk_162 0 23 (dk_at dksX5_fewest_3 6 rfl rfl)
theorem dX5_fewest_78 : decode cX5_fewest 78 = .ok (.aload_n 0, 1) := dk_42 (dk_at dksX5_fewest_3 9 rfl rfl)
theorem dX5_fewest_79 : decode cX5_fewest 79 = .ok (.getfield 97, 3) := dk_180 0 97 (dk_at dksX5_fewest_3 10 rfl rfl)
theorem dX5_fewest_82 : decode cX5_fewest 82 = .ok (.iload 6, 2) := dk_21 6 (dk_at dksX5_fewest_3 13 rfl rfl)
theorem dX5_fewest_84 : decode cX5_fewest 84 = .ok (.aload_n 0, 1) := dk_42 (dk_at dksX5_fewest_3 15 rfl rfl)
theorem dX5_fewest_85 : decode cX5_fewest 85 = .ok (.getfield 94, 3) := dk_180 0 94 (dk_at dksX5_fewest_3 16 rfl rfl)
theorem dX5_fewest_88 : decode cX5_fewest 88 = .ok (.iload 6, 2) := dk_21 6 (dk_at dksX5_fewest_3 19 rfl rfl)
theorem dX5_fewest_90 : decode cX5_fewest 90 = .ok (.iaload, 1) := dk_46 (dk_at dksX5_fewest_3 21 rfl rfl)
theorem dX5_fewest_91 : decode cX5_fewest 91 = .ok (.iastore, 1) := dk_79 (dk_at dksX5_fewest_3 22 rfl rfl)
theorem dX5_fewest_92 : decode cX5_fewest 92 = .ok (.iinc 6 1, 3) := dk_132 6 1 (dk_at dksX5_fewest_4 0 rfl rfl)
theorem dX5_fewest_95 : decode cX5_fewest 95 = .ok (.goto (-23), 3) := dk_167 255 233 (dk_at dksX5_fewest_4 3 rfl rfl)
theorem dX5_fewest_98 : decode cX5_fewest 98 = .ok (.iinc 4 1, 3) := dk_132 4 1 (dk_at dksX5_fewest_4 6 rfl rfl)
theorem dX5_fewest_101 : decode cX5_fewest 101 = .ok (.goto (-72), 3) := dk_167 255 184 (dk_at dksX5_fewest_4 9 rfl rfl)
theorem dX5_fewest_104 : decode cX5_fewest 104 = .ok (.iload_n 3, 1) := dk_29 (dk_at dksX5_fewest_4 12 rfl rfl)
theorem dX5_fewest_105 : decode cX5_fewest 105 = .ok (.ldc_w 423, 3) := dk_19 1 167 (dk_at dksX5_fewest_4 13 rfl rfl)
theorem dX5_fewest_108 : decode cX5_fewest 108 = .ok (.if_icmp .ne 6, 3) := dk_160 0 6 (dk_at dksX5_fewest_4 16 rfl rfl)
theorem dX5_fewest_111 : decode cX5_fewest 111 = .ok (.goto 10, 3) := dk_167 0 10 (dk_at dksX5_fewest_4 19 rfl rfl)
theorem dX5_fewest_114 : decode cX5_fewest 114 = .ok (.aload_n 0, 1) := dk_42 (dk_at dksX5_fewest_4 22 rfl rfl)
theorem dX5_fewest_115 : decode cX5_fewest 115 = .ok (.iload_n 2, 1) := dk_28 (dk_at dksX5_fewest_4 23 rfl rfl)
theorem dX5_fewest_116 : decode cX5_fewest 116 = .ok (.putfield 365, 3) := dk_181 1 109 (dk_at dksX5_fewest_5 0 rfl rfl)
theorem dX5_fewest_119 : decode cX5_fewest 119 = .ok (.iload_n 2, 1) := dk_28 (dk_at dksX5_fewest_5 3 rfl rfl)
theorem dX5_fewest_120 : decode cX5_fewest 120 = .ok (.ireturn, 1) := dk_172 (dk_at dksX5_fewest_5 4 rfl rfl)
theorem dX5_fewest_121 : decode cX5_fewest 121 = .ok (.iinc 2 1, 3) := dk_132 2 1 (dk_at dksX5_fewest_5 5 rfl rfl)
theorem dX5_fewest_124 : decode cX5_fewest 124 = .ok (.goto (-107), 3) := dk_167 255 149 (dk_at dksX5_fewest_5 8 rfl rfl)
theorem dX5_fewest_127 : decode cX5_fewest 127 = .ok (.iconst (-1), 1) := dk_2 (dk_at dksX5_fewest_5 11 rfl rfl)
theorem dX5_fewest_128 : decode cX5_fewest 128 = .ok (.ireturn, 1) := dk_172 (dk_at dksX5_fewest_5 12 rfl rfl)
abbrev cX5_power : ByteArray := prog_17_method_65_code
def yX5_power : MethodName := ⟨RX5, "power", "(II)I"⟩
def dkwX5_power_0 : List UInt8 := [4, 61, 3, 62, 29, 27, 162, 0, 13, 28, 26, 104, 61, 132, 3, 1, 167, 255, 244, 28, 172]
abbrev dktX5_power_0 : List UInt8 := dkwX5_power_0 ++ []
theorem dksX5_power_0 : cX5_power.data.toList.drop 0 = dktX5_power_0 := by decide +kernel
theorem dX5_power_0 : decode cX5_power 0 = .ok (.iconst 1, 1) := dk_4 (dk_at dksX5_power_0 0 rfl rfl)
theorem dX5_power_1 : decode cX5_power 1 = .ok (.istore_n 2, 1) := dk_61 (dk_at dksX5_power_0 1 rfl rfl)
theorem dX5_power_2 : decode cX5_power 2 = .ok (.iconst 0, 1) := dk_3 (dk_at dksX5_power_0 2 rfl rfl)
theorem dX5_power_3 : decode cX5_power 3 = .ok (.istore_n 3, 1) := dk_62 (dk_at dksX5_power_0 3 rfl rfl)
theorem dX5_power_4 : decode cX5_power 4 = .ok (.iload_n 3, 1) := dk_29 (dk_at dksX5_power_0 4 rfl rfl)
theorem dX5_power_5 : decode cX5_power 5 = .ok (.iload_n 1, 1) := dk_27 (dk_at dksX5_power_0 5 rfl rfl)
theorem dX5_power_6 : decode cX5_power 6 = .ok (.if_icmp .ge 13, 3) := dk_162 0 13 (dk_at dksX5_power_0 6 rfl rfl)
theorem dX5_power_9 : decode cX5_power 9 = .ok (.iload_n 2, 1) := dk_28 (dk_at dksX5_power_0 9 rfl rfl)
theorem dX5_power_10 : decode cX5_power 10 = .ok (.iload_n 0, 1) := dk_26 (dk_at dksX5_power_0 10 rfl rfl)
theorem dX5_power_11 : decode cX5_power 11 = .ok (.imul, 1) := dk_104 (dk_at dksX5_power_0 11 rfl rfl)
theorem dX5_power_12 : decode cX5_power 12 = .ok (.istore_n 2, 1) := dk_61 (dk_at dksX5_power_0 12 rfl rfl)
theorem dX5_power_13 : decode cX5_power 13 = .ok (.iinc 3 1, 3) := dk_132 3 1 (dk_at dksX5_power_0 13 rfl rfl)
theorem dX5_power_16 : decode cX5_power 16 = .ok (.goto (-12), 3) := dk_167 255 244 (dk_at dksX5_power_0 16 rfl rfl)
theorem dX5_power_19 : decode cX5_power 19 = .ok (.iload_n 2, 1) := dk_28 (dk_at dksX5_power_0 19 rfl rfl)
theorem dX5_power_20 : decode cX5_power 20 = .ok (.ireturn, 1) := dk_172 (dk_at dksX5_power_0 20 rfl rfl)
abbrev cX5_paidBy : ByteArray := prog_17_method_66_code
def yX5_paidBy : MethodName := ⟨RX5, "paidBy", "(III)I"⟩
def dkwX5_paidBy_5 : List UInt8 := [182, 1, 141, 154, 0, 8, 21, 5, 167, 0, 4, 2, 172]
abbrev dktX5_paidBy_5 : List UInt8 := dkwX5_paidBy_5 ++ []
def dkwX5_paidBy_4 : List UInt8 := [42, 42, 180, 0, 94, 21, 6, 46, 2, 3, 182, 1, 148, 182, 1, 154, 132, 6, 1, 167, 255, 221, 42, 27]
abbrev dktX5_paidBy_4 : List UInt8 := dkwX5_paidBy_4 ++ dktX5_paidBy_5
def dkwX5_paidBy_3 : List UInt8 := [172, 42, 182, 1, 138, 3, 54, 6, 21, 6, 28, 162, 0, 35, 42, 27, 42, 180, 0, 94, 21, 6, 46, 2]
abbrev dktX5_paidBy_3 : List UInt8 := dkwX5_paidBy_3 ++ dktX5_paidBy_4
def dkwX5_paidBy_2 : List UInt8 := [21, 6, 46, 96, 54, 5, 132, 6, 255, 167, 255, 211, 21, 5, 42, 180, 0, 85, 27, 46, 164, 0, 5, 2]
abbrev dktX5_paidBy_2 : List UInt8 := dkwX5_paidBy_2 ++ dktX5_paidBy_3
def dkwX5_paidBy_1 : List UInt8 := [21, 4, 42, 180, 0, 82, 112, 96, 79, 21, 4, 42, 180, 0, 82, 108, 54, 4, 21, 5, 42, 180, 0, 94]
abbrev dktX5_paidBy_1 : List UInt8 := dkwX5_paidBy_1 ++ dktX5_paidBy_2
def dkwX5_paidBy_0 : List UInt8 := [29, 54, 4, 3, 54, 5, 28, 4, 100, 54, 6, 21, 6, 155, 0, 46, 42, 180, 0, 94, 21, 6, 4]
abbrev dktX5_paidBy_0 : List UInt8 := dkwX5_paidBy_0 ++ dktX5_paidBy_1
theorem dksX5_paidBy_0 : cX5_paidBy.data.toList.drop 0 = dktX5_paidBy_0 := by decide +kernel
theorem dksX5_paidBy_1 : cX5_paidBy.data.toList.drop 23 = dktX5_paidBy_1 := dk_seg dksX5_paidBy_0 23 rfl rfl
theorem dksX5_paidBy_2 : cX5_paidBy.data.toList.drop 47 = dktX5_paidBy_2 := dk_seg dksX5_paidBy_1 24 rfl rfl
theorem dksX5_paidBy_3 : cX5_paidBy.data.toList.drop 71 = dktX5_paidBy_3 := dk_seg dksX5_paidBy_2 24 rfl rfl
theorem dksX5_paidBy_4 : cX5_paidBy.data.toList.drop 95 = dktX5_paidBy_4 := dk_seg dksX5_paidBy_3 24 rfl rfl
theorem dksX5_paidBy_5 : cX5_paidBy.data.toList.drop 119 = dktX5_paidBy_5 := dk_seg dksX5_paidBy_4 24 rfl rfl
theorem dX5_paidBy_0 : decode cX5_paidBy 0 = .ok (.iload_n 3, 1) := dk_29 (dk_at dksX5_paidBy_0 0 rfl rfl)
theorem dX5_paidBy_1 : decode cX5_paidBy 1 = .ok (.istore 4, 2) := dk_54 4 (dk_at dksX5_paidBy_0 1 rfl rfl)
theorem dX5_paidBy_3 : decode cX5_paidBy 3 = .ok (.iconst 0, 1) := dk_3 (dk_at dksX5_paidBy_0 3 rfl rfl)
theorem dX5_paidBy_4 : decode cX5_paidBy 4 = .ok (.istore 5, 2) := dk_54 5 (dk_at dksX5_paidBy_0 4 rfl rfl)
theorem dX5_paidBy_6 : decode cX5_paidBy 6 = .ok (.iload_n 2, 1) := dk_28 (dk_at dksX5_paidBy_0 6 rfl rfl)
theorem dX5_paidBy_7 : decode cX5_paidBy 7 = .ok (.iconst 1, 1) := dk_4 (dk_at dksX5_paidBy_0 7 rfl rfl)
theorem dX5_paidBy_8 : decode cX5_paidBy 8 = .ok (.isub, 1) := dk_100 (dk_at dksX5_paidBy_0 8 rfl rfl)
theorem dX5_paidBy_9 : decode cX5_paidBy 9 = .ok (.istore 6, 2) := dk_54 6 (dk_at dksX5_paidBy_0 9 rfl rfl)
theorem dX5_paidBy_11 : decode cX5_paidBy 11 = .ok (.iload 6, 2) := dk_21 6 (dk_at dksX5_paidBy_0 11 rfl rfl)
theorem dX5_paidBy_13 : decode cX5_paidBy 13 = .ok (.ifCond .lt 46, 3) := dk_155 0 46 (dk_at dksX5_paidBy_0 13 rfl rfl)
theorem dX5_paidBy_16 : decode cX5_paidBy 16 = .ok (.aload_n 0, 1) := dk_42 (dk_at dksX5_paidBy_0 16 rfl rfl)
theorem dX5_paidBy_17 : decode cX5_paidBy 17 = .ok (.getfield 94, 3) := dk_180 0 94 (dk_at dksX5_paidBy_0 17 rfl rfl)
theorem dX5_paidBy_20 : decode cX5_paidBy 20 = .ok (.iload 6, 2) := dk_21 6 (dk_at dksX5_paidBy_0 20 rfl rfl)
theorem dX5_paidBy_22 : decode cX5_paidBy 22 = .ok (.iconst 1, 1) := dk_4 (dk_at dksX5_paidBy_0 22 rfl rfl)
theorem dX5_paidBy_23 : decode cX5_paidBy 23 = .ok (.iload 4, 2) := dk_21 4 (dk_at dksX5_paidBy_1 0 rfl rfl)
theorem dX5_paidBy_25 : decode cX5_paidBy 25 = .ok (.aload_n 0, 1) := dk_42 (dk_at dksX5_paidBy_1 2 rfl rfl)
theorem dX5_paidBy_26 : decode cX5_paidBy 26 = .ok (.getfield 82, 3) := dk_180 0 82 (dk_at dksX5_paidBy_1 3 rfl rfl)
theorem dX5_paidBy_29 : decode cX5_paidBy 29 = .ok (.irem, 1) := dk_112 (dk_at dksX5_paidBy_1 6 rfl rfl)
theorem dX5_paidBy_30 : decode cX5_paidBy 30 = .ok (.iadd, 1) := dk_96 (dk_at dksX5_paidBy_1 7 rfl rfl)
theorem dX5_paidBy_31 : decode cX5_paidBy 31 = .ok (.iastore, 1) := dk_79 (dk_at dksX5_paidBy_1 8 rfl rfl)
theorem dX5_paidBy_32 : decode cX5_paidBy 32 = .ok (.iload 4, 2) := dk_21 4 (dk_at dksX5_paidBy_1 9 rfl rfl)
theorem dX5_paidBy_34 : decode cX5_paidBy 34 = .ok (.aload_n 0, 1) := dk_42 (dk_at dksX5_paidBy_1 11 rfl rfl)
theorem dX5_paidBy_35 : decode cX5_paidBy 35 = .ok (.getfield 82, 3) := dk_180 0 82 (dk_at dksX5_paidBy_1 12 rfl rfl)
theorem dX5_paidBy_38 : decode cX5_paidBy 38 = .ok (.idiv, 1) := dk_108 (dk_at dksX5_paidBy_1 15 rfl rfl)
theorem dX5_paidBy_39 : decode cX5_paidBy 39 = .ok (.istore 4, 2) := dk_54 4 (dk_at dksX5_paidBy_1 16 rfl rfl)
theorem dX5_paidBy_41 : decode cX5_paidBy 41 = .ok (.iload 5, 2) := dk_21 5 (dk_at dksX5_paidBy_1 18 rfl rfl)
theorem dX5_paidBy_43 : decode cX5_paidBy 43 = .ok (.aload_n 0, 1) := dk_42 (dk_at dksX5_paidBy_1 20 rfl rfl)
theorem dX5_paidBy_44 : decode cX5_paidBy 44 = .ok (.getfield 94, 3) := dk_180 0 94 (dk_at dksX5_paidBy_1 21 rfl rfl)
theorem dX5_paidBy_47 : decode cX5_paidBy 47 = .ok (.iload 6, 2) := dk_21 6 (dk_at dksX5_paidBy_2 0 rfl rfl)
theorem dX5_paidBy_49 : decode cX5_paidBy 49 = .ok (.iaload, 1) := dk_46 (dk_at dksX5_paidBy_2 2 rfl rfl)
theorem dX5_paidBy_50 : decode cX5_paidBy 50 = .ok (.iadd, 1) := dk_96 (dk_at dksX5_paidBy_2 3 rfl rfl)
theorem dX5_paidBy_51 : decode cX5_paidBy 51 = .ok (.istore 5, 2) := dk_54 5 (dk_at dksX5_paidBy_2 4 rfl rfl)
theorem dX5_paidBy_53 : decode cX5_paidBy 53 = .ok (.iinc 6 (-1), 3) := dk_132 6 255 (dk_at dksX5_paidBy_2 6 rfl rfl)
theorem dX5_paidBy_56 : decode cX5_paidBy 56 = .ok (.goto (-45), 3) := dk_167 255 211 (dk_at dksX5_paidBy_2 9 rfl rfl)
theorem dX5_paidBy_59 : decode cX5_paidBy 59 = .ok (.iload 5, 2) := dk_21 5 (dk_at dksX5_paidBy_2 12 rfl rfl)
theorem dX5_paidBy_61 : decode cX5_paidBy 61 = .ok (.aload_n 0, 1) := dk_42 (dk_at dksX5_paidBy_2 14 rfl rfl)
theorem dX5_paidBy_62 : decode cX5_paidBy 62 = .ok (.getfield 85, 3) := dk_180 0 85 (dk_at dksX5_paidBy_2 15 rfl rfl)
theorem dX5_paidBy_65 : decode cX5_paidBy 65 = .ok (.iload_n 1, 1) := dk_27 (dk_at dksX5_paidBy_2 18 rfl rfl)
theorem dX5_paidBy_66 : decode cX5_paidBy 66 = .ok (.iaload, 1) := dk_46 (dk_at dksX5_paidBy_2 19 rfl rfl)
theorem dX5_paidBy_67 : decode cX5_paidBy 67 = .ok (.if_icmp .le 5, 3) := dk_164 0 5 (dk_at dksX5_paidBy_2 20 rfl rfl)
theorem dX5_paidBy_70 : decode cX5_paidBy 70 = .ok (.iconst (-1), 1) := dk_2 (dk_at dksX5_paidBy_2 23 rfl rfl)
theorem dX5_paidBy_71 : decode cX5_paidBy 71 = .ok (.ireturn, 1) := dk_172 (dk_at dksX5_paidBy_3 0 rfl rfl)
theorem dX5_paidBy_72 : decode cX5_paidBy 72 = .ok (.aload_n 0, 1) := dk_42 (dk_at dksX5_paidBy_3 1 rfl rfl)
theorem dX5_paidBy_73 : decode cX5_paidBy 73 = .ok (.invokevirtual 394, 3) := dk_182 1 138 (dk_at dksX5_paidBy_3 2 rfl rfl)
theorem dX5_paidBy_76 : decode cX5_paidBy 76 = .ok (.iconst 0, 1) := dk_3 (dk_at dksX5_paidBy_3 5 rfl rfl)
theorem dX5_paidBy_77 : decode cX5_paidBy 77 = .ok (.istore 6, 2) := dk_54 6 (dk_at dksX5_paidBy_3 6 rfl rfl)
theorem dX5_paidBy_79 : decode cX5_paidBy 79 = .ok (.iload 6, 2) := dk_21 6 (dk_at dksX5_paidBy_3 8 rfl rfl)
theorem dX5_paidBy_81 : decode cX5_paidBy 81 = .ok (.iload_n 2, 1) := dk_28 (dk_at dksX5_paidBy_3 10 rfl rfl)
theorem dX5_paidBy_82 : decode cX5_paidBy 82 = .ok (.if_icmp .ge 35, 3) := dk_162 0 35 (dk_at dksX5_paidBy_3 11 rfl rfl)
theorem dX5_paidBy_85 : decode cX5_paidBy 85 = .ok (.aload_n 0, 1) := dk_42 (dk_at dksX5_paidBy_3 14 rfl rfl)
theorem dX5_paidBy_86 : decode cX5_paidBy 86 = .ok (.iload_n 1, 1) := dk_27 (dk_at dksX5_paidBy_3 15 rfl rfl)
theorem dX5_paidBy_87 : decode cX5_paidBy 87 = .ok (.aload_n 0, 1) := dk_42 (dk_at dksX5_paidBy_3 16 rfl rfl)
theorem dX5_paidBy_88 : decode cX5_paidBy 88 = .ok (.getfield 94, 3) := dk_180 0 94 (dk_at dksX5_paidBy_3 17 rfl rfl)
theorem dX5_paidBy_91 : decode cX5_paidBy 91 = .ok (.iload 6, 2) := dk_21 6 (dk_at dksX5_paidBy_3 20 rfl rfl)
theorem dX5_paidBy_93 : decode cX5_paidBy 93 = .ok (.iaload, 1) := dk_46 (dk_at dksX5_paidBy_3 22 rfl rfl)
theorem dX5_paidBy_94 : decode cX5_paidBy 94 = .ok (.iconst (-1), 1) := dk_2 (dk_at dksX5_paidBy_3 23 rfl rfl)
theorem dX5_paidBy_95 : decode cX5_paidBy 95 = .ok (.aload_n 0, 1) := dk_42 (dk_at dksX5_paidBy_4 0 rfl rfl)
theorem dX5_paidBy_96 : decode cX5_paidBy 96 = .ok (.aload_n 0, 1) := dk_42 (dk_at dksX5_paidBy_4 1 rfl rfl)
theorem dX5_paidBy_97 : decode cX5_paidBy 97 = .ok (.getfield 94, 3) := dk_180 0 94 (dk_at dksX5_paidBy_4 2 rfl rfl)
theorem dX5_paidBy_100 : decode cX5_paidBy 100 = .ok (.iload 6, 2) := dk_21 6 (dk_at dksX5_paidBy_4 5 rfl rfl)
theorem dX5_paidBy_102 : decode cX5_paidBy 102 = .ok (.iaload, 1) := dk_46 (dk_at dksX5_paidBy_4 7 rfl rfl)
theorem dX5_paidBy_103 : decode cX5_paidBy 103 = .ok (.iconst (-1), 1) := dk_2 (dk_at dksX5_paidBy_4 8 rfl rfl)
theorem dX5_paidBy_104 : decode cX5_paidBy 104 = .ok (.iconst 0, 1) := dk_3 (dk_at dksX5_paidBy_4 9 rfl rfl)
theorem dX5_paidBy_105 : decode cX5_paidBy 105 = .ok (.invokevirtual 404, 3) := dk_182 1 148 (dk_at dksX5_paidBy_4 10 rfl rfl)
theorem dX5_paidBy_108 : decode cX5_paidBy 108 = .ok (.invokevirtual 410, 3) := dk_182 1 154 (dk_at dksX5_paidBy_4 13 rfl rfl)
theorem dX5_paidBy_111 : decode cX5_paidBy 111 = .ok (.iinc 6 1, 3) := dk_132 6 1 (dk_at dksX5_paidBy_4 16 rfl rfl)
theorem dX5_paidBy_114 : decode cX5_paidBy 114 = .ok (.goto (-35), 3) := dk_167 255 221 (dk_at dksX5_paidBy_4 19 rfl rfl)
theorem dX5_paidBy_117 : decode cX5_paidBy 117 = .ok (.aload_n 0, 1) := dk_42 (dk_at dksX5_paidBy_4 22 rfl rfl)
theorem dX5_paidBy_118 : decode cX5_paidBy 118 = .ok (.iload_n 1, 1) := dk_27 (dk_at dksX5_paidBy_4 23 rfl rfl)
theorem dX5_paidBy_119 : decode cX5_paidBy 119 = .ok (.invokevirtual 397, 3) := dk_182 1 141 (dk_at dksX5_paidBy_5 0 rfl rfl)
theorem dX5_paidBy_122 : decode cX5_paidBy 122 = .ok (.ifCond .ne 8, 3) := dk_154 0 8 (dk_at dksX5_paidBy_5 3 rfl rfl)
theorem dX5_paidBy_125 : decode cX5_paidBy 125 = .ok (.iload 5, 2) := dk_21 5 (dk_at dksX5_paidBy_5 6 rfl rfl)
theorem dX5_paidBy_127 : decode cX5_paidBy 127 = .ok (.goto 4, 3) := dk_167 0 4 (dk_at dksX5_paidBy_5 8 rfl rfl)
theorem dX5_paidBy_130 : decode cX5_paidBy 130 = .ok (.iconst (-1), 1) := dk_2 (dk_at dksX5_paidBy_5 11 rfl rfl)
theorem dX5_paidBy_131 : decode cX5_paidBy 131 = .ok (.ireturn, 1) := dk_172 (dk_at dksX5_paidBy_5 12 rfl rfl)
abbrev cX5_carries : ByteArray := prog_17_method_69_code
def yX5_carries : MethodName := ⟨RX5, "carries", "(II)I"⟩
def dkwX5_carries_1 : List UInt8 := [182, 1, 138, 42, 27, 28, 182, 1, 174, 172]
abbrev dktX5_carries_1 : List UInt8 := dkwX5_carries_1 ++ []
def dkwX5_carries_0 : List UInt8 := [42, 27, 182, 1, 126, 153, 0, 16, 42, 28, 182, 1, 126, 153, 0, 8, 27, 28, 160, 0, 5, 2, 172, 42]
abbrev dktX5_carries_0 : List UInt8 := dkwX5_carries_0 ++ dktX5_carries_1
theorem dksX5_carries_0 : cX5_carries.data.toList.drop 0 = dktX5_carries_0 := by decide +kernel
theorem dksX5_carries_1 : cX5_carries.data.toList.drop 24 = dktX5_carries_1 := dk_seg dksX5_carries_0 24 rfl rfl
theorem dX5_carries_0 : decode cX5_carries 0 = .ok (.aload_n 0, 1) := dk_42 (dk_at dksX5_carries_0 0 rfl rfl)
theorem dX5_carries_1 : decode cX5_carries 1 = .ok (.iload_n 1, 1) := dk_27 (dk_at dksX5_carries_0 1 rfl rfl)
theorem dX5_carries_2 : decode cX5_carries 2 = .ok (.invokevirtual 382, 3) := dk_182 1 126 (dk_at dksX5_carries_0 2 rfl rfl)
theorem dX5_carries_5 : decode cX5_carries 5 = .ok (.ifCond .eq 16, 3) := dk_153 0 16 (dk_at dksX5_carries_0 5 rfl rfl)
theorem dX5_carries_8 : decode cX5_carries 8 = .ok (.aload_n 0, 1) := dk_42 (dk_at dksX5_carries_0 8 rfl rfl)
theorem dX5_carries_9 : decode cX5_carries 9 = .ok (.iload_n 2, 1) := dk_28 (dk_at dksX5_carries_0 9 rfl rfl)
theorem dX5_carries_10 : decode cX5_carries 10 = .ok (.invokevirtual 382, 3) := dk_182 1 126 (dk_at dksX5_carries_0 10 rfl rfl)
theorem dX5_carries_13 : decode cX5_carries 13 = .ok (.ifCond .eq 8, 3) := dk_153 0 8 (dk_at dksX5_carries_0 13 rfl rfl)
theorem dX5_carries_16 : decode cX5_carries 16 = .ok (.iload_n 1, 1) := dk_27 (dk_at dksX5_carries_0 16 rfl rfl)
theorem dX5_carries_17 : decode cX5_carries 17 = .ok (.iload_n 2, 1) := dk_28 (dk_at dksX5_carries_0 17 rfl rfl)
theorem dX5_carries_18 : decode cX5_carries 18 = .ok (.if_icmp .ne 5, 3) := dk_160 0 5 (dk_at dksX5_carries_0 18 rfl rfl)
theorem dX5_carries_21 : decode cX5_carries 21 = .ok (.iconst (-1), 1) := dk_2 (dk_at dksX5_carries_0 21 rfl rfl)
theorem dX5_carries_22 : decode cX5_carries 22 = .ok (.ireturn, 1) := dk_172 (dk_at dksX5_carries_0 22 rfl rfl)
theorem dX5_carries_23 : decode cX5_carries 23 = .ok (.aload_n 0, 1) := dk_42 (dk_at dksX5_carries_0 23 rfl rfl)
theorem dX5_carries_24 : decode cX5_carries 24 = .ok (.invokevirtual 394, 3) := dk_182 1 138 (dk_at dksX5_carries_1 0 rfl rfl)
theorem dX5_carries_27 : decode cX5_carries 27 = .ok (.aload_n 0, 1) := dk_42 (dk_at dksX5_carries_1 3 rfl rfl)
theorem dX5_carries_28 : decode cX5_carries 28 = .ok (.iload_n 1, 1) := dk_27 (dk_at dksX5_carries_1 4 rfl rfl)
theorem dX5_carries_29 : decode cX5_carries 29 = .ok (.iload_n 2, 1) := dk_28 (dk_at dksX5_carries_1 5 rfl rfl)
theorem dX5_carries_30 : decode cX5_carries 30 = .ok (.invokevirtual 430, 3) := dk_182 1 174 (dk_at dksX5_carries_1 6 rfl rfl)
theorem dX5_carries_33 : decode cX5_carries 33 = .ok (.ireturn, 1) := dk_172 (dk_at dksX5_carries_1 9 rfl rfl)
abbrev cX5_carriesOf : ByteArray := prog_17_method_68_code
def yX5_carriesOf : MethodName := ⟨RX5, "carriesOf", "(II)I"⟩
def dkwX5_carriesOf_1 : List UInt8 := [180, 0, 88, 27, 46, 163, 0, 6, 21, 4, 62, 132, 4, 1, 167, 255, 225, 29, 172]
abbrev dktX5_carriesOf_1 : List UInt8 := dkwX5_carriesOf_1 ++ []
def dkwX5_carriesOf_0 : List UInt8 := [3, 62, 4, 54, 4, 21, 4, 42, 180, 0, 82, 163, 0, 28, 42, 21, 4, 28, 182, 1, 129, 42]
abbrev dktX5_carriesOf_0 : List UInt8 := dkwX5_carriesOf_0 ++ dktX5_carriesOf_1
theorem dksX5_carriesOf_0 : cX5_carriesOf.data.toList.drop 0 = dktX5_carriesOf_0 := by decide +kernel
theorem dksX5_carriesOf_1 : cX5_carriesOf.data.toList.drop 22 = dktX5_carriesOf_1 := dk_seg dksX5_carriesOf_0 22 rfl rfl
theorem dX5_carriesOf_0 : decode cX5_carriesOf 0 = .ok (.iconst 0, 1) := dk_3 (dk_at dksX5_carriesOf_0 0 rfl rfl)
theorem dX5_carriesOf_1 : decode cX5_carriesOf 1 = .ok (.istore_n 3, 1) := dk_62 (dk_at dksX5_carriesOf_0 1 rfl rfl)
theorem dX5_carriesOf_2 : decode cX5_carriesOf 2 = .ok (.iconst 1, 1) := dk_4 (dk_at dksX5_carriesOf_0 2 rfl rfl)
theorem dX5_carriesOf_3 : decode cX5_carriesOf 3 = .ok (.istore 4, 2) := dk_54 4 (dk_at dksX5_carriesOf_0 3 rfl rfl)
theorem dX5_carriesOf_5 : decode cX5_carriesOf 5 = .ok (.iload 4, 2) := dk_21 4 (dk_at dksX5_carriesOf_0 5 rfl rfl)
theorem dX5_carriesOf_7 : decode cX5_carriesOf 7 = .ok (.aload_n 0, 1) := dk_42 (dk_at dksX5_carriesOf_0 7 rfl rfl)
theorem dX5_carriesOf_8 : decode cX5_carriesOf 8 = .ok (.getfield 82, 3) := dk_180 0 82 (dk_at dksX5_carriesOf_0 8 rfl rfl)
theorem dX5_carriesOf_11 : decode cX5_carriesOf 11 = .ok (.if_icmp .gt 28, 3) := dk_163 0 28 (dk_at dksX5_carriesOf_0 11 rfl rfl)
theorem dX5_carriesOf_14 : decode cX5_carriesOf 14 = .ok (.aload_n 0, 1) := dk_42 (dk_at dksX5_carriesOf_0 14 rfl rfl)
theorem dX5_carriesOf_15 : decode cX5_carriesOf 15 = .ok (.iload 4, 2) := dk_21 4 (dk_at dksX5_carriesOf_0 15 rfl rfl)
theorem dX5_carriesOf_17 : decode cX5_carriesOf 17 = .ok (.iload_n 2, 1) := dk_28 (dk_at dksX5_carriesOf_0 17 rfl rfl)
theorem dX5_carriesOf_18 : decode cX5_carriesOf 18 = .ok (.invokevirtual 385, 3) := dk_182 1 129 (dk_at dksX5_carriesOf_0 18 rfl rfl)
theorem dX5_carriesOf_21 : decode cX5_carriesOf 21 = .ok (.aload_n 0, 1) := dk_42 (dk_at dksX5_carriesOf_0 21 rfl rfl)
theorem dX5_carriesOf_22 : decode cX5_carriesOf 22 = .ok (.getfield 88, 3) := dk_180 0 88 (dk_at dksX5_carriesOf_1 0 rfl rfl)
theorem dX5_carriesOf_25 : decode cX5_carriesOf 25 = .ok (.iload_n 1, 1) := dk_27 (dk_at dksX5_carriesOf_1 3 rfl rfl)
theorem dX5_carriesOf_26 : decode cX5_carriesOf 26 = .ok (.iaload, 1) := dk_46 (dk_at dksX5_carriesOf_1 4 rfl rfl)
theorem dX5_carriesOf_27 : decode cX5_carriesOf 27 = .ok (.if_icmp .gt 6, 3) := dk_163 0 6 (dk_at dksX5_carriesOf_1 5 rfl rfl)
theorem dX5_carriesOf_30 : decode cX5_carriesOf 30 = .ok (.iload 4, 2) := dk_21 4 (dk_at dksX5_carriesOf_1 8 rfl rfl)
theorem dX5_carriesOf_32 : decode cX5_carriesOf 32 = .ok (.istore_n 3, 1) := dk_62 (dk_at dksX5_carriesOf_1 10 rfl rfl)
theorem dX5_carriesOf_33 : decode cX5_carriesOf 33 = .ok (.iinc 4 1, 3) := dk_132 4 1 (dk_at dksX5_carriesOf_1 11 rfl rfl)
theorem dX5_carriesOf_36 : decode cX5_carriesOf 36 = .ok (.goto (-31), 3) := dk_167 255 225 (dk_at dksX5_carriesOf_1 14 rfl rfl)
theorem dX5_carriesOf_39 : decode cX5_carriesOf 39 = .ok (.iload_n 3, 1) := dk_29 (dk_at dksX5_carriesOf_1 17 rfl rfl)
theorem dX5_carriesOf_40 : decode cX5_carriesOf 40 = .ok (.ireturn, 1) := dk_172 (dk_at dksX5_carriesOf_1 18 rfl rfl)
abbrev cX5_care : ByteArray := prog_17_method_73_code
def yX5_care : MethodName := ⟨RX5, "care", "()I"⟩
def dkwX5_care_4 : List UInt8 := [182, 1, 183, 42, 180, 0, 100, 3, 46, 172]
abbrev dktX5_care_4 : List UInt8 := dkwX5_care_4 ++ []
def dkwX5_care_3 : List UInt8 := [167, 0, 4, 3, 84, 132, 2, 1, 167, 255, 200, 132, 1, 1, 167, 255, 177, 42, 182, 1, 180, 42]
abbrev dktX5_care_3 : List UInt8 := dkwX5_care_3 ++ dktX5_care_4
def dkwX5_care_2 : List UInt8 := [180, 0, 67, 27, 46, 158, 0, 22, 42, 28, 27, 182, 1, 174, 42, 180, 0, 67, 27, 46, 161, 0, 7, 4]
abbrev dktX5_care_2 : List UInt8 := dkwX5_care_2 ++ dktX5_care_3
def dkwX5_care_1 : List UInt8 := [42, 180, 1, 94, 162, 0, 54, 42, 180, 0, 109, 16, 8, 27, 104, 28, 96, 28, 27, 159, 0, 31, 42]
abbrev dktX5_care_1 : List UInt8 := dkwX5_care_1 ++ dktX5_care_2
def dkwX5_care_0 : List UInt8 := [42, 182, 1, 138, 3, 60, 27, 42, 180, 1, 94, 162, 0, 77, 42, 180, 0, 106, 27, 3, 79, 3, 61, 28]
abbrev dktX5_care_0 : List UInt8 := dkwX5_care_0 ++ dktX5_care_1
theorem dksX5_care_0 : cX5_care.data.toList.drop 0 = dktX5_care_0 := by decide +kernel
theorem dksX5_care_1 : cX5_care.data.toList.drop 24 = dktX5_care_1 := dk_seg dksX5_care_0 24 rfl rfl
theorem dksX5_care_2 : cX5_care.data.toList.drop 47 = dktX5_care_2 := dk_seg dksX5_care_1 23 rfl rfl
theorem dksX5_care_3 : cX5_care.data.toList.drop 71 = dktX5_care_3 := dk_seg dksX5_care_2 24 rfl rfl
theorem dksX5_care_4 : cX5_care.data.toList.drop 93 = dktX5_care_4 := dk_seg dksX5_care_3 22 rfl rfl
theorem dX5_care_0 : decode cX5_care 0 = .ok (.aload_n 0, 1) := dk_42 (dk_at dksX5_care_0 0 rfl rfl)
theorem dX5_care_1 : decode cX5_care 1 = .ok (.invokevirtual 394, 3) := dk_182 1 138 (dk_at dksX5_care_0 1 rfl rfl)
theorem dX5_care_4 : decode cX5_care 4 = .ok (.iconst 0, 1) := dk_3 (dk_at dksX5_care_0 4 rfl rfl)
theorem dX5_care_5 : decode cX5_care 5 = .ok (.istore_n 1, 1) := dk_60 (dk_at dksX5_care_0 5 rfl rfl)
theorem dX5_care_6 : decode cX5_care 6 = .ok (.iload_n 1, 1) := dk_27 (dk_at dksX5_care_0 6 rfl rfl)
theorem dX5_care_7 : decode cX5_care 7 = .ok (.aload_n 0, 1) := dk_42 (dk_at dksX5_care_0 7 rfl rfl)
theorem dX5_care_8 : decode cX5_care 8 = .ok (.getfield 350, 3) := dk_180 1 94 (dk_at dksX5_care_0 8 rfl rfl)
theorem dX5_care_11 : decode cX5_care 11 = .ok (.if_icmp .ge 77, 3) := dk_162 0 77 (dk_at dksX5_care_0 11 rfl rfl)
theorem dX5_care_14 : decode cX5_care 14 = .ok (.aload_n 0, 1) := dk_42 (dk_at dksX5_care_0 14 rfl rfl)
theorem dX5_care_15 : decode cX5_care 15 = .ok (.getfield 106, 3) := dk_180 0 106 (dk_at dksX5_care_0 15 rfl rfl)
theorem dX5_care_18 : decode cX5_care 18 = .ok (.iload_n 1, 1) := dk_27 (dk_at dksX5_care_0 18 rfl rfl)
theorem dX5_care_19 : decode cX5_care 19 = .ok (.iconst 0, 1) := dk_3 (dk_at dksX5_care_0 19 rfl rfl)
theorem dX5_care_20 : decode cX5_care 20 = .ok (.iastore, 1) := dk_79 (dk_at dksX5_care_0 20 rfl rfl)
theorem dX5_care_21 : decode cX5_care 21 = .ok (.iconst 0, 1) := dk_3 (dk_at dksX5_care_0 21 rfl rfl)
theorem dX5_care_22 : decode cX5_care 22 = .ok (.istore_n 2, 1) := dk_61 (dk_at dksX5_care_0 22 rfl rfl)
theorem dX5_care_23 : decode cX5_care 23 = .ok (.iload_n 2, 1) := dk_28 (dk_at dksX5_care_0 23 rfl rfl)
theorem dX5_care_24 : decode cX5_care 24 = .ok (.aload_n 0, 1) := dk_42 (dk_at dksX5_care_1 0 rfl rfl)
theorem dX5_care_25 : decode cX5_care 25 = .ok (.getfield 350, 3) := dk_180 1 94 (dk_at dksX5_care_1 1 rfl rfl)
theorem dX5_care_28 : decode cX5_care 28 = .ok (.if_icmp .ge 54, 3) := dk_162 0 54 (dk_at dksX5_care_1 4 rfl rfl)
theorem dX5_care_31 : decode cX5_care 31 = .ok (.aload_n 0, 1) := dk_42 (dk_at dksX5_care_1 7 rfl rfl)
theorem dX5_care_32 : decode cX5_care 32 = .ok (.getfield 109, 3) := dk_180 0 109 (dk_at dksX5_care_1 8 rfl rfl)
theorem dX5_care_35 : decode cX5_care 35 = .ok (.bipush 8, 2) := dk_16 8 (dk_at dksX5_care_1 11 rfl rfl)
theorem dX5_care_37 : decode cX5_care 37 = .ok (.iload_n 1, 1) := dk_27 (dk_at dksX5_care_1 13 rfl rfl)
theorem dX5_care_38 : decode cX5_care 38 = .ok (.imul, 1) := dk_104 (dk_at dksX5_care_1 14 rfl rfl)
theorem dX5_care_39 : decode cX5_care 39 = .ok (.iload_n 2, 1) := dk_28 (dk_at dksX5_care_1 15 rfl rfl)
theorem dX5_care_40 : decode cX5_care 40 = .ok (.iadd, 1) := dk_96 (dk_at dksX5_care_1 16 rfl rfl)
theorem dX5_care_41 : decode cX5_care 41 = .ok (.iload_n 2, 1) := dk_28 (dk_at dksX5_care_1 17 rfl rfl)
theorem dX5_care_42 : decode cX5_care 42 = .ok (.iload_n 1, 1) := dk_27 (dk_at dksX5_care_1 18 rfl rfl)
theorem dX5_care_43 : decode cX5_care 43 = .ok (.if_icmp .eq 31, 3) := dk_159 0 31 (dk_at dksX5_care_1 19 rfl rfl)
theorem dX5_care_46 : decode cX5_care 46 = .ok (.aload_n 0, 1) := dk_42 (dk_at dksX5_care_1 22 rfl rfl)
theorem dX5_care_47 : decode cX5_care 47 = .ok (.getfield 67, 3) := dk_180 0 67 (dk_at dksX5_care_2 0 rfl rfl)
theorem dX5_care_50 : decode cX5_care 50 = .ok (.iload_n 1, 1) := dk_27 (dk_at dksX5_care_2 3 rfl rfl)
theorem dX5_care_51 : decode cX5_care 51 = .ok (.iaload, 1) := dk_46 (dk_at dksX5_care_2 4 rfl rfl)
theorem dX5_care_52 : decode cX5_care 52 = .ok (.ifCond .le 22, 3) := dk_158 0 22 (dk_at dksX5_care_2 5 rfl rfl)
theorem dX5_care_55 : decode cX5_care 55 = .ok (.aload_n 0, 1) := dk_42 (dk_at dksX5_care_2 8 rfl rfl)
theorem dX5_care_56 : decode cX5_care 56 = .ok (.iload_n 2, 1) := dk_28 (dk_at dksX5_care_2 9 rfl rfl)
theorem dX5_care_57 : decode cX5_care 57 = .ok (.iload_n 1, 1) := dk_27 (dk_at dksX5_care_2 10 rfl rfl)
theorem dX5_care_58 : decode cX5_care 58 = .ok (.invokevirtual 430, 3) := dk_182 1 174 (dk_at dksX5_care_2 11 rfl rfl)
theorem dX5_care_61 : decode cX5_care 61 = .ok (.aload_n 0, 1) := dk_42 (dk_at dksX5_care_2 14 rfl rfl)
theorem dX5_care_62 : decode cX5_care 62 = .ok (.getfield 67, 3) := dk_180 0 67 (dk_at dksX5_care_2 15 rfl rfl)
theorem dX5_care_65 : decode cX5_care 65 = .ok (.iload_n 1, 1) := dk_27 (dk_at dksX5_care_2 18 rfl rfl)
theorem dX5_care_66 : decode cX5_care 66 = .ok (.iaload, 1) := dk_46 (dk_at dksX5_care_2 19 rfl rfl)
theorem dX5_care_67 : decode cX5_care 67 = .ok (.if_icmp .lt 7, 3) := dk_161 0 7 (dk_at dksX5_care_2 20 rfl rfl)
theorem dX5_care_70 : decode cX5_care 70 = .ok (.iconst 1, 1) := dk_4 (dk_at dksX5_care_2 23 rfl rfl)
theorem dX5_care_71 : decode cX5_care 71 = .ok (.goto 4, 3) := dk_167 0 4 (dk_at dksX5_care_3 0 rfl rfl)
theorem dX5_care_74 : decode cX5_care 74 = .ok (.iconst 0, 1) := dk_3 (dk_at dksX5_care_3 3 rfl rfl)
theorem dX5_care_75 : decode cX5_care 75 = .ok (.bastore, 1) := dk_84 (dk_at dksX5_care_3 4 rfl rfl)
theorem dX5_care_76 : decode cX5_care 76 = .ok (.iinc 2 1, 3) := dk_132 2 1 (dk_at dksX5_care_3 5 rfl rfl)
theorem dX5_care_79 : decode cX5_care 79 = .ok (.goto (-56), 3) := dk_167 255 200 (dk_at dksX5_care_3 8 rfl rfl)
theorem dX5_care_82 : decode cX5_care 82 = .ok (.iinc 1 1, 3) := dk_132 1 1 (dk_at dksX5_care_3 11 rfl rfl)
theorem dX5_care_85 : decode cX5_care 85 = .ok (.goto (-79), 3) := dk_167 255 177 (dk_at dksX5_care_3 14 rfl rfl)
theorem dX5_care_88 : decode cX5_care 88 = .ok (.aload_n 0, 1) := dk_42 (dk_at dksX5_care_3 17 rfl rfl)
theorem dX5_care_89 : decode cX5_care 89 = .ok (.invokevirtual 436, 3) := dk_182 1 180 (dk_at dksX5_care_3 18 rfl rfl)
theorem dX5_care_92 : decode cX5_care 92 = .ok (.aload_n 0, 1) := dk_42 (dk_at dksX5_care_3 21 rfl rfl)
theorem dX5_care_93 : decode cX5_care 93 = .ok (.invokevirtual 439, 3) := dk_182 1 183 (dk_at dksX5_care_4 0 rfl rfl)
theorem dX5_care_96 : decode cX5_care 96 = .ok (.aload_n 0, 1) := dk_42 (dk_at dksX5_care_4 3 rfl rfl)
theorem dX5_care_97 : decode cX5_care 97 = .ok (.getfield 100, 3) := dk_180 0 100 (dk_at dksX5_care_4 4 rfl rfl)
theorem dX5_care_100 : decode cX5_care 100 = .ok (.iconst 0, 1) := dk_3 (dk_at dksX5_care_4 7 rfl rfl)
theorem dX5_care_101 : decode cX5_care 101 = .ok (.iaload, 1) := dk_46 (dk_at dksX5_care_4 8 rfl rfl)
theorem dX5_care_102 : decode cX5_care 102 = .ok (.ireturn, 1) := dk_172 (dk_at dksX5_care_4 9 rfl rfl)
abbrev cX5_layDoers : ByteArray := prog_17_method_71_code
def yX5_layDoers : MethodName := ⟨RX5, "layDoers", "()V"⟩
def dkwX5_layDoers_11 : List UInt8 := [167, 255, 53, 177]
abbrev dktX5_layDoers_11 : List UInt8 := dkwX5_layDoers_11 ++ []
def dkwX5_layDoers_10 : List UInt8 := [180, 0, 106, 27, 46, 96, 79, 132, 4, 1, 167, 255, 121, 132, 2, 1, 167, 255, 65, 132, 1, 255]
abbrev dktX5_layDoers_10 : List UInt8 := dkwX5_layDoers_10 ++ dktX5_layDoers_11
def dkwX5_layDoers_9 : List UInt8 := [180, 0, 100, 21, 5, 46, 4, 96, 79, 42, 180, 0, 103, 29, 42, 180, 0, 103, 21, 5, 46, 42]
abbrev dktX5_layDoers_9 : List UInt8 := dkwX5_layDoers_9 ++ dktX5_layDoers_10
def dkwX5_layDoers_8 : List UInt8 := [46, 42, 180, 0, 103, 29, 46, 184, 1, 177, 154, 0, 6, 167, 0, 38, 42, 180, 0, 100, 29, 42]
abbrev dktX5_layDoers_8 : List UInt8 := dkwX5_layDoers_8 ++ dktX5_layDoers_9
def dkwX5_layDoers_7 : List UInt8 := [21, 5, 46, 4, 96, 42, 180, 0, 103, 21, 5, 46, 42, 180, 0, 106, 27, 46, 96, 42, 180, 0, 100, 29]
abbrev dktX5_layDoers_7 : List UInt8 := dkwX5_layDoers_7 ++ dktX5_layDoers_8
def dkwX5_layDoers_6 : List UInt8 := [167, 0, 98, 17, 1, 0, 27, 4, 96, 104, 28, 4, 21, 4, 120, 128, 96, 54, 5, 42, 180, 0, 100]
abbrev dktX5_layDoers_6 : List UInt8 := dkwX5_layDoers_6 ++ dktX5_layDoers_7
def dkwX5_layDoers_5 : List UInt8 := [180, 0, 109, 16, 8, 27, 104, 21, 4, 96, 51, 153, 0, 111, 28, 21, 4, 122, 4, 126, 4, 160, 0, 6]
abbrev dktX5_layDoers_5 : List UInt8 := dkwX5_layDoers_5 ++ dktX5_layDoers_6
def dkwX5_layDoers_4 : List UInt8 := [42, 180, 0, 103, 29, 17, 1, 0, 96, 46, 79, 3, 54, 4, 21, 4, 42, 180, 1, 94, 162, 0, 132, 42]
abbrev dktX5_layDoers_4 : List UInt8 := dkwX5_layDoers_4 ++ dktX5_layDoers_5
def dkwX5_layDoers_3 : List UInt8 := [28, 96, 62, 42, 180, 0, 100, 29, 42, 180, 0, 100, 29, 17, 1, 0, 96, 46, 79, 42, 180, 0, 103, 29]
abbrev dktX5_layDoers_3 : List UInt8 := dkwX5_layDoers_3 ++ dktX5_layDoers_4
def dkwX5_layDoers_2 : List UInt8 := [180, 1, 94, 4, 100, 60, 27, 155, 0, 205, 3, 61, 28, 17, 1, 0, 162, 0, 190, 17, 1, 0, 27, 104]
abbrev dktX5_layDoers_2 : List UInt8 := dkwX5_layDoers_2 ++ dktX5_layDoers_3
def dkwX5_layDoers_1 : List UInt8 := [79, 42, 180, 0, 103, 17, 1, 0, 42, 180, 1, 94, 104, 27, 96, 3, 79, 132, 1, 1, 167, 255, 214, 42]
abbrev dktX5_layDoers_1 : List UInt8 := dkwX5_layDoers_1 ++ dktX5_layDoers_2
def dkwX5_layDoers_0 : List UInt8 := [3, 60, 27, 17, 1, 0, 162, 0, 41, 42, 180, 0, 100, 17, 1, 0, 42, 180, 1, 94, 104, 27, 96, 3]
abbrev dktX5_layDoers_0 : List UInt8 := dkwX5_layDoers_0 ++ dktX5_layDoers_1
theorem dksX5_layDoers_0 : cX5_layDoers.data.toList.drop 0 = dktX5_layDoers_0 := by decide +kernel
theorem dksX5_layDoers_1 : cX5_layDoers.data.toList.drop 24 = dktX5_layDoers_1 := dk_seg dksX5_layDoers_0 24 rfl rfl
theorem dksX5_layDoers_2 : cX5_layDoers.data.toList.drop 48 = dktX5_layDoers_2 := dk_seg dksX5_layDoers_1 24 rfl rfl
theorem dksX5_layDoers_3 : cX5_layDoers.data.toList.drop 72 = dktX5_layDoers_3 := dk_seg dksX5_layDoers_2 24 rfl rfl
theorem dksX5_layDoers_4 : cX5_layDoers.data.toList.drop 96 = dktX5_layDoers_4 := dk_seg dksX5_layDoers_3 24 rfl rfl
theorem dksX5_layDoers_5 : cX5_layDoers.data.toList.drop 120 = dktX5_layDoers_5 := dk_seg dksX5_layDoers_4 24 rfl rfl
theorem dksX5_layDoers_6 : cX5_layDoers.data.toList.drop 144 = dktX5_layDoers_6 := dk_seg dksX5_layDoers_5 24 rfl rfl
theorem dksX5_layDoers_7 : cX5_layDoers.data.toList.drop 167 = dktX5_layDoers_7 := dk_seg dksX5_layDoers_6 23 rfl rfl
theorem dksX5_layDoers_8 : cX5_layDoers.data.toList.drop 191 = dktX5_layDoers_8 := dk_seg dksX5_layDoers_7 24 rfl rfl
theorem dksX5_layDoers_9 : cX5_layDoers.data.toList.drop 213 = dktX5_layDoers_9 := dk_seg dksX5_layDoers_8 22 rfl rfl
theorem dksX5_layDoers_10 : cX5_layDoers.data.toList.drop 235 = dktX5_layDoers_10 := dk_seg dksX5_layDoers_9 22 rfl rfl
theorem dksX5_layDoers_11 : cX5_layDoers.data.toList.drop 257 = dktX5_layDoers_11 := dk_seg dksX5_layDoers_10 22 rfl rfl
theorem dX5_layDoers_0 : decode cX5_layDoers 0 = .ok (.iconst 0, 1) := dk_3 (dk_at dksX5_layDoers_0 0 rfl rfl)
theorem dX5_layDoers_1 : decode cX5_layDoers 1 = .ok (.istore_n 1, 1) := dk_60 (dk_at dksX5_layDoers_0 1 rfl rfl)
theorem dX5_layDoers_2 : decode cX5_layDoers 2 = .ok (.iload_n 1, 1) := dk_27 (dk_at dksX5_layDoers_0 2 rfl rfl)
theorem dX5_layDoers_3 : decode cX5_layDoers 3 = .ok (.sipush 256, 3) := dk_17 1 0 (dk_at dksX5_layDoers_0 3 rfl rfl)
theorem dX5_layDoers_6 : decode cX5_layDoers 6 = .ok (.if_icmp .ge 41, 3) := dk_162 0 41 (dk_at dksX5_layDoers_0 6 rfl rfl)
theorem dX5_layDoers_9 : decode cX5_layDoers 9 = .ok (.aload_n 0, 1) := dk_42 (dk_at dksX5_layDoers_0 9 rfl rfl)
theorem dX5_layDoers_10 : decode cX5_layDoers 10 = .ok (.getfield 100, 3) := dk_180 0 100 (dk_at dksX5_layDoers_0 10 rfl rfl)
theorem dX5_layDoers_13 : decode cX5_layDoers 13 = .ok (.sipush 256, 3) := dk_17 1 0 (dk_at dksX5_layDoers_0 13 rfl rfl)
theorem dX5_layDoers_16 : decode cX5_layDoers 16 = .ok (.aload_n 0, 1) := dk_42 (dk_at dksX5_layDoers_0 16 rfl rfl)
theorem dX5_layDoers_17 : decode cX5_layDoers 17 = .ok (.getfield 350, 3) := dk_180 1 94 (dk_at dksX5_layDoers_0 17 rfl rfl)
theorem dX5_layDoers_20 : decode cX5_layDoers 20 = .ok (.imul, 1) := dk_104 (dk_at dksX5_layDoers_0 20 rfl rfl)
theorem dX5_layDoers_21 : decode cX5_layDoers 21 = .ok (.iload_n 1, 1) := dk_27 (dk_at dksX5_layDoers_0 21 rfl rfl)
theorem dX5_layDoers_22 : decode cX5_layDoers 22 = .ok (.iadd, 1) := dk_96 (dk_at dksX5_layDoers_0 22 rfl rfl)
theorem dX5_layDoers_23 : decode cX5_layDoers 23 = .ok (.iconst 0, 1) := dk_3 (dk_at dksX5_layDoers_0 23 rfl rfl)
theorem dX5_layDoers_24 : decode cX5_layDoers 24 = .ok (.iastore, 1) := dk_79 (dk_at dksX5_layDoers_1 0 rfl rfl)
theorem dX5_layDoers_25 : decode cX5_layDoers 25 = .ok (.aload_n 0, 1) := dk_42 (dk_at dksX5_layDoers_1 1 rfl rfl)
theorem dX5_layDoers_26 : decode cX5_layDoers 26 = .ok (.getfield 103, 3) := dk_180 0 103 (dk_at dksX5_layDoers_1 2 rfl rfl)
theorem dX5_layDoers_29 : decode cX5_layDoers 29 = .ok (.sipush 256, 3) := dk_17 1 0 (dk_at dksX5_layDoers_1 5 rfl rfl)
theorem dX5_layDoers_32 : decode cX5_layDoers 32 = .ok (.aload_n 0, 1) := dk_42 (dk_at dksX5_layDoers_1 8 rfl rfl)
theorem dX5_layDoers_33 : decode cX5_layDoers 33 = .ok (.getfield 350, 3) := dk_180 1 94 (dk_at dksX5_layDoers_1 9 rfl rfl)
theorem dX5_layDoers_36 : decode cX5_layDoers 36 = .ok (.imul, 1) := dk_104 (dk_at dksX5_layDoers_1 12 rfl rfl)
theorem dX5_layDoers_37 : decode cX5_layDoers 37 = .ok (.iload_n 1, 1) := dk_27 (dk_at dksX5_layDoers_1 13 rfl rfl)
theorem dX5_layDoers_38 : decode cX5_layDoers 38 = .ok (.iadd, 1) := dk_96 (dk_at dksX5_layDoers_1 14 rfl rfl)
theorem dX5_layDoers_39 : decode cX5_layDoers 39 = .ok (.iconst 0, 1) := dk_3 (dk_at dksX5_layDoers_1 15 rfl rfl)
theorem dX5_layDoers_40 : decode cX5_layDoers 40 = .ok (.iastore, 1) := dk_79 (dk_at dksX5_layDoers_1 16 rfl rfl)
theorem dX5_layDoers_41 : decode cX5_layDoers 41 = .ok (.iinc 1 1, 3) := dk_132 1 1 (dk_at dksX5_layDoers_1 17 rfl rfl)
theorem dX5_layDoers_44 : decode cX5_layDoers 44 = .ok (.goto (-42), 3) := dk_167 255 214 (dk_at dksX5_layDoers_1 20 rfl rfl)
theorem dX5_layDoers_47 : decode cX5_layDoers 47 = .ok (.aload_n 0, 1) := dk_42 (dk_at dksX5_layDoers_1 23 rfl rfl)
theorem dX5_layDoers_48 : decode cX5_layDoers 48 = .ok (.getfield 350, 3) := dk_180 1 94 (dk_at dksX5_layDoers_2 0 rfl rfl)
theorem dX5_layDoers_51 : decode cX5_layDoers 51 = .ok (.iconst 1, 1) := dk_4 (dk_at dksX5_layDoers_2 3 rfl rfl)
theorem dX5_layDoers_52 : decode cX5_layDoers 52 = .ok (.isub, 1) := dk_100 (dk_at dksX5_layDoers_2 4 rfl rfl)
theorem dX5_layDoers_53 : decode cX5_layDoers 53 = .ok (.istore_n 1, 1) := dk_60 (dk_at dksX5_layDoers_2 5 rfl rfl)
theorem dX5_layDoers_54 : decode cX5_layDoers 54 = .ok (.iload_n 1, 1) := dk_27 (dk_at dksX5_layDoers_2 6 rfl rfl)
theorem dX5_layDoers_55 : decode cX5_layDoers 55 = .ok (.ifCond .lt 205, 3) := dk_155 0 205 (dk_at dksX5_layDoers_2 7 rfl rfl)
theorem dX5_layDoers_58 : decode cX5_layDoers 58 = .ok (.iconst 0, 1) := dk_3 (dk_at dksX5_layDoers_2 10 rfl rfl)
theorem dX5_layDoers_59 : decode cX5_layDoers 59 = .ok (.istore_n 2, 1) := dk_61 (dk_at dksX5_layDoers_2 11 rfl rfl)
theorem dX5_layDoers_60 : decode cX5_layDoers 60 = .ok (.iload_n 2, 1) := dk_28 (dk_at dksX5_layDoers_2 12 rfl rfl)
theorem dX5_layDoers_61 : decode cX5_layDoers 61 = .ok (.sipush 256, 3) := dk_17 1 0 (dk_at dksX5_layDoers_2 13 rfl rfl)
theorem dX5_layDoers_64 : decode cX5_layDoers 64 = .ok (.if_icmp .ge 190, 3) := dk_162 0 190 (dk_at dksX5_layDoers_2 16 rfl rfl)
theorem dX5_layDoers_67 : decode cX5_layDoers 67 = .ok (.sipush 256, 3) := dk_17 1 0 (dk_at dksX5_layDoers_2 19 rfl rfl)
theorem dX5_layDoers_70 : decode cX5_layDoers 70 = .ok (.iload_n 1, 1) := dk_27 (dk_at dksX5_layDoers_2 22 rfl rfl)
theorem dX5_layDoers_71 : decode cX5_layDoers 71 = .ok (.imul, 1) := dk_104 (dk_at dksX5_layDoers_2 23 rfl rfl)
theorem dX5_layDoers_72 : decode cX5_layDoers 72 = .ok (.iload_n 2, 1) := dk_28 (dk_at dksX5_layDoers_3 0 rfl rfl)
theorem dX5_layDoers_73 : decode cX5_layDoers 73 = .ok (.iadd, 1) := dk_96 (dk_at dksX5_layDoers_3 1 rfl rfl)
theorem dX5_layDoers_74 : decode cX5_layDoers 74 = .ok (.istore_n 3, 1) := dk_62 (dk_at dksX5_layDoers_3 2 rfl rfl)
theorem dX5_layDoers_75 : decode cX5_layDoers 75 = .ok (.aload_n 0, 1) := dk_42 (dk_at dksX5_layDoers_3 3 rfl rfl)
theorem dX5_layDoers_76 : decode cX5_layDoers 76 = .ok (.getfield 100, 3) := dk_180 0 100 (dk_at dksX5_layDoers_3 4 rfl rfl)
theorem dX5_layDoers_79 : decode cX5_layDoers 79 = .ok (.iload_n 3, 1) := dk_29 (dk_at dksX5_layDoers_3 7 rfl rfl)
theorem dX5_layDoers_80 : decode cX5_layDoers 80 = .ok (.aload_n 0, 1) := dk_42 (dk_at dksX5_layDoers_3 8 rfl rfl)
theorem dX5_layDoers_81 : decode cX5_layDoers 81 = .ok (.getfield 100, 3) := dk_180 0 100 (dk_at dksX5_layDoers_3 9 rfl rfl)
theorem dX5_layDoers_84 : decode cX5_layDoers 84 = .ok (.iload_n 3, 1) := dk_29 (dk_at dksX5_layDoers_3 12 rfl rfl)
theorem dX5_layDoers_85 : decode cX5_layDoers 85 = .ok (.sipush 256, 3) := dk_17 1 0 (dk_at dksX5_layDoers_3 13 rfl rfl)
theorem dX5_layDoers_88 : decode cX5_layDoers 88 = .ok (.iadd, 1) := dk_96 (dk_at dksX5_layDoers_3 16 rfl rfl)
theorem dX5_layDoers_89 : decode cX5_layDoers 89 = .ok (.iaload, 1) := dk_46 (dk_at dksX5_layDoers_3 17 rfl rfl)
theorem dX5_layDoers_90 : decode cX5_layDoers 90 = .ok (.iastore, 1) := dk_79 (dk_at dksX5_layDoers_3 18 rfl rfl)
theorem dX5_layDoers_91 : decode cX5_layDoers 91 = .ok (.aload_n 0, 1) := dk_42 (dk_at dksX5_layDoers_3 19 rfl rfl)
theorem dX5_layDoers_92 : decode cX5_layDoers 92 = .ok (.getfield 103, 3) := dk_180 0 103 (dk_at dksX5_layDoers_3 20 rfl rfl)
theorem dX5_layDoers_95 : decode cX5_layDoers 95 = .ok (.iload_n 3, 1) := dk_29 (dk_at dksX5_layDoers_3 23 rfl rfl)
theorem dX5_layDoers_96 : decode cX5_layDoers 96 = .ok (.aload_n 0, 1) := dk_42 (dk_at dksX5_layDoers_4 0 rfl rfl)
theorem dX5_layDoers_97 : decode cX5_layDoers 97 = .ok (.getfield 103, 3) := dk_180 0 103 (dk_at dksX5_layDoers_4 1 rfl rfl)
theorem dX5_layDoers_100 : decode cX5_layDoers 100 = .ok (.iload_n 3, 1) := dk_29 (dk_at dksX5_layDoers_4 4 rfl rfl)
theorem dX5_layDoers_101 : decode cX5_layDoers 101 = .ok (.sipush 256, 3) := dk_17 1 0 (dk_at dksX5_layDoers_4 5 rfl rfl)
theorem dX5_layDoers_104 : decode cX5_layDoers 104 = .ok (.iadd, 1) := dk_96 (dk_at dksX5_layDoers_4 8 rfl rfl)
theorem dX5_layDoers_105 : decode cX5_layDoers 105 = .ok (.iaload, 1) := dk_46 (dk_at dksX5_layDoers_4 9 rfl rfl)
theorem dX5_layDoers_106 : decode cX5_layDoers 106 = .ok (.iastore, 1) := dk_79 (dk_at dksX5_layDoers_4 10 rfl rfl)
theorem dX5_layDoers_107 : decode cX5_layDoers 107 = .ok (.iconst 0, 1) := dk_3 (dk_at dksX5_layDoers_4 11 rfl rfl)
theorem dX5_layDoers_108 : decode cX5_layDoers 108 = .ok (.istore 4, 2) := dk_54 4 (dk_at dksX5_layDoers_4 12 rfl rfl)
theorem dX5_layDoers_110 : decode cX5_layDoers 110 = .ok (.iload 4, 2) := dk_21 4 (dk_at dksX5_layDoers_4 14 rfl rfl)
theorem dX5_layDoers_112 : decode cX5_layDoers 112 = .ok (.aload_n 0, 1) := dk_42 (dk_at dksX5_layDoers_4 16 rfl rfl)
theorem dX5_layDoers_113 : decode cX5_layDoers 113 = .ok (.getfield 350, 3) := dk_180 1 94 (dk_at dksX5_layDoers_4 17 rfl rfl)
theorem dX5_layDoers_116 : decode cX5_layDoers 116 = .ok (.if_icmp .ge 132, 3) := dk_162 0 132 (dk_at dksX5_layDoers_4 20 rfl rfl)
theorem dX5_layDoers_119 : decode cX5_layDoers 119 = .ok (.aload_n 0, 1) := dk_42 (dk_at dksX5_layDoers_4 23 rfl rfl)
theorem dX5_layDoers_120 : decode cX5_layDoers 120 = .ok (.getfield 109, 3) := dk_180 0 109 (dk_at dksX5_layDoers_5 0 rfl rfl)
theorem dX5_layDoers_123 : decode cX5_layDoers 123 = .ok (.bipush 8, 2) := dk_16 8 (dk_at dksX5_layDoers_5 3 rfl rfl)
theorem dX5_layDoers_125 : decode cX5_layDoers 125 = .ok (.iload_n 1, 1) := dk_27 (dk_at dksX5_layDoers_5 5 rfl rfl)
theorem dX5_layDoers_126 : decode cX5_layDoers 126 = .ok (.imul, 1) := dk_104 (dk_at dksX5_layDoers_5 6 rfl rfl)
theorem dX5_layDoers_127 : decode cX5_layDoers 127 = .ok (.iload 4, 2) := dk_21 4 (dk_at dksX5_layDoers_5 7 rfl rfl)
theorem dX5_layDoers_129 : decode cX5_layDoers 129 = .ok (.iadd, 1) := dk_96 (dk_at dksX5_layDoers_5 9 rfl rfl)
theorem dX5_layDoers_130 : decode cX5_layDoers 130 = .ok (.baload, 1) := dk_51 (dk_at dksX5_layDoers_5 10 rfl rfl)
theorem dX5_layDoers_131 : decode cX5_layDoers 131 = .ok (.ifCond .eq 111, 3) := dk_153 0 111 (dk_at dksX5_layDoers_5 11 rfl rfl)
theorem dX5_layDoers_134 : decode cX5_layDoers 134 = .ok (.iload_n 2, 1) := dk_28 (dk_at dksX5_layDoers_5 14 rfl rfl)
theorem dX5_layDoers_135 : decode cX5_layDoers 135 = .ok (.iload 4, 2) := dk_21 4 (dk_at dksX5_layDoers_5 15 rfl rfl)
theorem dX5_layDoers_137 : decode cX5_layDoers 137 = .ok (.ishr, 1) := dk_122 (dk_at dksX5_layDoers_5 17 rfl rfl)
theorem dX5_layDoers_138 : decode cX5_layDoers 138 = .ok (.iconst 1, 1) := dk_4 (dk_at dksX5_layDoers_5 18 rfl rfl)
theorem dX5_layDoers_139 : decode cX5_layDoers 139 = .ok (.iand, 1) := dk_126 (dk_at dksX5_layDoers_5 19 rfl rfl)
theorem dX5_layDoers_140 : decode cX5_layDoers 140 = .ok (.iconst 1, 1) := dk_4 (dk_at dksX5_layDoers_5 20 rfl rfl)
theorem dX5_layDoers_141 : decode cX5_layDoers 141 = .ok (.if_icmp .ne 6, 3) := dk_160 0 6 (dk_at dksX5_layDoers_5 21 rfl rfl)
theorem dX5_layDoers_144 : decode cX5_layDoers 144 = .ok (.goto 98, 3) := dk_167 0 98 (dk_at dksX5_layDoers_6 0 rfl rfl)
theorem dX5_layDoers_147 : decode cX5_layDoers 147 = .ok (.sipush 256, 3) := dk_17 1 0 (dk_at dksX5_layDoers_6 3 rfl rfl)
theorem dX5_layDoers_150 : decode cX5_layDoers 150 = .ok (.iload_n 1, 1) := dk_27 (dk_at dksX5_layDoers_6 6 rfl rfl)
theorem dX5_layDoers_151 : decode cX5_layDoers 151 = .ok (.iconst 1, 1) := dk_4 (dk_at dksX5_layDoers_6 7 rfl rfl)
theorem dX5_layDoers_152 : decode cX5_layDoers 152 = .ok (.iadd, 1) := dk_96 (dk_at dksX5_layDoers_6 8 rfl rfl)
theorem dX5_layDoers_153 : decode cX5_layDoers 153 = .ok (.imul, 1) := dk_104 (dk_at dksX5_layDoers_6 9 rfl rfl)
theorem dX5_layDoers_154 : decode cX5_layDoers 154 = .ok (.iload_n 2, 1) := dk_28 (dk_at dksX5_layDoers_6 10 rfl rfl)
theorem dX5_layDoers_155 : decode cX5_layDoers 155 = .ok (.iconst 1, 1) := dk_4 (dk_at dksX5_layDoers_6 11 rfl rfl)
theorem dX5_layDoers_156 : decode cX5_layDoers 156 = .ok (.iload 4, 2) := dk_21 4 (dk_at dksX5_layDoers_6 12 rfl rfl)
theorem dX5_layDoers_158 : decode cX5_layDoers 158 = .ok (.ishl, 1) := dk_120 (dk_at dksX5_layDoers_6 14 rfl rfl)
theorem dX5_layDoers_159 : decode cX5_layDoers 159 = .ok (.ior, 1) := dk_128 (dk_at dksX5_layDoers_6 15 rfl rfl)
theorem dX5_layDoers_160 : decode cX5_layDoers 160 = .ok (.iadd, 1) := dk_96 (dk_at dksX5_layDoers_6 16 rfl rfl)
theorem dX5_layDoers_161 : decode cX5_layDoers 161 = .ok (.istore 5, 2) := dk_54 5 (dk_at dksX5_layDoers_6 17 rfl rfl)
theorem dX5_layDoers_163 : decode cX5_layDoers 163 = .ok (.aload_n 0, 1) := dk_42 (dk_at dksX5_layDoers_6 19 rfl rfl)
theorem dX5_layDoers_164 : decode cX5_layDoers 164 = .ok (.getfield 100, 3) := dk_180 0 100 (dk_at dksX5_layDoers_6 20 rfl rfl)
theorem dX5_layDoers_167 : decode cX5_layDoers 167 = .ok (.iload 5, 2) := dk_21 5 (dk_at dksX5_layDoers_7 0 rfl rfl)
theorem dX5_layDoers_169 : decode cX5_layDoers 169 = .ok (.iaload, 1) := dk_46 (dk_at dksX5_layDoers_7 2 rfl rfl)
theorem dX5_layDoers_170 : decode cX5_layDoers 170 = .ok (.iconst 1, 1) := dk_4 (dk_at dksX5_layDoers_7 3 rfl rfl)
theorem dX5_layDoers_171 : decode cX5_layDoers 171 = .ok (.iadd, 1) := dk_96 (dk_at dksX5_layDoers_7 4 rfl rfl)
theorem dX5_layDoers_172 : decode cX5_layDoers 172 = .ok (.aload_n 0, 1) := dk_42 (dk_at dksX5_layDoers_7 5 rfl rfl)
theorem dX5_layDoers_173 : decode cX5_layDoers 173 = .ok (.getfield 103, 3) := dk_180 0 103 (dk_at dksX5_layDoers_7 6 rfl rfl)
theorem dX5_layDoers_176 : decode cX5_layDoers 176 = .ok (.iload 5, 2) := dk_21 5 (dk_at dksX5_layDoers_7 9 rfl rfl)
theorem dX5_layDoers_178 : decode cX5_layDoers 178 = .ok (.iaload, 1) := dk_46 (dk_at dksX5_layDoers_7 11 rfl rfl)
theorem dX5_layDoers_179 : decode cX5_layDoers 179 = .ok (.aload_n 0, 1) := dk_42 (dk_at dksX5_layDoers_7 12 rfl rfl)
theorem dX5_layDoers_180 : decode cX5_layDoers 180 = .ok (.getfield 106, 3) := dk_180 0 106 (dk_at dksX5_layDoers_7 13 rfl rfl)
theorem dX5_layDoers_183 : decode cX5_layDoers 183 = .ok (.iload_n 1, 1) := dk_27 (dk_at dksX5_layDoers_7 16 rfl rfl)
theorem dX5_layDoers_184 : decode cX5_layDoers 184 = .ok (.iaload, 1) := dk_46 (dk_at dksX5_layDoers_7 17 rfl rfl)
theorem dX5_layDoers_185 : decode cX5_layDoers 185 = .ok (.iadd, 1) := dk_96 (dk_at dksX5_layDoers_7 18 rfl rfl)
theorem dX5_layDoers_186 : decode cX5_layDoers 186 = .ok (.aload_n 0, 1) := dk_42 (dk_at dksX5_layDoers_7 19 rfl rfl)
theorem dX5_layDoers_187 : decode cX5_layDoers 187 = .ok (.getfield 100, 3) := dk_180 0 100 (dk_at dksX5_layDoers_7 20 rfl rfl)
theorem dX5_layDoers_190 : decode cX5_layDoers 190 = .ok (.iload_n 3, 1) := dk_29 (dk_at dksX5_layDoers_7 23 rfl rfl)
theorem dX5_layDoers_191 : decode cX5_layDoers 191 = .ok (.iaload, 1) := dk_46 (dk_at dksX5_layDoers_8 0 rfl rfl)
theorem dX5_layDoers_192 : decode cX5_layDoers 192 = .ok (.aload_n 0, 1) := dk_42 (dk_at dksX5_layDoers_8 1 rfl rfl)
theorem dX5_layDoers_193 : decode cX5_layDoers 193 = .ok (.getfield 103, 3) := dk_180 0 103 (dk_at dksX5_layDoers_8 2 rfl rfl)
theorem dX5_layDoers_196 : decode cX5_layDoers 196 = .ok (.iload_n 3, 1) := dk_29 (dk_at dksX5_layDoers_8 5 rfl rfl)
theorem dX5_layDoers_197 : decode cX5_layDoers 197 = .ok (.iaload, 1) := dk_46 (dk_at dksX5_layDoers_8 6 rfl rfl)
theorem dX5_layDoers_198 : decode cX5_layDoers 198 = .ok (.invokestatic 433, 3) := dk_184 1 177 (dk_at dksX5_layDoers_8 7 rfl rfl)
theorem dX5_layDoers_201 : decode cX5_layDoers 201 = .ok (.ifCond .ne 6, 3) := dk_154 0 6 (dk_at dksX5_layDoers_8 10 rfl rfl)
theorem dX5_layDoers_204 : decode cX5_layDoers 204 = .ok (.goto 38, 3) := dk_167 0 38 (dk_at dksX5_layDoers_8 13 rfl rfl)
theorem dX5_layDoers_207 : decode cX5_layDoers 207 = .ok (.aload_n 0, 1) := dk_42 (dk_at dksX5_layDoers_8 16 rfl rfl)
theorem dX5_layDoers_208 : decode cX5_layDoers 208 = .ok (.getfield 100, 3) := dk_180 0 100 (dk_at dksX5_layDoers_8 17 rfl rfl)
theorem dX5_layDoers_211 : decode cX5_layDoers 211 = .ok (.iload_n 3, 1) := dk_29 (dk_at dksX5_layDoers_8 20 rfl rfl)
theorem dX5_layDoers_212 : decode cX5_layDoers 212 = .ok (.aload_n 0, 1) := dk_42 (dk_at dksX5_layDoers_8 21 rfl rfl)
theorem dX5_layDoers_213 : decode cX5_layDoers 213 = .ok (.getfield 100, 3) := dk_180 0 100 (dk_at dksX5_layDoers_9 0 rfl rfl)
theorem dX5_layDoers_216 : decode cX5_layDoers 216 = .ok (.iload 5, 2) := dk_21 5 (dk_at dksX5_layDoers_9 3 rfl rfl)
theorem dX5_layDoers_218 : decode cX5_layDoers 218 = .ok (.iaload, 1) := dk_46 (dk_at dksX5_layDoers_9 5 rfl rfl)
theorem dX5_layDoers_219 : decode cX5_layDoers 219 = .ok (.iconst 1, 1) := dk_4 (dk_at dksX5_layDoers_9 6 rfl rfl)
theorem dX5_layDoers_220 : decode cX5_layDoers 220 = .ok (.iadd, 1) := dk_96 (dk_at dksX5_layDoers_9 7 rfl rfl)
theorem dX5_layDoers_221 : decode cX5_layDoers 221 = .ok (.iastore, 1) := dk_79 (dk_at dksX5_layDoers_9 8 rfl rfl)
theorem dX5_layDoers_222 : decode cX5_layDoers 222 = .ok (.aload_n 0, 1) := dk_42 (dk_at dksX5_layDoers_9 9 rfl rfl)
theorem dX5_layDoers_223 : decode cX5_layDoers 223 = .ok (.getfield 103, 3) := dk_180 0 103 (dk_at dksX5_layDoers_9 10 rfl rfl)
theorem dX5_layDoers_226 : decode cX5_layDoers 226 = .ok (.iload_n 3, 1) := dk_29 (dk_at dksX5_layDoers_9 13 rfl rfl)
theorem dX5_layDoers_227 : decode cX5_layDoers 227 = .ok (.aload_n 0, 1) := dk_42 (dk_at dksX5_layDoers_9 14 rfl rfl)
theorem dX5_layDoers_228 : decode cX5_layDoers 228 = .ok (.getfield 103, 3) := dk_180 0 103 (dk_at dksX5_layDoers_9 15 rfl rfl)
theorem dX5_layDoers_231 : decode cX5_layDoers 231 = .ok (.iload 5, 2) := dk_21 5 (dk_at dksX5_layDoers_9 18 rfl rfl)
theorem dX5_layDoers_233 : decode cX5_layDoers 233 = .ok (.iaload, 1) := dk_46 (dk_at dksX5_layDoers_9 20 rfl rfl)
theorem dX5_layDoers_234 : decode cX5_layDoers 234 = .ok (.aload_n 0, 1) := dk_42 (dk_at dksX5_layDoers_9 21 rfl rfl)
theorem dX5_layDoers_235 : decode cX5_layDoers 235 = .ok (.getfield 106, 3) := dk_180 0 106 (dk_at dksX5_layDoers_10 0 rfl rfl)
theorem dX5_layDoers_238 : decode cX5_layDoers 238 = .ok (.iload_n 1, 1) := dk_27 (dk_at dksX5_layDoers_10 3 rfl rfl)
theorem dX5_layDoers_239 : decode cX5_layDoers 239 = .ok (.iaload, 1) := dk_46 (dk_at dksX5_layDoers_10 4 rfl rfl)
theorem dX5_layDoers_240 : decode cX5_layDoers 240 = .ok (.iadd, 1) := dk_96 (dk_at dksX5_layDoers_10 5 rfl rfl)
theorem dX5_layDoers_241 : decode cX5_layDoers 241 = .ok (.iastore, 1) := dk_79 (dk_at dksX5_layDoers_10 6 rfl rfl)
theorem dX5_layDoers_242 : decode cX5_layDoers 242 = .ok (.iinc 4 1, 3) := dk_132 4 1 (dk_at dksX5_layDoers_10 7 rfl rfl)
theorem dX5_layDoers_245 : decode cX5_layDoers 245 = .ok (.goto (-135), 3) := dk_167 255 121 (dk_at dksX5_layDoers_10 10 rfl rfl)
theorem dX5_layDoers_248 : decode cX5_layDoers 248 = .ok (.iinc 2 1, 3) := dk_132 2 1 (dk_at dksX5_layDoers_10 13 rfl rfl)
theorem dX5_layDoers_251 : decode cX5_layDoers 251 = .ok (.goto (-191), 3) := dk_167 255 65 (dk_at dksX5_layDoers_10 16 rfl rfl)
theorem dX5_layDoers_254 : decode cX5_layDoers 254 = .ok (.iinc 1 (-1), 3) := dk_132 1 255 (dk_at dksX5_layDoers_10 19 rfl rfl)
theorem dX5_layDoers_257 : decode cX5_layDoers 257 = .ok (.goto (-203), 3) := dk_167 255 53 (dk_at dksX5_layDoers_11 0 rfl rfl)
theorem dX5_layDoers_260 : decode cX5_layDoers 260 = .ok (.return_, 1) := dk_177 (dk_at dksX5_layDoers_11 3 rfl rfl)
abbrev cX5_isMore : ByteArray := prog_17_method_70_code
def yX5_isMore : MethodName := ⟨RX5, "isMore", "(IIII)Z"⟩
def dkwX5_isMore_0 : List UInt8 := [26, 28, 163, 0, 13, 26, 28, 160, 0, 12, 27, 29, 162, 0, 7, 4, 167, 0, 4, 3, 172]
abbrev dktX5_isMore_0 : List UInt8 := dkwX5_isMore_0 ++ []
theorem dksX5_isMore_0 : cX5_isMore.data.toList.drop 0 = dktX5_isMore_0 := by decide +kernel
theorem dX5_isMore_0 : decode cX5_isMore 0 = .ok (.iload_n 0, 1) := dk_26 (dk_at dksX5_isMore_0 0 rfl rfl)
theorem dX5_isMore_1 : decode cX5_isMore 1 = .ok (.iload_n 2, 1) := dk_28 (dk_at dksX5_isMore_0 1 rfl rfl)
theorem dX5_isMore_2 : decode cX5_isMore 2 = .ok (.if_icmp .gt 13, 3) := dk_163 0 13 (dk_at dksX5_isMore_0 2 rfl rfl)
theorem dX5_isMore_5 : decode cX5_isMore 5 = .ok (.iload_n 0, 1) := dk_26 (dk_at dksX5_isMore_0 5 rfl rfl)
theorem dX5_isMore_6 : decode cX5_isMore 6 = .ok (.iload_n 2, 1) := dk_28 (dk_at dksX5_isMore_0 6 rfl rfl)
theorem dX5_isMore_7 : decode cX5_isMore 7 = .ok (.if_icmp .ne 12, 3) := dk_160 0 12 (dk_at dksX5_isMore_0 7 rfl rfl)
theorem dX5_isMore_10 : decode cX5_isMore 10 = .ok (.iload_n 1, 1) := dk_27 (dk_at dksX5_isMore_0 10 rfl rfl)
theorem dX5_isMore_11 : decode cX5_isMore 11 = .ok (.iload_n 3, 1) := dk_29 (dk_at dksX5_isMore_0 11 rfl rfl)
theorem dX5_isMore_12 : decode cX5_isMore 12 = .ok (.if_icmp .ge 7, 3) := dk_162 0 7 (dk_at dksX5_isMore_0 12 rfl rfl)
theorem dX5_isMore_15 : decode cX5_isMore 15 = .ok (.iconst 1, 1) := dk_4 (dk_at dksX5_isMore_0 15 rfl rfl)
theorem dX5_isMore_16 : decode cX5_isMore 16 = .ok (.goto 4, 3) := dk_167 0 4 (dk_at dksX5_isMore_0 16 rfl rfl)
theorem dX5_isMore_19 : decode cX5_isMore 19 = .ok (.iconst 0, 1) := dk_3 (dk_at dksX5_isMore_0 19 rfl rfl)
theorem dX5_isMore_20 : decode cX5_isMore 20 = .ok (.ireturn, 1) := dk_172 (dk_at dksX5_isMore_0 20 rfl rfl)
abbrev cX5_putDoers : ByteArray := prog_17_method_72_code
def yX5_putDoers : MethodName := ⟨RX5, "putDoers", "()V"⟩
def dkwX5_putDoers_7 : List UInt8 := [180, 1, 94, 181, 1, 109, 177]
abbrev dktX5_putDoers_7 : List UInt8 := dkwX5_putDoers_7 ++ []
def dkwX5_putDoers_6 : List UInt8 := [155, 0, 14, 27, 4, 42, 180, 0, 97, 28, 46, 120, 128, 60, 132, 2, 1, 167, 255, 100, 42, 42]
abbrev dktX5_putDoers_6 : List UInt8 := dkwX5_putDoers_6 ++ dktX5_putDoers_7
def dkwX5_putDoers_5 : List UInt8 := [46, 160, 0, 10, 42, 180, 0, 97, 28, 29, 79, 132, 3, 255, 167, 255, 148, 42, 180, 0, 97, 28, 46]
abbrev dktX5_putDoers_5 : List UInt8 := dkwX5_putDoers_5 ++ dktX5_putDoers_6
def dkwX5_putDoers_4 : List UInt8 := [180, 0, 103, 21, 4, 46, 42, 180, 0, 106, 28, 46, 96, 42, 180, 0, 103, 17, 1, 0, 28, 104, 27, 96]
abbrev dktX5_putDoers_4 : List UInt8 := dkwX5_putDoers_4 ++ dktX5_putDoers_5
def dkwX5_putDoers_3 : List UInt8 := [180, 0, 100, 21, 4, 46, 4, 96, 42, 180, 0, 100, 17, 1, 0, 28, 104, 27, 96, 46, 160, 0, 39, 42]
abbrev dktX5_putDoers_3 : List UInt8 := dkwX5_putDoers_3 ++ dktX5_putDoers_4
def dkwX5_putDoers_2 : List UInt8 := [126, 4, 160, 0, 6, 167, 0, 78, 17, 1, 0, 28, 4, 96, 104, 27, 4, 29, 120, 128, 96, 54, 4, 42]
abbrev dktX5_putDoers_2 : List UInt8 := dkwX5_putDoers_2 ++ dktX5_putDoers_3
def dkwX5_putDoers_1 : List UInt8 := [100, 62, 29, 155, 0, 110, 42, 180, 0, 109, 16, 8, 28, 104, 29, 96, 51, 153, 0, 90, 27, 29, 122, 4]
abbrev dktX5_putDoers_1 : List UInt8 := dkwX5_putDoers_1 ++ dktX5_putDoers_2
def dkwX5_putDoers_0 : List UInt8 := [3, 60, 3, 61, 28, 42, 180, 1, 94, 162, 0, 154, 42, 180, 0, 97, 28, 2, 79, 42, 180, 1, 94, 4]
abbrev dktX5_putDoers_0 : List UInt8 := dkwX5_putDoers_0 ++ dktX5_putDoers_1
theorem dksX5_putDoers_0 : cX5_putDoers.data.toList.drop 0 = dktX5_putDoers_0 := by decide +kernel
theorem dksX5_putDoers_1 : cX5_putDoers.data.toList.drop 24 = dktX5_putDoers_1 := dk_seg dksX5_putDoers_0 24 rfl rfl
theorem dksX5_putDoers_2 : cX5_putDoers.data.toList.drop 48 = dktX5_putDoers_2 := dk_seg dksX5_putDoers_1 24 rfl rfl
theorem dksX5_putDoers_3 : cX5_putDoers.data.toList.drop 72 = dktX5_putDoers_3 := dk_seg dksX5_putDoers_2 24 rfl rfl
theorem dksX5_putDoers_4 : cX5_putDoers.data.toList.drop 96 = dktX5_putDoers_4 := dk_seg dksX5_putDoers_3 24 rfl rfl
theorem dksX5_putDoers_5 : cX5_putDoers.data.toList.drop 120 = dktX5_putDoers_5 := dk_seg dksX5_putDoers_4 24 rfl rfl
theorem dksX5_putDoers_6 : cX5_putDoers.data.toList.drop 143 = dktX5_putDoers_6 := dk_seg dksX5_putDoers_5 23 rfl rfl
theorem dksX5_putDoers_7 : cX5_putDoers.data.toList.drop 165 = dktX5_putDoers_7 := dk_seg dksX5_putDoers_6 22 rfl rfl
theorem dX5_putDoers_0 : decode cX5_putDoers 0 = .ok (.iconst 0, 1) := dk_3 (dk_at dksX5_putDoers_0 0 rfl rfl)
theorem dX5_putDoers_1 : decode cX5_putDoers 1 = .ok (.istore_n 1, 1) := dk_60 (dk_at dksX5_putDoers_0 1 rfl rfl)
theorem dX5_putDoers_2 : decode cX5_putDoers 2 = .ok (.iconst 0, 1) := dk_3 (dk_at dksX5_putDoers_0 2 rfl rfl)
theorem dX5_putDoers_3 : decode cX5_putDoers 3 = .ok (.istore_n 2, 1) := dk_61 (dk_at dksX5_putDoers_0 3 rfl rfl)
theorem dX5_putDoers_4 : decode cX5_putDoers 4 = .ok (.iload_n 2, 1) := dk_28 (dk_at dksX5_putDoers_0 4 rfl rfl)
theorem dX5_putDoers_5 : decode cX5_putDoers 5 = .ok (.aload_n 0, 1) := dk_42 (dk_at dksX5_putDoers_0 5 rfl rfl)
theorem dX5_putDoers_6 : decode cX5_putDoers 6 = .ok (.getfield 350, 3) := dk_180 1 94 (dk_at dksX5_putDoers_0 6 rfl rfl)
theorem dX5_putDoers_9 : decode cX5_putDoers 9 = .ok (.if_icmp .ge 154, 3) := dk_162 0 154 (dk_at dksX5_putDoers_0 9 rfl rfl)
theorem dX5_putDoers_12 : decode cX5_putDoers 12 = .ok (.aload_n 0, 1) := dk_42 (dk_at dksX5_putDoers_0 12 rfl rfl)
theorem dX5_putDoers_13 : decode cX5_putDoers 13 = .ok (.getfield 97, 3) := dk_180 0 97 (dk_at dksX5_putDoers_0 13 rfl rfl)
theorem dX5_putDoers_16 : decode cX5_putDoers 16 = .ok (.iload_n 2, 1) := dk_28 (dk_at dksX5_putDoers_0 16 rfl rfl)
theorem dX5_putDoers_17 : decode cX5_putDoers 17 = .ok (.iconst (-1), 1) := dk_2 (dk_at dksX5_putDoers_0 17 rfl rfl)
theorem dX5_putDoers_18 : decode cX5_putDoers 18 = .ok (.iastore, 1) := dk_79 (dk_at dksX5_putDoers_0 18 rfl rfl)
theorem dX5_putDoers_19 : decode cX5_putDoers 19 = .ok (.aload_n 0, 1) := dk_42 (dk_at dksX5_putDoers_0 19 rfl rfl)
theorem dX5_putDoers_20 : decode cX5_putDoers 20 = .ok (.getfield 350, 3) := dk_180 1 94 (dk_at dksX5_putDoers_0 20 rfl rfl)
theorem dX5_putDoers_23 : decode cX5_putDoers 23 = .ok (.iconst 1, 1) := dk_4 (dk_at dksX5_putDoers_0 23 rfl rfl)
theorem dX5_putDoers_24 : decode cX5_putDoers 24 = .ok (.isub, 1) := dk_100 (dk_at dksX5_putDoers_1 0 rfl rfl)
theorem dX5_putDoers_25 : decode cX5_putDoers 25 = .ok (.istore_n 3, 1) := dk_62 (dk_at dksX5_putDoers_1 1 rfl rfl)
theorem dX5_putDoers_26 : decode cX5_putDoers 26 = .ok (.iload_n 3, 1) := dk_29 (dk_at dksX5_putDoers_1 2 rfl rfl)
theorem dX5_putDoers_27 : decode cX5_putDoers 27 = .ok (.ifCond .lt 110, 3) := dk_155 0 110 (dk_at dksX5_putDoers_1 3 rfl rfl)
theorem dX5_putDoers_30 : decode cX5_putDoers 30 = .ok (.aload_n 0, 1) := dk_42 (dk_at dksX5_putDoers_1 6 rfl rfl)
theorem dX5_putDoers_31 : decode cX5_putDoers 31 = .ok (.getfield 109, 3) := dk_180 0 109 (dk_at dksX5_putDoers_1 7 rfl rfl)
theorem dX5_putDoers_34 : decode cX5_putDoers 34 = .ok (.bipush 8, 2) := dk_16 8 (dk_at dksX5_putDoers_1 10 rfl rfl)
theorem dX5_putDoers_36 : decode cX5_putDoers 36 = .ok (.iload_n 2, 1) := dk_28 (dk_at dksX5_putDoers_1 12 rfl rfl)
theorem dX5_putDoers_37 : decode cX5_putDoers 37 = .ok (.imul, 1) := dk_104 (dk_at dksX5_putDoers_1 13 rfl rfl)
theorem dX5_putDoers_38 : decode cX5_putDoers 38 = .ok (.iload_n 3, 1) := dk_29 (dk_at dksX5_putDoers_1 14 rfl rfl)
theorem dX5_putDoers_39 : decode cX5_putDoers 39 = .ok (.iadd, 1) := dk_96 (dk_at dksX5_putDoers_1 15 rfl rfl)
theorem dX5_putDoers_40 : decode cX5_putDoers 40 = .ok (.baload, 1) := dk_51 (dk_at dksX5_putDoers_1 16 rfl rfl)
theorem dX5_putDoers_41 : decode cX5_putDoers 41 = .ok (.ifCond .eq 90, 3) := dk_153 0 90 (dk_at dksX5_putDoers_1 17 rfl rfl)
theorem dX5_putDoers_44 : decode cX5_putDoers 44 = .ok (.iload_n 1, 1) := dk_27 (dk_at dksX5_putDoers_1 20 rfl rfl)
theorem dX5_putDoers_45 : decode cX5_putDoers 45 = .ok (.iload_n 3, 1) := dk_29 (dk_at dksX5_putDoers_1 21 rfl rfl)
theorem dX5_putDoers_46 : decode cX5_putDoers 46 = .ok (.ishr, 1) := dk_122 (dk_at dksX5_putDoers_1 22 rfl rfl)
theorem dX5_putDoers_47 : decode cX5_putDoers 47 = .ok (.iconst 1, 1) := dk_4 (dk_at dksX5_putDoers_1 23 rfl rfl)
theorem dX5_putDoers_48 : decode cX5_putDoers 48 = .ok (.iand, 1) := dk_126 (dk_at dksX5_putDoers_2 0 rfl rfl)
theorem dX5_putDoers_49 : decode cX5_putDoers 49 = .ok (.iconst 1, 1) := dk_4 (dk_at dksX5_putDoers_2 1 rfl rfl)
theorem dX5_putDoers_50 : decode cX5_putDoers 50 = .ok (.if_icmp .ne 6, 3) := dk_160 0 6 (dk_at dksX5_putDoers_2 2 rfl rfl)
theorem dX5_putDoers_53 : decode cX5_putDoers 53 = .ok (.goto 78, 3) := dk_167 0 78 (dk_at dksX5_putDoers_2 5 rfl rfl)
theorem dX5_putDoers_56 : decode cX5_putDoers 56 = .ok (.sipush 256, 3) := dk_17 1 0 (dk_at dksX5_putDoers_2 8 rfl rfl)
theorem dX5_putDoers_59 : decode cX5_putDoers 59 = .ok (.iload_n 2, 1) := dk_28 (dk_at dksX5_putDoers_2 11 rfl rfl)
theorem dX5_putDoers_60 : decode cX5_putDoers 60 = .ok (.iconst 1, 1) := dk_4 (dk_at dksX5_putDoers_2 12 rfl rfl)
theorem dX5_putDoers_61 : decode cX5_putDoers 61 = .ok (.iadd, 1) := dk_96 (dk_at dksX5_putDoers_2 13 rfl rfl)
theorem dX5_putDoers_62 : decode cX5_putDoers 62 = .ok (.imul, 1) := dk_104 (dk_at dksX5_putDoers_2 14 rfl rfl)
theorem dX5_putDoers_63 : decode cX5_putDoers 63 = .ok (.iload_n 1, 1) := dk_27 (dk_at dksX5_putDoers_2 15 rfl rfl)
theorem dX5_putDoers_64 : decode cX5_putDoers 64 = .ok (.iconst 1, 1) := dk_4 (dk_at dksX5_putDoers_2 16 rfl rfl)
theorem dX5_putDoers_65 : decode cX5_putDoers 65 = .ok (.iload_n 3, 1) := dk_29 (dk_at dksX5_putDoers_2 17 rfl rfl)
theorem dX5_putDoers_66 : decode cX5_putDoers 66 = .ok (.ishl, 1) := dk_120 (dk_at dksX5_putDoers_2 18 rfl rfl)
theorem dX5_putDoers_67 : decode cX5_putDoers 67 = .ok (.ior, 1) := dk_128 (dk_at dksX5_putDoers_2 19 rfl rfl)
theorem dX5_putDoers_68 : decode cX5_putDoers 68 = .ok (.iadd, 1) := dk_96 (dk_at dksX5_putDoers_2 20 rfl rfl)
theorem dX5_putDoers_69 : decode cX5_putDoers 69 = .ok (.istore 4, 2) := dk_54 4 (dk_at dksX5_putDoers_2 21 rfl rfl)
theorem dX5_putDoers_71 : decode cX5_putDoers 71 = .ok (.aload_n 0, 1) := dk_42 (dk_at dksX5_putDoers_2 23 rfl rfl)
theorem dX5_putDoers_72 : decode cX5_putDoers 72 = .ok (.getfield 100, 3) := dk_180 0 100 (dk_at dksX5_putDoers_3 0 rfl rfl)
theorem dX5_putDoers_75 : decode cX5_putDoers 75 = .ok (.iload 4, 2) := dk_21 4 (dk_at dksX5_putDoers_3 3 rfl rfl)
theorem dX5_putDoers_77 : decode cX5_putDoers 77 = .ok (.iaload, 1) := dk_46 (dk_at dksX5_putDoers_3 5 rfl rfl)
theorem dX5_putDoers_78 : decode cX5_putDoers 78 = .ok (.iconst 1, 1) := dk_4 (dk_at dksX5_putDoers_3 6 rfl rfl)
theorem dX5_putDoers_79 : decode cX5_putDoers 79 = .ok (.iadd, 1) := dk_96 (dk_at dksX5_putDoers_3 7 rfl rfl)
theorem dX5_putDoers_80 : decode cX5_putDoers 80 = .ok (.aload_n 0, 1) := dk_42 (dk_at dksX5_putDoers_3 8 rfl rfl)
theorem dX5_putDoers_81 : decode cX5_putDoers 81 = .ok (.getfield 100, 3) := dk_180 0 100 (dk_at dksX5_putDoers_3 9 rfl rfl)
theorem dX5_putDoers_84 : decode cX5_putDoers 84 = .ok (.sipush 256, 3) := dk_17 1 0 (dk_at dksX5_putDoers_3 12 rfl rfl)
theorem dX5_putDoers_87 : decode cX5_putDoers 87 = .ok (.iload_n 2, 1) := dk_28 (dk_at dksX5_putDoers_3 15 rfl rfl)
theorem dX5_putDoers_88 : decode cX5_putDoers 88 = .ok (.imul, 1) := dk_104 (dk_at dksX5_putDoers_3 16 rfl rfl)
theorem dX5_putDoers_89 : decode cX5_putDoers 89 = .ok (.iload_n 1, 1) := dk_27 (dk_at dksX5_putDoers_3 17 rfl rfl)
theorem dX5_putDoers_90 : decode cX5_putDoers 90 = .ok (.iadd, 1) := dk_96 (dk_at dksX5_putDoers_3 18 rfl rfl)
theorem dX5_putDoers_91 : decode cX5_putDoers 91 = .ok (.iaload, 1) := dk_46 (dk_at dksX5_putDoers_3 19 rfl rfl)
theorem dX5_putDoers_92 : decode cX5_putDoers 92 = .ok (.if_icmp .ne 39, 3) := dk_160 0 39 (dk_at dksX5_putDoers_3 20 rfl rfl)
theorem dX5_putDoers_95 : decode cX5_putDoers 95 = .ok (.aload_n 0, 1) := dk_42 (dk_at dksX5_putDoers_3 23 rfl rfl)
theorem dX5_putDoers_96 : decode cX5_putDoers 96 = .ok (.getfield 103, 3) := dk_180 0 103 (dk_at dksX5_putDoers_4 0 rfl rfl)
theorem dX5_putDoers_99 : decode cX5_putDoers 99 = .ok (.iload 4, 2) := dk_21 4 (dk_at dksX5_putDoers_4 3 rfl rfl)
theorem dX5_putDoers_101 : decode cX5_putDoers 101 = .ok (.iaload, 1) := dk_46 (dk_at dksX5_putDoers_4 5 rfl rfl)
theorem dX5_putDoers_102 : decode cX5_putDoers 102 = .ok (.aload_n 0, 1) := dk_42 (dk_at dksX5_putDoers_4 6 rfl rfl)
theorem dX5_putDoers_103 : decode cX5_putDoers 103 = .ok (.getfield 106, 3) := dk_180 0 106 (dk_at dksX5_putDoers_4 7 rfl rfl)
theorem dX5_putDoers_106 : decode cX5_putDoers 106 = .ok (.iload_n 2, 1) := dk_28 (dk_at dksX5_putDoers_4 10 rfl rfl)
theorem dX5_putDoers_107 : decode cX5_putDoers 107 = .ok (.iaload, 1) := dk_46 (dk_at dksX5_putDoers_4 11 rfl rfl)
theorem dX5_putDoers_108 : decode cX5_putDoers 108 = .ok (.iadd, 1) := dk_96 (dk_at dksX5_putDoers_4 12 rfl rfl)
theorem dX5_putDoers_109 : decode cX5_putDoers 109 = .ok (.aload_n 0, 1) := dk_42 (dk_at dksX5_putDoers_4 13 rfl rfl)
theorem dX5_putDoers_110 : decode cX5_putDoers 110 = .ok (.getfield 103, 3) := dk_180 0 103 (dk_at dksX5_putDoers_4 14 rfl rfl)
theorem dX5_putDoers_113 : decode cX5_putDoers 113 = .ok (.sipush 256, 3) := dk_17 1 0 (dk_at dksX5_putDoers_4 17 rfl rfl)
theorem dX5_putDoers_116 : decode cX5_putDoers 116 = .ok (.iload_n 2, 1) := dk_28 (dk_at dksX5_putDoers_4 20 rfl rfl)
theorem dX5_putDoers_117 : decode cX5_putDoers 117 = .ok (.imul, 1) := dk_104 (dk_at dksX5_putDoers_4 21 rfl rfl)
theorem dX5_putDoers_118 : decode cX5_putDoers 118 = .ok (.iload_n 1, 1) := dk_27 (dk_at dksX5_putDoers_4 22 rfl rfl)
theorem dX5_putDoers_119 : decode cX5_putDoers 119 = .ok (.iadd, 1) := dk_96 (dk_at dksX5_putDoers_4 23 rfl rfl)
theorem dX5_putDoers_120 : decode cX5_putDoers 120 = .ok (.iaload, 1) := dk_46 (dk_at dksX5_putDoers_5 0 rfl rfl)
theorem dX5_putDoers_121 : decode cX5_putDoers 121 = .ok (.if_icmp .ne 10, 3) := dk_160 0 10 (dk_at dksX5_putDoers_5 1 rfl rfl)
theorem dX5_putDoers_124 : decode cX5_putDoers 124 = .ok (.aload_n 0, 1) := dk_42 (dk_at dksX5_putDoers_5 4 rfl rfl)
theorem dX5_putDoers_125 : decode cX5_putDoers 125 = .ok (.getfield 97, 3) := dk_180 0 97 (dk_at dksX5_putDoers_5 5 rfl rfl)
theorem dX5_putDoers_128 : decode cX5_putDoers 128 = .ok (.iload_n 2, 1) := dk_28 (dk_at dksX5_putDoers_5 8 rfl rfl)
theorem dX5_putDoers_129 : decode cX5_putDoers 129 = .ok (.iload_n 3, 1) := dk_29 (dk_at dksX5_putDoers_5 9 rfl rfl)
theorem dX5_putDoers_130 : decode cX5_putDoers 130 = .ok (.iastore, 1) := dk_79 (dk_at dksX5_putDoers_5 10 rfl rfl)
theorem dX5_putDoers_131 : decode cX5_putDoers 131 = .ok (.iinc 3 (-1), 3) := dk_132 3 255 (dk_at dksX5_putDoers_5 11 rfl rfl)
theorem dX5_putDoers_134 : decode cX5_putDoers 134 = .ok (.goto (-108), 3) := dk_167 255 148 (dk_at dksX5_putDoers_5 14 rfl rfl)
theorem dX5_putDoers_137 : decode cX5_putDoers 137 = .ok (.aload_n 0, 1) := dk_42 (dk_at dksX5_putDoers_5 17 rfl rfl)
theorem dX5_putDoers_138 : decode cX5_putDoers 138 = .ok (.getfield 97, 3) := dk_180 0 97 (dk_at dksX5_putDoers_5 18 rfl rfl)
theorem dX5_putDoers_141 : decode cX5_putDoers 141 = .ok (.iload_n 2, 1) := dk_28 (dk_at dksX5_putDoers_5 21 rfl rfl)
theorem dX5_putDoers_142 : decode cX5_putDoers 142 = .ok (.iaload, 1) := dk_46 (dk_at dksX5_putDoers_5 22 rfl rfl)
theorem dX5_putDoers_143 : decode cX5_putDoers 143 = .ok (.ifCond .lt 14, 3) := dk_155 0 14 (dk_at dksX5_putDoers_6 0 rfl rfl)
theorem dX5_putDoers_146 : decode cX5_putDoers 146 = .ok (.iload_n 1, 1) := dk_27 (dk_at dksX5_putDoers_6 3 rfl rfl)
theorem dX5_putDoers_147 : decode cX5_putDoers 147 = .ok (.iconst 1, 1) := dk_4 (dk_at dksX5_putDoers_6 4 rfl rfl)
theorem dX5_putDoers_148 : decode cX5_putDoers 148 = .ok (.aload_n 0, 1) := dk_42 (dk_at dksX5_putDoers_6 5 rfl rfl)
theorem dX5_putDoers_149 : decode cX5_putDoers 149 = .ok (.getfield 97, 3) := dk_180 0 97 (dk_at dksX5_putDoers_6 6 rfl rfl)
theorem dX5_putDoers_152 : decode cX5_putDoers 152 = .ok (.iload_n 2, 1) := dk_28 (dk_at dksX5_putDoers_6 9 rfl rfl)
theorem dX5_putDoers_153 : decode cX5_putDoers 153 = .ok (.iaload, 1) := dk_46 (dk_at dksX5_putDoers_6 10 rfl rfl)
theorem dX5_putDoers_154 : decode cX5_putDoers 154 = .ok (.ishl, 1) := dk_120 (dk_at dksX5_putDoers_6 11 rfl rfl)
theorem dX5_putDoers_155 : decode cX5_putDoers 155 = .ok (.ior, 1) := dk_128 (dk_at dksX5_putDoers_6 12 rfl rfl)
theorem dX5_putDoers_156 : decode cX5_putDoers 156 = .ok (.istore_n 1, 1) := dk_60 (dk_at dksX5_putDoers_6 13 rfl rfl)
theorem dX5_putDoers_157 : decode cX5_putDoers 157 = .ok (.iinc 2 1, 3) := dk_132 2 1 (dk_at dksX5_putDoers_6 14 rfl rfl)
theorem dX5_putDoers_160 : decode cX5_putDoers 160 = .ok (.goto (-156), 3) := dk_167 255 100 (dk_at dksX5_putDoers_6 17 rfl rfl)
theorem dX5_putDoers_163 : decode cX5_putDoers 163 = .ok (.aload_n 0, 1) := dk_42 (dk_at dksX5_putDoers_6 20 rfl rfl)
theorem dX5_putDoers_164 : decode cX5_putDoers 164 = .ok (.aload_n 0, 1) := dk_42 (dk_at dksX5_putDoers_6 21 rfl rfl)
theorem dX5_putDoers_165 : decode cX5_putDoers 165 = .ok (.getfield 350, 3) := dk_180 1 94 (dk_at dksX5_putDoers_7 0 rfl rfl)
theorem dX5_putDoers_168 : decode cX5_putDoers 168 = .ok (.putfield 365, 3) := dk_181 1 109 (dk_at dksX5_putDoers_7 3 rfl rfl)
theorem dX5_putDoers_171 : decode cX5_putDoers 171 = .ok (.return_, 1) := dk_177 (dk_at dksX5_putDoers_7 6 rfl rfl)
abbrev cX5_proxy : ByteArray := prog_17_method_76_code
def yX5_proxy : MethodName := ⟨RX5, "proxy", "()I"⟩
def dkwX5_proxy_0 : List UInt8 := [42, 182, 1, 189, 42, 182, 1, 183, 42, 180, 0, 100, 3, 46, 172]
abbrev dktX5_proxy_0 : List UInt8 := dkwX5_proxy_0 ++ []
theorem dksX5_proxy_0 : cX5_proxy.data.toList.drop 0 = dktX5_proxy_0 := by decide +kernel
theorem dX5_proxy_0 : decode cX5_proxy 0 = .ok (.aload_n 0, 1) := dk_42 (dk_at dksX5_proxy_0 0 rfl rfl)
theorem dX5_proxy_1 : decode cX5_proxy 1 = .ok (.invokevirtual 445, 3) := dk_182 1 189 (dk_at dksX5_proxy_0 1 rfl rfl)
theorem dX5_proxy_4 : decode cX5_proxy 4 = .ok (.aload_n 0, 1) := dk_42 (dk_at dksX5_proxy_0 4 rfl rfl)
theorem dX5_proxy_5 : decode cX5_proxy 5 = .ok (.invokevirtual 439, 3) := dk_182 1 183 (dk_at dksX5_proxy_0 5 rfl rfl)
theorem dX5_proxy_8 : decode cX5_proxy 8 = .ok (.aload_n 0, 1) := dk_42 (dk_at dksX5_proxy_0 8 rfl rfl)
theorem dX5_proxy_9 : decode cX5_proxy 9 = .ok (.getfield 100, 3) := dk_180 0 100 (dk_at dksX5_proxy_0 9 rfl rfl)
theorem dX5_proxy_12 : decode cX5_proxy 12 = .ok (.iconst 0, 1) := dk_3 (dk_at dksX5_proxy_0 12 rfl rfl)
theorem dX5_proxy_13 : decode cX5_proxy 13 = .ok (.iaload, 1) := dk_46 (dk_at dksX5_proxy_0 13 rfl rfl)
theorem dX5_proxy_14 : decode cX5_proxy 14 = .ok (.ireturn, 1) := dk_172 (dk_at dksX5_proxy_0 14 rfl rfl)
abbrev cX5_layProxy : ByteArray := prog_17_method_75_code
def yX5_layProxy : MethodName := ⟨RX5, "layProxy", "()V"⟩
def dkwX5_layProxy_4 : List UInt8 := [3, 84, 132, 3, 1, 167, 255, 210, 132, 1, 1, 167, 255, 157, 42, 182, 1, 180, 177]
abbrev dktX5_layProxy_4 : List UInt8 := dkwX5_layProxy_4 ++ []
def dkwX5_layProxy_3 : List UInt8 := [96, 29, 27, 159, 0, 21, 28, 155, 0, 17, 42, 180, 0, 88, 29, 46, 28, 161, 0, 7, 4, 167, 0, 4]
abbrev dktX5_layProxy_3 : List UInt8 := dkwX5_layProxy_3 ++ dktX5_layProxy_4
def dkwX5_layProxy_2 : List UInt8 := [167, 0, 4, 28, 79, 3, 62, 29, 42, 180, 1, 94, 162, 0, 44, 42, 180, 0, 109, 16, 8, 27, 104, 29]
abbrev dktX5_layProxy_2 : List UInt8 := dkwX5_layProxy_2 ++ dktX5_layProxy_3
def dkwX5_layProxy_1 : List UInt8 := [27, 182, 1, 141, 182, 1, 186, 167, 0, 4, 2, 61, 42, 180, 0, 106, 27, 28, 156, 0, 7, 3]
abbrev dktX5_layProxy_1 : List UInt8 := dkwX5_layProxy_1 ++ dktX5_layProxy_2
def dkwX5_layProxy_0 : List UInt8 := [42, 182, 1, 138, 3, 60, 27, 42, 180, 1, 94, 162, 0, 97, 42, 27, 182, 1, 141, 158, 0, 15, 42, 42]
abbrev dktX5_layProxy_0 : List UInt8 := dkwX5_layProxy_0 ++ dktX5_layProxy_1
theorem dksX5_layProxy_0 : cX5_layProxy.data.toList.drop 0 = dktX5_layProxy_0 := by decide +kernel
theorem dksX5_layProxy_1 : cX5_layProxy.data.toList.drop 24 = dktX5_layProxy_1 := dk_seg dksX5_layProxy_0 24 rfl rfl
theorem dksX5_layProxy_2 : cX5_layProxy.data.toList.drop 46 = dktX5_layProxy_2 := dk_seg dksX5_layProxy_1 22 rfl rfl
theorem dksX5_layProxy_3 : cX5_layProxy.data.toList.drop 70 = dktX5_layProxy_3 := dk_seg dksX5_layProxy_2 24 rfl rfl
theorem dksX5_layProxy_4 : cX5_layProxy.data.toList.drop 94 = dktX5_layProxy_4 := dk_seg dksX5_layProxy_3 24 rfl rfl
theorem dX5_layProxy_0 : decode cX5_layProxy 0 = .ok (.aload_n 0, 1) := dk_42 (dk_at dksX5_layProxy_0 0 rfl rfl)
theorem dX5_layProxy_1 : decode cX5_layProxy 1 = .ok (.invokevirtual 394, 3) := dk_182 1 138 (dk_at dksX5_layProxy_0 1 rfl rfl)
theorem dX5_layProxy_4 : decode cX5_layProxy 4 = .ok (.iconst 0, 1) := dk_3 (dk_at dksX5_layProxy_0 4 rfl rfl)
theorem dX5_layProxy_5 : decode cX5_layProxy 5 = .ok (.istore_n 1, 1) := dk_60 (dk_at dksX5_layProxy_0 5 rfl rfl)
theorem dX5_layProxy_6 : decode cX5_layProxy 6 = .ok (.iload_n 1, 1) := dk_27 (dk_at dksX5_layProxy_0 6 rfl rfl)
theorem dX5_layProxy_7 : decode cX5_layProxy 7 = .ok (.aload_n 0, 1) := dk_42 (dk_at dksX5_layProxy_0 7 rfl rfl)
theorem dX5_layProxy_8 : decode cX5_layProxy 8 = .ok (.getfield 350, 3) := dk_180 1 94 (dk_at dksX5_layProxy_0 8 rfl rfl)
theorem dX5_layProxy_11 : decode cX5_layProxy 11 = .ok (.if_icmp .ge 97, 3) := dk_162 0 97 (dk_at dksX5_layProxy_0 11 rfl rfl)
theorem dX5_layProxy_14 : decode cX5_layProxy 14 = .ok (.aload_n 0, 1) := dk_42 (dk_at dksX5_layProxy_0 14 rfl rfl)
theorem dX5_layProxy_15 : decode cX5_layProxy 15 = .ok (.iload_n 1, 1) := dk_27 (dk_at dksX5_layProxy_0 15 rfl rfl)
theorem dX5_layProxy_16 : decode cX5_layProxy 16 = .ok (.invokevirtual 397, 3) := dk_182 1 141 (dk_at dksX5_layProxy_0 16 rfl rfl)
theorem dX5_layProxy_19 : decode cX5_layProxy 19 = .ok (.ifCond .le 15, 3) := dk_158 0 15 (dk_at dksX5_layProxy_0 19 rfl rfl)
theorem dX5_layProxy_22 : decode cX5_layProxy 22 = .ok (.aload_n 0, 1) := dk_42 (dk_at dksX5_layProxy_0 22 rfl rfl)
theorem dX5_layProxy_23 : decode cX5_layProxy 23 = .ok (.aload_n 0, 1) := dk_42 (dk_at dksX5_layProxy_0 23 rfl rfl)
theorem dX5_layProxy_24 : decode cX5_layProxy 24 = .ok (.iload_n 1, 1) := dk_27 (dk_at dksX5_layProxy_1 0 rfl rfl)
theorem dX5_layProxy_25 : decode cX5_layProxy 25 = .ok (.invokevirtual 397, 3) := dk_182 1 141 (dk_at dksX5_layProxy_1 1 rfl rfl)
theorem dX5_layProxy_28 : decode cX5_layProxy 28 = .ok (.invokevirtual 442, 3) := dk_182 1 186 (dk_at dksX5_layProxy_1 4 rfl rfl)
theorem dX5_layProxy_31 : decode cX5_layProxy 31 = .ok (.goto 4, 3) := dk_167 0 4 (dk_at dksX5_layProxy_1 7 rfl rfl)
theorem dX5_layProxy_34 : decode cX5_layProxy 34 = .ok (.iconst (-1), 1) := dk_2 (dk_at dksX5_layProxy_1 10 rfl rfl)
theorem dX5_layProxy_35 : decode cX5_layProxy 35 = .ok (.istore_n 2, 1) := dk_61 (dk_at dksX5_layProxy_1 11 rfl rfl)
theorem dX5_layProxy_36 : decode cX5_layProxy 36 = .ok (.aload_n 0, 1) := dk_42 (dk_at dksX5_layProxy_1 12 rfl rfl)
theorem dX5_layProxy_37 : decode cX5_layProxy 37 = .ok (.getfield 106, 3) := dk_180 0 106 (dk_at dksX5_layProxy_1 13 rfl rfl)
theorem dX5_layProxy_40 : decode cX5_layProxy 40 = .ok (.iload_n 1, 1) := dk_27 (dk_at dksX5_layProxy_1 16 rfl rfl)
theorem dX5_layProxy_41 : decode cX5_layProxy 41 = .ok (.iload_n 2, 1) := dk_28 (dk_at dksX5_layProxy_1 17 rfl rfl)
theorem dX5_layProxy_42 : decode cX5_layProxy 42 = .ok (.ifCond .ge 7, 3) := dk_156 0 7 (dk_at dksX5_layProxy_1 18 rfl rfl)
theorem dX5_layProxy_45 : decode cX5_layProxy 45 = .ok (.iconst 0, 1) := dk_3 (dk_at dksX5_layProxy_1 21 rfl rfl)
theorem dX5_layProxy_46 : decode cX5_layProxy 46 = .ok (.goto 4, 3) := dk_167 0 4 (dk_at dksX5_layProxy_2 0 rfl rfl)
theorem dX5_layProxy_49 : decode cX5_layProxy 49 = .ok (.iload_n 2, 1) := dk_28 (dk_at dksX5_layProxy_2 3 rfl rfl)
theorem dX5_layProxy_50 : decode cX5_layProxy 50 = .ok (.iastore, 1) := dk_79 (dk_at dksX5_layProxy_2 4 rfl rfl)
theorem dX5_layProxy_51 : decode cX5_layProxy 51 = .ok (.iconst 0, 1) := dk_3 (dk_at dksX5_layProxy_2 5 rfl rfl)
theorem dX5_layProxy_52 : decode cX5_layProxy 52 = .ok (.istore_n 3, 1) := dk_62 (dk_at dksX5_layProxy_2 6 rfl rfl)
theorem dX5_layProxy_53 : decode cX5_layProxy 53 = .ok (.iload_n 3, 1) := dk_29 (dk_at dksX5_layProxy_2 7 rfl rfl)
theorem dX5_layProxy_54 : decode cX5_layProxy 54 = .ok (.aload_n 0, 1) := dk_42 (dk_at dksX5_layProxy_2 8 rfl rfl)
theorem dX5_layProxy_55 : decode cX5_layProxy 55 = .ok (.getfield 350, 3) := dk_180 1 94 (dk_at dksX5_layProxy_2 9 rfl rfl)
theorem dX5_layProxy_58 : decode cX5_layProxy 58 = .ok (.if_icmp .ge 44, 3) := dk_162 0 44 (dk_at dksX5_layProxy_2 12 rfl rfl)
theorem dX5_layProxy_61 : decode cX5_layProxy 61 = .ok (.aload_n 0, 1) := dk_42 (dk_at dksX5_layProxy_2 15 rfl rfl)
theorem dX5_layProxy_62 : decode cX5_layProxy 62 = .ok (.getfield 109, 3) := dk_180 0 109 (dk_at dksX5_layProxy_2 16 rfl rfl)
theorem dX5_layProxy_65 : decode cX5_layProxy 65 = .ok (.bipush 8, 2) := dk_16 8 (dk_at dksX5_layProxy_2 19 rfl rfl)
theorem dX5_layProxy_67 : decode cX5_layProxy 67 = .ok (.iload_n 1, 1) := dk_27 (dk_at dksX5_layProxy_2 21 rfl rfl)
theorem dX5_layProxy_68 : decode cX5_layProxy 68 = .ok (.imul, 1) := dk_104 (dk_at dksX5_layProxy_2 22 rfl rfl)
theorem dX5_layProxy_69 : decode cX5_layProxy 69 = .ok (.iload_n 3, 1) := dk_29 (dk_at dksX5_layProxy_2 23 rfl rfl)
theorem dX5_layProxy_70 : decode cX5_layProxy 70 = .ok (.iadd, 1) := dk_96 (dk_at dksX5_layProxy_3 0 rfl rfl)
theorem dX5_layProxy_71 : decode cX5_layProxy 71 = .ok (.iload_n 3, 1) := dk_29 (dk_at dksX5_layProxy_3 1 rfl rfl)
theorem dX5_layProxy_72 : decode cX5_layProxy 72 = .ok (.iload_n 1, 1) := dk_27 (dk_at dksX5_layProxy_3 2 rfl rfl)
theorem dX5_layProxy_73 : decode cX5_layProxy 73 = .ok (.if_icmp .eq 21, 3) := dk_159 0 21 (dk_at dksX5_layProxy_3 3 rfl rfl)
theorem dX5_layProxy_76 : decode cX5_layProxy 76 = .ok (.iload_n 2, 1) := dk_28 (dk_at dksX5_layProxy_3 6 rfl rfl)
theorem dX5_layProxy_77 : decode cX5_layProxy 77 = .ok (.ifCond .lt 17, 3) := dk_155 0 17 (dk_at dksX5_layProxy_3 7 rfl rfl)
theorem dX5_layProxy_80 : decode cX5_layProxy 80 = .ok (.aload_n 0, 1) := dk_42 (dk_at dksX5_layProxy_3 10 rfl rfl)
theorem dX5_layProxy_81 : decode cX5_layProxy 81 = .ok (.getfield 88, 3) := dk_180 0 88 (dk_at dksX5_layProxy_3 11 rfl rfl)
theorem dX5_layProxy_84 : decode cX5_layProxy 84 = .ok (.iload_n 3, 1) := dk_29 (dk_at dksX5_layProxy_3 14 rfl rfl)
theorem dX5_layProxy_85 : decode cX5_layProxy 85 = .ok (.iaload, 1) := dk_46 (dk_at dksX5_layProxy_3 15 rfl rfl)
theorem dX5_layProxy_86 : decode cX5_layProxy 86 = .ok (.iload_n 2, 1) := dk_28 (dk_at dksX5_layProxy_3 16 rfl rfl)
theorem dX5_layProxy_87 : decode cX5_layProxy 87 = .ok (.if_icmp .lt 7, 3) := dk_161 0 7 (dk_at dksX5_layProxy_3 17 rfl rfl)
theorem dX5_layProxy_90 : decode cX5_layProxy 90 = .ok (.iconst 1, 1) := dk_4 (dk_at dksX5_layProxy_3 20 rfl rfl)
theorem dX5_layProxy_91 : decode cX5_layProxy 91 = .ok (.goto 4, 3) := dk_167 0 4 (dk_at dksX5_layProxy_3 21 rfl rfl)
theorem dX5_layProxy_94 : decode cX5_layProxy 94 = .ok (.iconst 0, 1) := dk_3 (dk_at dksX5_layProxy_4 0 rfl rfl)
theorem dX5_layProxy_95 : decode cX5_layProxy 95 = .ok (.bastore, 1) := dk_84 (dk_at dksX5_layProxy_4 1 rfl rfl)
theorem dX5_layProxy_96 : decode cX5_layProxy 96 = .ok (.iinc 3 1, 3) := dk_132 3 1 (dk_at dksX5_layProxy_4 2 rfl rfl)
theorem dX5_layProxy_99 : decode cX5_layProxy 99 = .ok (.goto (-46), 3) := dk_167 255 210 (dk_at dksX5_layProxy_4 5 rfl rfl)
theorem dX5_layProxy_102 : decode cX5_layProxy 102 = .ok (.iinc 1 1, 3) := dk_132 1 1 (dk_at dksX5_layProxy_4 8 rfl rfl)
theorem dX5_layProxy_105 : decode cX5_layProxy 105 = .ok (.goto (-99), 3) := dk_167 255 157 (dk_at dksX5_layProxy_4 11 rfl rfl)
theorem dX5_layProxy_108 : decode cX5_layProxy 108 = .ok (.aload_n 0, 1) := dk_42 (dk_at dksX5_layProxy_4 14 rfl rfl)
theorem dX5_layProxy_109 : decode cX5_layProxy 109 = .ok (.invokevirtual 436, 3) := dk_182 1 180 (dk_at dksX5_layProxy_4 15 rfl rfl)
theorem dX5_layProxy_112 : decode cX5_layProxy 112 = .ok (.return_, 1) := dk_177 (dk_at dksX5_layProxy_4 18 rfl rfl)
abbrev cX5_storeysFor : ByteArray := prog_17_method_74_code
def yX5_storeysFor : MethodName := ⟨RX5, "storeysFor", "(I)I"⟩
def dkwX5_storeysFor_1 : List UInt8 := [132, 2, 1, 167, 255, 232, 2, 172]
abbrev dktX5_storeysFor_1 : List UInt8 := dkwX5_storeysFor_1 ++ []
def dkwX5_storeysFor_0 : List UInt8 := [4, 61, 28, 42, 180, 0, 82, 163, 0, 22, 42, 28, 2, 3, 182, 1, 148, 27, 161, 0, 5, 28, 172]
abbrev dktX5_storeysFor_0 : List UInt8 := dkwX5_storeysFor_0 ++ dktX5_storeysFor_1
theorem dksX5_storeysFor_0 : cX5_storeysFor.data.toList.drop 0 = dktX5_storeysFor_0 := by decide +kernel
theorem dksX5_storeysFor_1 : cX5_storeysFor.data.toList.drop 23 = dktX5_storeysFor_1 := dk_seg dksX5_storeysFor_0 23 rfl rfl
theorem dX5_storeysFor_0 : decode cX5_storeysFor 0 = .ok (.iconst 1, 1) := dk_4 (dk_at dksX5_storeysFor_0 0 rfl rfl)
theorem dX5_storeysFor_1 : decode cX5_storeysFor 1 = .ok (.istore_n 2, 1) := dk_61 (dk_at dksX5_storeysFor_0 1 rfl rfl)
theorem dX5_storeysFor_2 : decode cX5_storeysFor 2 = .ok (.iload_n 2, 1) := dk_28 (dk_at dksX5_storeysFor_0 2 rfl rfl)
theorem dX5_storeysFor_3 : decode cX5_storeysFor 3 = .ok (.aload_n 0, 1) := dk_42 (dk_at dksX5_storeysFor_0 3 rfl rfl)
theorem dX5_storeysFor_4 : decode cX5_storeysFor 4 = .ok (.getfield 82, 3) := dk_180 0 82 (dk_at dksX5_storeysFor_0 4 rfl rfl)
theorem dX5_storeysFor_7 : decode cX5_storeysFor 7 = .ok (.if_icmp .gt 22, 3) := dk_163 0 22 (dk_at dksX5_storeysFor_0 7 rfl rfl)
theorem dX5_storeysFor_10 : decode cX5_storeysFor 10 = .ok (.aload_n 0, 1) := dk_42 (dk_at dksX5_storeysFor_0 10 rfl rfl)
theorem dX5_storeysFor_11 : decode cX5_storeysFor 11 = .ok (.iload_n 2, 1) := dk_28 (dk_at dksX5_storeysFor_0 11 rfl rfl)
theorem dX5_storeysFor_12 : decode cX5_storeysFor 12 = .ok (.iconst (-1), 1) := dk_2 (dk_at dksX5_storeysFor_0 12 rfl rfl)
theorem dX5_storeysFor_13 : decode cX5_storeysFor 13 = .ok (.iconst 0, 1) := dk_3 (dk_at dksX5_storeysFor_0 13 rfl rfl)
theorem dX5_storeysFor_14 : decode cX5_storeysFor 14 = .ok (.invokevirtual 404, 3) := dk_182 1 148 (dk_at dksX5_storeysFor_0 14 rfl rfl)
theorem dX5_storeysFor_17 : decode cX5_storeysFor 17 = .ok (.iload_n 1, 1) := dk_27 (dk_at dksX5_storeysFor_0 17 rfl rfl)
theorem dX5_storeysFor_18 : decode cX5_storeysFor 18 = .ok (.if_icmp .lt 5, 3) := dk_161 0 5 (dk_at dksX5_storeysFor_0 18 rfl rfl)
theorem dX5_storeysFor_21 : decode cX5_storeysFor 21 = .ok (.iload_n 2, 1) := dk_28 (dk_at dksX5_storeysFor_0 21 rfl rfl)
theorem dX5_storeysFor_22 : decode cX5_storeysFor 22 = .ok (.ireturn, 1) := dk_172 (dk_at dksX5_storeysFor_0 22 rfl rfl)
theorem dX5_storeysFor_23 : decode cX5_storeysFor 23 = .ok (.iinc 2 1, 3) := dk_132 2 1 (dk_at dksX5_storeysFor_1 0 rfl rfl)
theorem dX5_storeysFor_26 : decode cX5_storeysFor 26 = .ok (.goto (-24), 3) := dk_167 255 232 (dk_at dksX5_storeysFor_1 3 rfl rfl)
theorem dX5_storeysFor_29 : decode cX5_storeysFor 29 = .ok (.iconst (-1), 1) := dk_2 (dk_at dksX5_storeysFor_1 6 rfl rfl)
theorem dX5_storeysFor_30 : decode cX5_storeysFor 30 = .ok (.ireturn, 1) := dk_172 (dk_at dksX5_storeysFor_1 7 rfl rfl)
abbrev cX5_toil : ByteArray := prog_17_method_77_code
def yX5_toil : MethodName := ⟨RX5, "toil", "()I"⟩
def dkwX5_toil_0 : List UInt8 := [42, 182, 1, 189, 42, 180, 0, 103, 3, 46, 172]
abbrev dktX5_toil_0 : List UInt8 := dkwX5_toil_0 ++ []
theorem dksX5_toil_0 : cX5_toil.data.toList.drop 0 = dktX5_toil_0 := by decide +kernel
theorem dX5_toil_0 : decode cX5_toil 0 = .ok (.aload_n 0, 1) := dk_42 (dk_at dksX5_toil_0 0 rfl rfl)
theorem dX5_toil_1 : decode cX5_toil 1 = .ok (.invokevirtual 445, 3) := dk_182 1 189 (dk_at dksX5_toil_0 1 rfl rfl)
theorem dX5_toil_4 : decode cX5_toil 4 = .ok (.aload_n 0, 1) := dk_42 (dk_at dksX5_toil_0 4 rfl rfl)
theorem dX5_toil_5 : decode cX5_toil 5 = .ok (.getfield 103, 3) := dk_180 0 103 (dk_at dksX5_toil_0 5 rfl rfl)
theorem dX5_toil_8 : decode cX5_toil 8 = .ok (.iconst 0, 1) := dk_3 (dk_at dksX5_toil_0 8 rfl rfl)
theorem dX5_toil_9 : decode cX5_toil 9 = .ok (.iaload, 1) := dk_46 (dk_at dksX5_toil_0 9 rfl rfl)
theorem dX5_toil_10 : decode cX5_toil 10 = .ok (.ireturn, 1) := dk_172 (dk_at dksX5_toil_0 10 rfl rfl)
abbrev cX5_gifts : ByteArray := prog_17_method_80_code
def yX5_gifts : MethodName := ⟨RX5, "gifts", "(I)I"⟩
def dkwX5_gifts_8 : List UInt8 := [167, 255, 233, 27, 154, 0, 7, 28, 167, 0, 14, 27, 4, 160, 0, 7, 29, 167, 0, 5, 21, 4, 172]
abbrev dktX5_gifts_8 : List UInt8 := dkwX5_gifts_8 ++ []
def dkwX5_gifts_7 : List UInt8 := [21, 5, 42, 180, 1, 94, 162, 0, 20, 21, 4, 42, 21, 5, 182, 1, 141, 96, 54, 4, 132, 5, 1]
abbrev dktX5_gifts_7 : List UInt8 := dkwX5_gifts_7 ++ dktX5_gifts_8
def dkwX5_gifts_6 : List UInt8 := [92, 46, 21, 6, 96, 79, 132, 2, 1, 29, 21, 6, 96, 62, 167, 255, 119, 3, 54, 4, 3, 54, 5]
abbrev dktX5_gifts_6 : List UInt8 := dkwX5_gifts_6 ++ dktX5_gifts_7
def dkwX5_gifts_5 : List UInt8 := [42, 180, 0, 88, 16, 8, 21, 4, 96, 92, 46, 21, 6, 100, 79, 42, 180, 0, 88, 16, 8, 21, 5, 96]
abbrev dktX5_gifts_5 : List UInt8 := dkwX5_gifts_5 ++ dktX5_gifts_6
def dkwX5_gifts_4 : List UInt8 := [96, 46, 100, 21, 6, 162, 0, 19, 17, 39, 15, 42, 180, 0, 88, 16, 8, 21, 5, 96, 46, 100, 54, 6]
abbrev dktX5_gifts_4 : List UInt8 := dkwX5_gifts_4 ++ dktX5_gifts_5
def dkwX5_gifts_3 : List UInt8 := [21, 6, 162, 0, 11, 42, 21, 5, 182, 1, 141, 54, 6, 17, 39, 15, 42, 180, 0, 88, 16, 8, 21, 5]
abbrev dktX5_gifts_3 : List UInt8 := dkwX5_gifts_3 ++ dktX5_gifts_4
def dkwX5_gifts_2 : List UInt8 := [180, 0, 88, 16, 8, 21, 4, 96, 46, 42, 21, 4, 182, 1, 116, 100, 54, 6, 42, 21, 5, 182, 1, 141]
abbrev dktX5_gifts_2 : List UInt8 := dkwX5_gifts_2 ++ dktX5_gifts_3
def dkwX5_gifts_1 : List UInt8 := [155, 0, 136, 42, 182, 1, 195, 155, 0, 129, 42, 182, 1, 192, 54, 4, 42, 182, 1, 195, 54, 5, 42]
abbrev dktX5_gifts_1 : List UInt8 := dkwX5_gifts_1 ++ dktX5_gifts_2
def dkwX5_gifts_0 : List UInt8 := [27, 3, 5, 184, 1, 112, 154, 0, 5, 2, 172, 42, 182, 1, 138, 3, 61, 3, 62, 42, 182, 1, 192]
abbrev dktX5_gifts_0 : List UInt8 := dkwX5_gifts_0 ++ dktX5_gifts_1
theorem dksX5_gifts_0 : cX5_gifts.data.toList.drop 0 = dktX5_gifts_0 := by decide +kernel
theorem dksX5_gifts_1 : cX5_gifts.data.toList.drop 23 = dktX5_gifts_1 := dk_seg dksX5_gifts_0 23 rfl rfl
theorem dksX5_gifts_2 : cX5_gifts.data.toList.drop 46 = dktX5_gifts_2 := dk_seg dksX5_gifts_1 23 rfl rfl
theorem dksX5_gifts_3 : cX5_gifts.data.toList.drop 70 = dktX5_gifts_3 := dk_seg dksX5_gifts_2 24 rfl rfl
theorem dksX5_gifts_4 : cX5_gifts.data.toList.drop 94 = dktX5_gifts_4 := dk_seg dksX5_gifts_3 24 rfl rfl
theorem dksX5_gifts_5 : cX5_gifts.data.toList.drop 118 = dktX5_gifts_5 := dk_seg dksX5_gifts_4 24 rfl rfl
theorem dksX5_gifts_6 : cX5_gifts.data.toList.drop 142 = dktX5_gifts_6 := dk_seg dksX5_gifts_5 24 rfl rfl
theorem dksX5_gifts_7 : cX5_gifts.data.toList.drop 165 = dktX5_gifts_7 := dk_seg dksX5_gifts_6 23 rfl rfl
theorem dksX5_gifts_8 : cX5_gifts.data.toList.drop 188 = dktX5_gifts_8 := dk_seg dksX5_gifts_7 23 rfl rfl
theorem dX5_gifts_0 : decode cX5_gifts 0 = .ok (.iload_n 1, 1) := dk_27 (dk_at dksX5_gifts_0 0 rfl rfl)
theorem dX5_gifts_1 : decode cX5_gifts 1 = .ok (.iconst 0, 1) := dk_3 (dk_at dksX5_gifts_0 1 rfl rfl)
theorem dX5_gifts_2 : decode cX5_gifts 2 = .ok (.iconst 2, 1) := dk_5 (dk_at dksX5_gifts_0 2 rfl rfl)
theorem dX5_gifts_3 : decode cX5_gifts 3 = .ok (.invokestatic 368, 3) := dk_184 1 112 (dk_at dksX5_gifts_0 3 rfl rfl)
theorem dX5_gifts_6 : decode cX5_gifts 6 = .ok (.ifCond .ne 5, 3) := dk_154 0 5 (dk_at dksX5_gifts_0 6 rfl rfl)
theorem dX5_gifts_9 : decode cX5_gifts 9 = .ok (.iconst (-1), 1) := dk_2 (dk_at dksX5_gifts_0 9 rfl rfl)
theorem dX5_gifts_10 : decode cX5_gifts 10 = .ok (.ireturn, 1) := dk_172 (dk_at dksX5_gifts_0 10 rfl rfl)
theorem dX5_gifts_11 : decode cX5_gifts 11 = .ok (.aload_n 0, 1) := dk_42 (dk_at dksX5_gifts_0 11 rfl rfl)
theorem dX5_gifts_12 : decode cX5_gifts 12 = .ok (.invokevirtual 394, 3) := dk_182 1 138 (dk_at dksX5_gifts_0 12 rfl rfl)
theorem dX5_gifts_15 : decode cX5_gifts 15 = .ok (.iconst 0, 1) := dk_3 (dk_at dksX5_gifts_0 15 rfl rfl)
theorem dX5_gifts_16 : decode cX5_gifts 16 = .ok (.istore_n 2, 1) := dk_61 (dk_at dksX5_gifts_0 16 rfl rfl)
theorem dX5_gifts_17 : decode cX5_gifts 17 = .ok (.iconst 0, 1) := dk_3 (dk_at dksX5_gifts_0 17 rfl rfl)
theorem dX5_gifts_18 : decode cX5_gifts 18 = .ok (.istore_n 3, 1) := dk_62 (dk_at dksX5_gifts_0 18 rfl rfl)
theorem dX5_gifts_19 : decode cX5_gifts 19 = .ok (.aload_n 0, 1) := dk_42 (dk_at dksX5_gifts_0 19 rfl rfl)
theorem dX5_gifts_20 : decode cX5_gifts 20 = .ok (.invokevirtual 448, 3) := dk_182 1 192 (dk_at dksX5_gifts_0 20 rfl rfl)
theorem dX5_gifts_23 : decode cX5_gifts 23 = .ok (.ifCond .lt 136, 3) := dk_155 0 136 (dk_at dksX5_gifts_1 0 rfl rfl)
theorem dX5_gifts_26 : decode cX5_gifts 26 = .ok (.aload_n 0, 1) := dk_42 (dk_at dksX5_gifts_1 3 rfl rfl)
theorem dX5_gifts_27 : decode cX5_gifts 27 = .ok (.invokevirtual 451, 3) := dk_182 1 195 (dk_at dksX5_gifts_1 4 rfl rfl)
theorem dX5_gifts_30 : decode cX5_gifts 30 = .ok (.ifCond .lt 129, 3) := dk_155 0 129 (dk_at dksX5_gifts_1 7 rfl rfl)
theorem dX5_gifts_33 : decode cX5_gifts 33 = .ok (.aload_n 0, 1) := dk_42 (dk_at dksX5_gifts_1 10 rfl rfl)
theorem dX5_gifts_34 : decode cX5_gifts 34 = .ok (.invokevirtual 448, 3) := dk_182 1 192 (dk_at dksX5_gifts_1 11 rfl rfl)
theorem dX5_gifts_37 : decode cX5_gifts 37 = .ok (.istore 4, 2) := dk_54 4 (dk_at dksX5_gifts_1 14 rfl rfl)
theorem dX5_gifts_39 : decode cX5_gifts 39 = .ok (.aload_n 0, 1) := dk_42 (dk_at dksX5_gifts_1 16 rfl rfl)
theorem dX5_gifts_40 : decode cX5_gifts 40 = .ok (.invokevirtual 451, 3) := dk_182 1 195 (dk_at dksX5_gifts_1 17 rfl rfl)
theorem dX5_gifts_43 : decode cX5_gifts 43 = .ok (.istore 5, 2) := dk_54 5 (dk_at dksX5_gifts_1 20 rfl rfl)
theorem dX5_gifts_45 : decode cX5_gifts 45 = .ok (.aload_n 0, 1) := dk_42 (dk_at dksX5_gifts_1 22 rfl rfl)
theorem dX5_gifts_46 : decode cX5_gifts 46 = .ok (.getfield 88, 3) := dk_180 0 88 (dk_at dksX5_gifts_2 0 rfl rfl)
theorem dX5_gifts_49 : decode cX5_gifts 49 = .ok (.bipush 8, 2) := dk_16 8 (dk_at dksX5_gifts_2 3 rfl rfl)
theorem dX5_gifts_51 : decode cX5_gifts 51 = .ok (.iload 4, 2) := dk_21 4 (dk_at dksX5_gifts_2 5 rfl rfl)
theorem dX5_gifts_53 : decode cX5_gifts 53 = .ok (.iadd, 1) := dk_96 (dk_at dksX5_gifts_2 7 rfl rfl)
theorem dX5_gifts_54 : decode cX5_gifts 54 = .ok (.iaload, 1) := dk_46 (dk_at dksX5_gifts_2 8 rfl rfl)
theorem dX5_gifts_55 : decode cX5_gifts 55 = .ok (.aload_n 0, 1) := dk_42 (dk_at dksX5_gifts_2 9 rfl rfl)
theorem dX5_gifts_56 : decode cX5_gifts 56 = .ok (.iload 4, 2) := dk_21 4 (dk_at dksX5_gifts_2 10 rfl rfl)
theorem dX5_gifts_58 : decode cX5_gifts 58 = .ok (.invokevirtual 372, 3) := dk_182 1 116 (dk_at dksX5_gifts_2 12 rfl rfl)
theorem dX5_gifts_61 : decode cX5_gifts 61 = .ok (.isub, 1) := dk_100 (dk_at dksX5_gifts_2 15 rfl rfl)
theorem dX5_gifts_62 : decode cX5_gifts 62 = .ok (.istore 6, 2) := dk_54 6 (dk_at dksX5_gifts_2 16 rfl rfl)
theorem dX5_gifts_64 : decode cX5_gifts 64 = .ok (.aload_n 0, 1) := dk_42 (dk_at dksX5_gifts_2 18 rfl rfl)
theorem dX5_gifts_65 : decode cX5_gifts 65 = .ok (.iload 5, 2) := dk_21 5 (dk_at dksX5_gifts_2 19 rfl rfl)
theorem dX5_gifts_67 : decode cX5_gifts 67 = .ok (.invokevirtual 397, 3) := dk_182 1 141 (dk_at dksX5_gifts_2 21 rfl rfl)
theorem dX5_gifts_70 : decode cX5_gifts 70 = .ok (.iload 6, 2) := dk_21 6 (dk_at dksX5_gifts_3 0 rfl rfl)
theorem dX5_gifts_72 : decode cX5_gifts 72 = .ok (.if_icmp .ge 11, 3) := dk_162 0 11 (dk_at dksX5_gifts_3 2 rfl rfl)
theorem dX5_gifts_75 : decode cX5_gifts 75 = .ok (.aload_n 0, 1) := dk_42 (dk_at dksX5_gifts_3 5 rfl rfl)
theorem dX5_gifts_76 : decode cX5_gifts 76 = .ok (.iload 5, 2) := dk_21 5 (dk_at dksX5_gifts_3 6 rfl rfl)
theorem dX5_gifts_78 : decode cX5_gifts 78 = .ok (.invokevirtual 397, 3) := dk_182 1 141 (dk_at dksX5_gifts_3 8 rfl rfl)
theorem dX5_gifts_81 : decode cX5_gifts 81 = .ok (.istore 6, 2) := dk_54 6 (dk_at dksX5_gifts_3 11 rfl rfl)
theorem dX5_gifts_83 : decode cX5_gifts 83 = .ok (.sipush 9999, 3) := dk_17 39 15 (dk_at dksX5_gifts_3 13 rfl rfl)
theorem dX5_gifts_86 : decode cX5_gifts 86 = .ok (.aload_n 0, 1) := dk_42 (dk_at dksX5_gifts_3 16 rfl rfl)
theorem dX5_gifts_87 : decode cX5_gifts 87 = .ok (.getfield 88, 3) := dk_180 0 88 (dk_at dksX5_gifts_3 17 rfl rfl)
theorem dX5_gifts_90 : decode cX5_gifts 90 = .ok (.bipush 8, 2) := dk_16 8 (dk_at dksX5_gifts_3 20 rfl rfl)
theorem dX5_gifts_92 : decode cX5_gifts 92 = .ok (.iload 5, 2) := dk_21 5 (dk_at dksX5_gifts_3 22 rfl rfl)
theorem dX5_gifts_94 : decode cX5_gifts 94 = .ok (.iadd, 1) := dk_96 (dk_at dksX5_gifts_4 0 rfl rfl)
theorem dX5_gifts_95 : decode cX5_gifts 95 = .ok (.iaload, 1) := dk_46 (dk_at dksX5_gifts_4 1 rfl rfl)
theorem dX5_gifts_96 : decode cX5_gifts 96 = .ok (.isub, 1) := dk_100 (dk_at dksX5_gifts_4 2 rfl rfl)
theorem dX5_gifts_97 : decode cX5_gifts 97 = .ok (.iload 6, 2) := dk_21 6 (dk_at dksX5_gifts_4 3 rfl rfl)
theorem dX5_gifts_99 : decode cX5_gifts 99 = .ok (.if_icmp .ge 19, 3) := dk_162 0 19 (dk_at dksX5_gifts_4 5 rfl rfl)
theorem dX5_gifts_102 : decode cX5_gifts 102 = .ok (.sipush 9999, 3) := dk_17 39 15 (dk_at dksX5_gifts_4 8 rfl rfl)
theorem dX5_gifts_105 : decode cX5_gifts 105 = .ok (.aload_n 0, 1) := dk_42 (dk_at dksX5_gifts_4 11 rfl rfl)
theorem dX5_gifts_106 : decode cX5_gifts 106 = .ok (.getfield 88, 3) := dk_180 0 88 (dk_at dksX5_gifts_4 12 rfl rfl)
theorem dX5_gifts_109 : decode cX5_gifts 109 = .ok (.bipush 8, 2) := dk_16 8 (dk_at dksX5_gifts_4 15 rfl rfl)
theorem dX5_gifts_111 : decode cX5_gifts 111 = .ok (.iload 5, 2) := dk_21 5 (dk_at dksX5_gifts_4 17 rfl rfl)
theorem dX5_gifts_113 : decode cX5_gifts 113 = .ok (.iadd, 1) := dk_96 (dk_at dksX5_gifts_4 19 rfl rfl)
theorem dX5_gifts_114 : decode cX5_gifts 114 = .ok (.iaload, 1) := dk_46 (dk_at dksX5_gifts_4 20 rfl rfl)
theorem dX5_gifts_115 : decode cX5_gifts 115 = .ok (.isub, 1) := dk_100 (dk_at dksX5_gifts_4 21 rfl rfl)
theorem dX5_gifts_116 : decode cX5_gifts 116 = .ok (.istore 6, 2) := dk_54 6 (dk_at dksX5_gifts_4 22 rfl rfl)
theorem dX5_gifts_118 : decode cX5_gifts 118 = .ok (.aload_n 0, 1) := dk_42 (dk_at dksX5_gifts_5 0 rfl rfl)
theorem dX5_gifts_119 : decode cX5_gifts 119 = .ok (.getfield 88, 3) := dk_180 0 88 (dk_at dksX5_gifts_5 1 rfl rfl)
theorem dX5_gifts_122 : decode cX5_gifts 122 = .ok (.bipush 8, 2) := dk_16 8 (dk_at dksX5_gifts_5 4 rfl rfl)
theorem dX5_gifts_124 : decode cX5_gifts 124 = .ok (.iload 4, 2) := dk_21 4 (dk_at dksX5_gifts_5 6 rfl rfl)
theorem dX5_gifts_126 : decode cX5_gifts 126 = .ok (.iadd, 1) := dk_96 (dk_at dksX5_gifts_5 8 rfl rfl)
theorem dX5_gifts_127 : decode cX5_gifts 127 = .ok (.dup2, 1) := dk_92 (dk_at dksX5_gifts_5 9 rfl rfl)
theorem dX5_gifts_128 : decode cX5_gifts 128 = .ok (.iaload, 1) := dk_46 (dk_at dksX5_gifts_5 10 rfl rfl)
theorem dX5_gifts_129 : decode cX5_gifts 129 = .ok (.iload 6, 2) := dk_21 6 (dk_at dksX5_gifts_5 11 rfl rfl)
theorem dX5_gifts_131 : decode cX5_gifts 131 = .ok (.isub, 1) := dk_100 (dk_at dksX5_gifts_5 13 rfl rfl)
theorem dX5_gifts_132 : decode cX5_gifts 132 = .ok (.iastore, 1) := dk_79 (dk_at dksX5_gifts_5 14 rfl rfl)
theorem dX5_gifts_133 : decode cX5_gifts 133 = .ok (.aload_n 0, 1) := dk_42 (dk_at dksX5_gifts_5 15 rfl rfl)
theorem dX5_gifts_134 : decode cX5_gifts 134 = .ok (.getfield 88, 3) := dk_180 0 88 (dk_at dksX5_gifts_5 16 rfl rfl)
theorem dX5_gifts_137 : decode cX5_gifts 137 = .ok (.bipush 8, 2) := dk_16 8 (dk_at dksX5_gifts_5 19 rfl rfl)
theorem dX5_gifts_139 : decode cX5_gifts 139 = .ok (.iload 5, 2) := dk_21 5 (dk_at dksX5_gifts_5 21 rfl rfl)
theorem dX5_gifts_141 : decode cX5_gifts 141 = .ok (.iadd, 1) := dk_96 (dk_at dksX5_gifts_5 23 rfl rfl)
theorem dX5_gifts_142 : decode cX5_gifts 142 = .ok (.dup2, 1) := dk_92 (dk_at dksX5_gifts_6 0 rfl rfl)
theorem dX5_gifts_143 : decode cX5_gifts 143 = .ok (.iaload, 1) := dk_46 (dk_at dksX5_gifts_6 1 rfl rfl)
theorem dX5_gifts_144 : decode cX5_gifts 144 = .ok (.iload 6, 2) := dk_21 6 (dk_at dksX5_gifts_6 2 rfl rfl)
theorem dX5_gifts_146 : decode cX5_gifts 146 = .ok (.iadd, 1) := dk_96 (dk_at dksX5_gifts_6 4 rfl rfl)
theorem dX5_gifts_147 : decode cX5_gifts 147 = .ok (.iastore, 1) := dk_79 (dk_at dksX5_gifts_6 5 rfl rfl)
theorem dX5_gifts_148 : decode cX5_gifts 148 = .ok (.iinc 2 1, 3) := dk_132 2 1 (dk_at dksX5_gifts_6 6 rfl rfl)
theorem dX5_gifts_151 : decode cX5_gifts 151 = .ok (.iload_n 3, 1) := dk_29 (dk_at dksX5_gifts_6 9 rfl rfl)
theorem dX5_gifts_152 : decode cX5_gifts 152 = .ok (.iload 6, 2) := dk_21 6 (dk_at dksX5_gifts_6 10 rfl rfl)
theorem dX5_gifts_154 : decode cX5_gifts 154 = .ok (.iadd, 1) := dk_96 (dk_at dksX5_gifts_6 12 rfl rfl)
theorem dX5_gifts_155 : decode cX5_gifts 155 = .ok (.istore_n 3, 1) := dk_62 (dk_at dksX5_gifts_6 13 rfl rfl)
theorem dX5_gifts_156 : decode cX5_gifts 156 = .ok (.goto (-137), 3) := dk_167 255 119 (dk_at dksX5_gifts_6 14 rfl rfl)
theorem dX5_gifts_159 : decode cX5_gifts 159 = .ok (.iconst 0, 1) := dk_3 (dk_at dksX5_gifts_6 17 rfl rfl)
theorem dX5_gifts_160 : decode cX5_gifts 160 = .ok (.istore 4, 2) := dk_54 4 (dk_at dksX5_gifts_6 18 rfl rfl)
theorem dX5_gifts_162 : decode cX5_gifts 162 = .ok (.iconst 0, 1) := dk_3 (dk_at dksX5_gifts_6 20 rfl rfl)
theorem dX5_gifts_163 : decode cX5_gifts 163 = .ok (.istore 5, 2) := dk_54 5 (dk_at dksX5_gifts_6 21 rfl rfl)
theorem dX5_gifts_165 : decode cX5_gifts 165 = .ok (.iload 5, 2) := dk_21 5 (dk_at dksX5_gifts_7 0 rfl rfl)
theorem dX5_gifts_167 : decode cX5_gifts 167 = .ok (.aload_n 0, 1) := dk_42 (dk_at dksX5_gifts_7 2 rfl rfl)
theorem dX5_gifts_168 : decode cX5_gifts 168 = .ok (.getfield 350, 3) := dk_180 1 94 (dk_at dksX5_gifts_7 3 rfl rfl)
theorem dX5_gifts_171 : decode cX5_gifts 171 = .ok (.if_icmp .ge 20, 3) := dk_162 0 20 (dk_at dksX5_gifts_7 6 rfl rfl)
theorem dX5_gifts_174 : decode cX5_gifts 174 = .ok (.iload 4, 2) := dk_21 4 (dk_at dksX5_gifts_7 9 rfl rfl)
theorem dX5_gifts_176 : decode cX5_gifts 176 = .ok (.aload_n 0, 1) := dk_42 (dk_at dksX5_gifts_7 11 rfl rfl)
theorem dX5_gifts_177 : decode cX5_gifts 177 = .ok (.iload 5, 2) := dk_21 5 (dk_at dksX5_gifts_7 12 rfl rfl)
theorem dX5_gifts_179 : decode cX5_gifts 179 = .ok (.invokevirtual 397, 3) := dk_182 1 141 (dk_at dksX5_gifts_7 14 rfl rfl)
theorem dX5_gifts_182 : decode cX5_gifts 182 = .ok (.iadd, 1) := dk_96 (dk_at dksX5_gifts_7 17 rfl rfl)
theorem dX5_gifts_183 : decode cX5_gifts 183 = .ok (.istore 4, 2) := dk_54 4 (dk_at dksX5_gifts_7 18 rfl rfl)
theorem dX5_gifts_185 : decode cX5_gifts 185 = .ok (.iinc 5 1, 3) := dk_132 5 1 (dk_at dksX5_gifts_7 20 rfl rfl)
theorem dX5_gifts_188 : decode cX5_gifts 188 = .ok (.goto (-23), 3) := dk_167 255 233 (dk_at dksX5_gifts_8 0 rfl rfl)
theorem dX5_gifts_191 : decode cX5_gifts 191 = .ok (.iload_n 1, 1) := dk_27 (dk_at dksX5_gifts_8 3 rfl rfl)
theorem dX5_gifts_192 : decode cX5_gifts 192 = .ok (.ifCond .ne 7, 3) := dk_154 0 7 (dk_at dksX5_gifts_8 4 rfl rfl)
theorem dX5_gifts_195 : decode cX5_gifts 195 = .ok (.iload_n 2, 1) := dk_28 (dk_at dksX5_gifts_8 7 rfl rfl)
theorem dX5_gifts_196 : decode cX5_gifts 196 = .ok (.goto 14, 3) := dk_167 0 14 (dk_at dksX5_gifts_8 8 rfl rfl)
theorem dX5_gifts_199 : decode cX5_gifts 199 = .ok (.iload_n 1, 1) := dk_27 (dk_at dksX5_gifts_8 11 rfl rfl)
theorem dX5_gifts_200 : decode cX5_gifts 200 = .ok (.iconst 1, 1) := dk_4 (dk_at dksX5_gifts_8 12 rfl rfl)
theorem dX5_gifts_201 : decode cX5_gifts 201 = .ok (.if_icmp .ne 7, 3) := dk_160 0 7 (dk_at dksX5_gifts_8 13 rfl rfl)
theorem dX5_gifts_204 : decode cX5_gifts 204 = .ok (.iload_n 3, 1) := dk_29 (dk_at dksX5_gifts_8 16 rfl rfl)
theorem dX5_gifts_205 : decode cX5_gifts 205 = .ok (.goto 5, 3) := dk_167 0 5 (dk_at dksX5_gifts_8 17 rfl rfl)
theorem dX5_gifts_208 : decode cX5_gifts 208 = .ok (.iload 4, 2) := dk_21 4 (dk_at dksX5_gifts_8 20 rfl rfl)
theorem dX5_gifts_210 : decode cX5_gifts 210 = .ok (.ireturn, 1) := dk_172 (dk_at dksX5_gifts_8 22 rfl rfl)
abbrev cX5_giver : ByteArray := prog_17_method_78_code
def yX5_giver : MethodName := ⟨RX5, "giver", "()I"⟩
def dkwX5_giver_1 : List UInt8 := [164, 0, 5, 27, 172, 132, 1, 1, 167, 255, 226, 2, 172]
abbrev dktX5_giver_1 : List UInt8 := dkwX5_giver_1 ++ []
def dkwX5_giver_0 : List UInt8 := [3, 60, 27, 42, 180, 1, 94, 162, 0, 28, 42, 180, 0, 88, 16, 8, 27, 96, 46, 42, 27, 182, 1, 116]
abbrev dktX5_giver_0 : List UInt8 := dkwX5_giver_0 ++ dktX5_giver_1
theorem dksX5_giver_0 : cX5_giver.data.toList.drop 0 = dktX5_giver_0 := by decide +kernel
theorem dksX5_giver_1 : cX5_giver.data.toList.drop 24 = dktX5_giver_1 := dk_seg dksX5_giver_0 24 rfl rfl
theorem dX5_giver_0 : decode cX5_giver 0 = .ok (.iconst 0, 1) := dk_3 (dk_at dksX5_giver_0 0 rfl rfl)
theorem dX5_giver_1 : decode cX5_giver 1 = .ok (.istore_n 1, 1) := dk_60 (dk_at dksX5_giver_0 1 rfl rfl)
theorem dX5_giver_2 : decode cX5_giver 2 = .ok (.iload_n 1, 1) := dk_27 (dk_at dksX5_giver_0 2 rfl rfl)
theorem dX5_giver_3 : decode cX5_giver 3 = .ok (.aload_n 0, 1) := dk_42 (dk_at dksX5_giver_0 3 rfl rfl)
theorem dX5_giver_4 : decode cX5_giver 4 = .ok (.getfield 350, 3) := dk_180 1 94 (dk_at dksX5_giver_0 4 rfl rfl)
theorem dX5_giver_7 : decode cX5_giver 7 = .ok (.if_icmp .ge 28, 3) := dk_162 0 28 (dk_at dksX5_giver_0 7 rfl rfl)
theorem dX5_giver_10 : decode cX5_giver 10 = .ok (.aload_n 0, 1) := dk_42 (dk_at dksX5_giver_0 10 rfl rfl)
theorem dX5_giver_11 : decode cX5_giver 11 = .ok (.getfield 88, 3) := dk_180 0 88 (dk_at dksX5_giver_0 11 rfl rfl)
theorem dX5_giver_14 : decode cX5_giver 14 = .ok (.bipush 8, 2) := dk_16 8 (dk_at dksX5_giver_0 14 rfl rfl)
theorem dX5_giver_16 : decode cX5_giver 16 = .ok (.iload_n 1, 1) := dk_27 (dk_at dksX5_giver_0 16 rfl rfl)
theorem dX5_giver_17 : decode cX5_giver 17 = .ok (.iadd, 1) := dk_96 (dk_at dksX5_giver_0 17 rfl rfl)
theorem dX5_giver_18 : decode cX5_giver 18 = .ok (.iaload, 1) := dk_46 (dk_at dksX5_giver_0 18 rfl rfl)
theorem dX5_giver_19 : decode cX5_giver 19 = .ok (.aload_n 0, 1) := dk_42 (dk_at dksX5_giver_0 19 rfl rfl)
theorem dX5_giver_20 : decode cX5_giver 20 = .ok (.iload_n 1, 1) := dk_27 (dk_at dksX5_giver_0 20 rfl rfl)
theorem dX5_giver_21 : decode cX5_giver 21 = .ok (.invokevirtual 372, 3) := dk_182 1 116 (dk_at dksX5_giver_0 21 rfl rfl)
theorem dX5_giver_24 : decode cX5_giver 24 = .ok (.if_icmp .le 5, 3) := dk_164 0 5 (dk_at dksX5_giver_1 0 rfl rfl)
theorem dX5_giver_27 : decode cX5_giver 27 = .ok (.iload_n 1, 1) := dk_27 (dk_at dksX5_giver_1 3 rfl rfl)
theorem dX5_giver_28 : decode cX5_giver 28 = .ok (.ireturn, 1) := dk_172 (dk_at dksX5_giver_1 4 rfl rfl)
theorem dX5_giver_29 : decode cX5_giver 29 = .ok (.iinc 1 1, 3) := dk_132 1 1 (dk_at dksX5_giver_1 5 rfl rfl)
theorem dX5_giver_32 : decode cX5_giver 32 = .ok (.goto (-30), 3) := dk_167 255 226 (dk_at dksX5_giver_1 8 rfl rfl)
theorem dX5_giver_35 : decode cX5_giver 35 = .ok (.iconst (-1), 1) := dk_2 (dk_at dksX5_giver_1 11 rfl rfl)
theorem dX5_giver_36 : decode cX5_giver 36 = .ok (.ireturn, 1) := dk_172 (dk_at dksX5_giver_1 12 rfl rfl)
abbrev cX5_taker : ByteArray := prog_17_method_79_code
def yX5_taker : MethodName := ⟨RX5, "taker", "()I"⟩
def dkwX5_taker_1 : List UInt8 := [27, 96, 46, 17, 39, 15, 162, 0, 5, 27, 172, 132, 1, 1, 167, 255, 220, 2, 172]
abbrev dktX5_taker_1 : List UInt8 := dkwX5_taker_1 ++ []
def dkwX5_taker_0 : List UInt8 := [3, 60, 27, 42, 180, 1, 94, 162, 0, 34, 42, 27, 182, 1, 141, 158, 0, 20, 42, 180, 0, 88, 16, 8]
abbrev dktX5_taker_0 : List UInt8 := dkwX5_taker_0 ++ dktX5_taker_1
theorem dksX5_taker_0 : cX5_taker.data.toList.drop 0 = dktX5_taker_0 := by decide +kernel
theorem dksX5_taker_1 : cX5_taker.data.toList.drop 24 = dktX5_taker_1 := dk_seg dksX5_taker_0 24 rfl rfl
theorem dX5_taker_0 : decode cX5_taker 0 = .ok (.iconst 0, 1) := dk_3 (dk_at dksX5_taker_0 0 rfl rfl)
theorem dX5_taker_1 : decode cX5_taker 1 = .ok (.istore_n 1, 1) := dk_60 (dk_at dksX5_taker_0 1 rfl rfl)
theorem dX5_taker_2 : decode cX5_taker 2 = .ok (.iload_n 1, 1) := dk_27 (dk_at dksX5_taker_0 2 rfl rfl)
theorem dX5_taker_3 : decode cX5_taker 3 = .ok (.aload_n 0, 1) := dk_42 (dk_at dksX5_taker_0 3 rfl rfl)
theorem dX5_taker_4 : decode cX5_taker 4 = .ok (.getfield 350, 3) := dk_180 1 94 (dk_at dksX5_taker_0 4 rfl rfl)
theorem dX5_taker_7 : decode cX5_taker 7 = .ok (.if_icmp .ge 34, 3) := dk_162 0 34 (dk_at dksX5_taker_0 7 rfl rfl)
theorem dX5_taker_10 : decode cX5_taker 10 = .ok (.aload_n 0, 1) := dk_42 (dk_at dksX5_taker_0 10 rfl rfl)
theorem dX5_taker_11 : decode cX5_taker 11 = .ok (.iload_n 1, 1) := dk_27 (dk_at dksX5_taker_0 11 rfl rfl)
theorem dX5_taker_12 : decode cX5_taker 12 = .ok (.invokevirtual 397, 3) := dk_182 1 141 (dk_at dksX5_taker_0 12 rfl rfl)
theorem dX5_taker_15 : decode cX5_taker 15 = .ok (.ifCond .le 20, 3) := dk_158 0 20 (dk_at dksX5_taker_0 15 rfl rfl)
theorem dX5_taker_18 : decode cX5_taker 18 = .ok (.aload_n 0, 1) := dk_42 (dk_at dksX5_taker_0 18 rfl rfl)
theorem dX5_taker_19 : decode cX5_taker 19 = .ok (.getfield 88, 3) := dk_180 0 88 (dk_at dksX5_taker_0 19 rfl rfl)
theorem dX5_taker_22 : decode cX5_taker 22 = .ok (.bipush 8, 2) := dk_16 8 (dk_at dksX5_taker_0 22 rfl rfl)
theorem dX5_taker_24 : decode cX5_taker 24 = .ok (.iload_n 1, 1) := dk_27 (dk_at dksX5_taker_1 0 rfl rfl)
theorem dX5_taker_25 : decode cX5_taker 25 = .ok (.iadd, 1) := dk_96 (dk_at dksX5_taker_1 1 rfl rfl)
theorem dX5_taker_26 : decode cX5_taker 26 = .ok (.iaload, 1) := dk_46 (dk_at dksX5_taker_1 2 rfl rfl)
theorem dX5_taker_27 : decode cX5_taker 27 = .ok (.sipush 9999, 3) := dk_17 39 15 (dk_at dksX5_taker_1 3 rfl rfl)
theorem dX5_taker_30 : decode cX5_taker 30 = .ok (.if_icmp .ge 5, 3) := dk_162 0 5 (dk_at dksX5_taker_1 6 rfl rfl)
theorem dX5_taker_33 : decode cX5_taker 33 = .ok (.iload_n 1, 1) := dk_27 (dk_at dksX5_taker_1 9 rfl rfl)
theorem dX5_taker_34 : decode cX5_taker 34 = .ok (.ireturn, 1) := dk_172 (dk_at dksX5_taker_1 10 rfl rfl)
theorem dX5_taker_35 : decode cX5_taker 35 = .ok (.iinc 1 1, 3) := dk_132 1 1 (dk_at dksX5_taker_1 11 rfl rfl)
theorem dX5_taker_38 : decode cX5_taker 38 = .ok (.goto (-36), 3) := dk_167 255 220 (dk_at dksX5_taker_1 14 rfl rfl)
theorem dX5_taker_41 : decode cX5_taker 41 = .ok (.iconst (-1), 1) := dk_2 (dk_at dksX5_taker_1 17 rfl rfl)
theorem dX5_taker_42 : decode cX5_taker 42 = .ok (.ireturn, 1) := dk_172 (dk_at dksX5_taker_1 18 rfl rfl)
abbrev cX5_envies : ByteArray := prog_17_method_84_code
def yX5_envies : MethodName := ⟨RX5, "envies", "(I)I"⟩
def dkwX5_envies_2 : List UInt8 := [172]
abbrev dktX5_envies_2 : List UInt8 := dkwX5_envies_2 ++ []
def dkwX5_envies_1 : List UInt8 := [162, 0, 23, 28, 42, 27, 29, 182, 1, 198, 184, 1, 48, 29, 120, 128, 61, 132, 3, 1, 167, 255, 231, 28]
abbrev dktX5_envies_1 : List UInt8 := dkwX5_envies_1 ++ dktX5_envies_2
def dkwX5_envies_0 : List UInt8 := [42, 27, 182, 1, 126, 154, 0, 5, 2, 172, 42, 182, 1, 202, 3, 61, 3, 62, 29, 42, 180, 1, 94]
abbrev dktX5_envies_0 : List UInt8 := dkwX5_envies_0 ++ dktX5_envies_1
theorem dksX5_envies_0 : cX5_envies.data.toList.drop 0 = dktX5_envies_0 := by decide +kernel
theorem dksX5_envies_1 : cX5_envies.data.toList.drop 23 = dktX5_envies_1 := dk_seg dksX5_envies_0 23 rfl rfl
theorem dksX5_envies_2 : cX5_envies.data.toList.drop 47 = dktX5_envies_2 := dk_seg dksX5_envies_1 24 rfl rfl
theorem dX5_envies_0 : decode cX5_envies 0 = .ok (.aload_n 0, 1) := dk_42 (dk_at dksX5_envies_0 0 rfl rfl)
theorem dX5_envies_1 : decode cX5_envies 1 = .ok (.iload_n 1, 1) := dk_27 (dk_at dksX5_envies_0 1 rfl rfl)
theorem dX5_envies_2 : decode cX5_envies 2 = .ok (.invokevirtual 382, 3) := dk_182 1 126 (dk_at dksX5_envies_0 2 rfl rfl)
theorem dX5_envies_5 : decode cX5_envies 5 = .ok (.ifCond .ne 5, 3) := dk_154 0 5 (dk_at dksX5_envies_0 5 rfl rfl)
theorem dX5_envies_8 : decode cX5_envies 8 = .ok (.iconst (-1), 1) := dk_2 (dk_at dksX5_envies_0 8 rfl rfl)
theorem dX5_envies_9 : decode cX5_envies 9 = .ok (.ireturn, 1) := dk_172 (dk_at dksX5_envies_0 9 rfl rfl)
theorem dX5_envies_10 : decode cX5_envies 10 = .ok (.aload_n 0, 1) := dk_42 (dk_at dksX5_envies_0 10 rfl rfl)
theorem dX5_envies_11 : decode cX5_envies 11 = .ok (.invokevirtual 458, 3) := dk_182 1 202 (dk_at dksX5_envies_0 11 rfl rfl)
theorem dX5_envies_14 : decode cX5_envies 14 = .ok (.iconst 0, 1) := dk_3 (dk_at dksX5_envies_0 14 rfl rfl)
theorem dX5_envies_15 : decode cX5_envies 15 = .ok (.istore_n 2, 1) := dk_61 (dk_at dksX5_envies_0 15 rfl rfl)
theorem dX5_envies_16 : decode cX5_envies 16 = .ok (.iconst 0, 1) := dk_3 (dk_at dksX5_envies_0 16 rfl rfl)
theorem dX5_envies_17 : decode cX5_envies 17 = .ok (.istore_n 3, 1) := dk_62 (dk_at dksX5_envies_0 17 rfl rfl)
theorem dX5_envies_18 : decode cX5_envies 18 = .ok (.iload_n 3, 1) := dk_29 (dk_at dksX5_envies_0 18 rfl rfl)
theorem dX5_envies_19 : decode cX5_envies 19 = .ok (.aload_n 0, 1) := dk_42 (dk_at dksX5_envies_0 19 rfl rfl)
theorem dX5_envies_20 : decode cX5_envies 20 = .ok (.getfield 350, 3) := dk_180 1 94 (dk_at dksX5_envies_0 20 rfl rfl)
theorem dX5_envies_23 : decode cX5_envies 23 = .ok (.if_icmp .ge 23, 3) := dk_162 0 23 (dk_at dksX5_envies_1 0 rfl rfl)
theorem dX5_envies_26 : decode cX5_envies 26 = .ok (.iload_n 2, 1) := dk_28 (dk_at dksX5_envies_1 3 rfl rfl)
theorem dX5_envies_27 : decode cX5_envies 27 = .ok (.aload_n 0, 1) := dk_42 (dk_at dksX5_envies_1 4 rfl rfl)
theorem dX5_envies_28 : decode cX5_envies 28 = .ok (.iload_n 1, 1) := dk_27 (dk_at dksX5_envies_1 5 rfl rfl)
theorem dX5_envies_29 : decode cX5_envies 29 = .ok (.iload_n 3, 1) := dk_29 (dk_at dksX5_envies_1 6 rfl rfl)
theorem dX5_envies_30 : decode cX5_envies 30 = .ok (.invokevirtual 454, 3) := dk_182 1 198 (dk_at dksX5_envies_1 7 rfl rfl)
theorem dX5_envies_33 : decode cX5_envies 33 = .ok (.invokestatic 304, 3) := dk_184 1 48 (dk_at dksX5_envies_1 10 rfl rfl)
theorem dX5_envies_36 : decode cX5_envies 36 = .ok (.iload_n 3, 1) := dk_29 (dk_at dksX5_envies_1 13 rfl rfl)
theorem dX5_envies_37 : decode cX5_envies 37 = .ok (.ishl, 1) := dk_120 (dk_at dksX5_envies_1 14 rfl rfl)
theorem dX5_envies_38 : decode cX5_envies 38 = .ok (.ior, 1) := dk_128 (dk_at dksX5_envies_1 15 rfl rfl)
theorem dX5_envies_39 : decode cX5_envies 39 = .ok (.istore_n 2, 1) := dk_61 (dk_at dksX5_envies_1 16 rfl rfl)
theorem dX5_envies_40 : decode cX5_envies 40 = .ok (.iinc 3 1, 3) := dk_132 3 1 (dk_at dksX5_envies_1 17 rfl rfl)
theorem dX5_envies_43 : decode cX5_envies 43 = .ok (.goto (-25), 3) := dk_167 255 231 (dk_at dksX5_envies_1 20 rfl rfl)
theorem dX5_envies_46 : decode cX5_envies 46 = .ok (.iload_n 2, 1) := dk_28 (dk_at dksX5_envies_1 23 rfl rfl)
theorem dX5_envies_47 : decode cX5_envies 47 = .ok (.ireturn, 1) := dk_172 (dk_at dksX5_envies_2 0 rfl rfl)
abbrev cX5_layHomes : ByteArray := prog_17_method_81_code
def yX5_layHomes : MethodName := ⟨RX5, "layHomes", "()V"⟩
def dkwX5_layHomes_1 : List UInt8 := [132, 1, 1, 167, 255, 233, 177]
abbrev dktX5_layHomes_1 : List UInt8 := dkwX5_layHomes_1 ++ []
def dkwX5_layHomes_0 : List UInt8 := [3, 60, 27, 42, 180, 1, 94, 162, 0, 21, 42, 180, 0, 112, 27, 42, 180, 0, 67, 27, 46, 79]
abbrev dktX5_layHomes_0 : List UInt8 := dkwX5_layHomes_0 ++ dktX5_layHomes_1
theorem dksX5_layHomes_0 : cX5_layHomes.data.toList.drop 0 = dktX5_layHomes_0 := by decide +kernel
theorem dksX5_layHomes_1 : cX5_layHomes.data.toList.drop 22 = dktX5_layHomes_1 := dk_seg dksX5_layHomes_0 22 rfl rfl
theorem dX5_layHomes_0 : decode cX5_layHomes 0 = .ok (.iconst 0, 1) := dk_3 (dk_at dksX5_layHomes_0 0 rfl rfl)
theorem dX5_layHomes_1 : decode cX5_layHomes 1 = .ok (.istore_n 1, 1) := dk_60 (dk_at dksX5_layHomes_0 1 rfl rfl)
theorem dX5_layHomes_2 : decode cX5_layHomes 2 = .ok (.iload_n 1, 1) := dk_27 (dk_at dksX5_layHomes_0 2 rfl rfl)
theorem dX5_layHomes_3 : decode cX5_layHomes 3 = .ok (.aload_n 0, 1) := dk_42 (dk_at dksX5_layHomes_0 3 rfl rfl)
theorem dX5_layHomes_4 : decode cX5_layHomes 4 = .ok (.getfield 350, 3) := dk_180 1 94 (dk_at dksX5_layHomes_0 4 rfl rfl)
theorem dX5_layHomes_7 : decode cX5_layHomes 7 = .ok (.if_icmp .ge 21, 3) := dk_162 0 21 (dk_at dksX5_layHomes_0 7 rfl rfl)
theorem dX5_layHomes_10 : decode cX5_layHomes 10 = .ok (.aload_n 0, 1) := dk_42 (dk_at dksX5_layHomes_0 10 rfl rfl)
theorem dX5_layHomes_11 : decode cX5_layHomes 11 = .ok (.getfield 112, 3) := dk_180 0 112 (dk_at dksX5_layHomes_0 11 rfl rfl)
theorem dX5_layHomes_14 : decode cX5_layHomes 14 = .ok (.iload_n 1, 1) := dk_27 (dk_at dksX5_layHomes_0 14 rfl rfl)
theorem dX5_layHomes_15 : decode cX5_layHomes 15 = .ok (.aload_n 0, 1) := dk_42 (dk_at dksX5_layHomes_0 15 rfl rfl)
theorem dX5_layHomes_16 : decode cX5_layHomes 16 = .ok (.getfield 67, 3) := dk_180 0 67 (dk_at dksX5_layHomes_0 16 rfl rfl)
theorem dX5_layHomes_19 : decode cX5_layHomes 19 = .ok (.iload_n 1, 1) := dk_27 (dk_at dksX5_layHomes_0 19 rfl rfl)
theorem dX5_layHomes_20 : decode cX5_layHomes 20 = .ok (.iaload, 1) := dk_46 (dk_at dksX5_layHomes_0 20 rfl rfl)
theorem dX5_layHomes_21 : decode cX5_layHomes 21 = .ok (.iastore, 1) := dk_79 (dk_at dksX5_layHomes_0 21 rfl rfl)
theorem dX5_layHomes_22 : decode cX5_layHomes 22 = .ok (.iinc 1 1, 3) := dk_132 1 1 (dk_at dksX5_layHomes_1 0 rfl rfl)
theorem dX5_layHomes_25 : decode cX5_layHomes 25 = .ok (.goto (-23), 3) := dk_167 255 233 (dk_at dksX5_layHomes_1 3 rfl rfl)
theorem dX5_layHomes_28 : decode cX5_layHomes 28 = .ok (.return_, 1) := dk_177 (dk_at dksX5_layHomes_1 6 rfl rfl)
abbrev cX5_isEnvied : ByteArray := prog_17_method_82_code
def yX5_isEnvied : MethodName := ⟨RX5, "isEnvied", "(II)Z"⟩
def dkwX5_isEnvied_1 : List UInt8 := [180, 0, 76, 27, 46, 162, 0, 7, 4, 167, 0, 4, 3, 172]
abbrev dktX5_isEnvied_1 : List UInt8 := dkwX5_isEnvied_1 ++ []
def dkwX5_isEnvied_0 : List UInt8 := [42, 180, 0, 112, 28, 46, 42, 180, 0, 112, 27, 46, 163, 0, 22, 42, 180, 0, 76, 28, 46, 42]
abbrev dktX5_isEnvied_0 : List UInt8 := dkwX5_isEnvied_0 ++ dktX5_isEnvied_1
theorem dksX5_isEnvied_0 : cX5_isEnvied.data.toList.drop 0 = dktX5_isEnvied_0 := by decide +kernel
theorem dksX5_isEnvied_1 : cX5_isEnvied.data.toList.drop 22 = dktX5_isEnvied_1 := dk_seg dksX5_isEnvied_0 22 rfl rfl
theorem dX5_isEnvied_0 : decode cX5_isEnvied 0 = .ok (.aload_n 0, 1) := dk_42 (dk_at dksX5_isEnvied_0 0 rfl rfl)
theorem dX5_isEnvied_1 : decode cX5_isEnvied 1 = .ok (.getfield 112, 3) := dk_180 0 112 (dk_at dksX5_isEnvied_0 1 rfl rfl)
theorem dX5_isEnvied_4 : decode cX5_isEnvied 4 = .ok (.iload_n 2, 1) := dk_28 (dk_at dksX5_isEnvied_0 4 rfl rfl)
theorem dX5_isEnvied_5 : decode cX5_isEnvied 5 = .ok (.iaload, 1) := dk_46 (dk_at dksX5_isEnvied_0 5 rfl rfl)
theorem dX5_isEnvied_6 : decode cX5_isEnvied 6 = .ok (.aload_n 0, 1) := dk_42 (dk_at dksX5_isEnvied_0 6 rfl rfl)
theorem dX5_isEnvied_7 : decode cX5_isEnvied 7 = .ok (.getfield 112, 3) := dk_180 0 112 (dk_at dksX5_isEnvied_0 7 rfl rfl)
theorem dX5_isEnvied_10 : decode cX5_isEnvied 10 = .ok (.iload_n 1, 1) := dk_27 (dk_at dksX5_isEnvied_0 10 rfl rfl)
theorem dX5_isEnvied_11 : decode cX5_isEnvied 11 = .ok (.iaload, 1) := dk_46 (dk_at dksX5_isEnvied_0 11 rfl rfl)
theorem dX5_isEnvied_12 : decode cX5_isEnvied 12 = .ok (.if_icmp .gt 22, 3) := dk_163 0 22 (dk_at dksX5_isEnvied_0 12 rfl rfl)
theorem dX5_isEnvied_15 : decode cX5_isEnvied 15 = .ok (.aload_n 0, 1) := dk_42 (dk_at dksX5_isEnvied_0 15 rfl rfl)
theorem dX5_isEnvied_16 : decode cX5_isEnvied 16 = .ok (.getfield 76, 3) := dk_180 0 76 (dk_at dksX5_isEnvied_0 16 rfl rfl)
theorem dX5_isEnvied_19 : decode cX5_isEnvied 19 = .ok (.iload_n 2, 1) := dk_28 (dk_at dksX5_isEnvied_0 19 rfl rfl)
theorem dX5_isEnvied_20 : decode cX5_isEnvied 20 = .ok (.iaload, 1) := dk_46 (dk_at dksX5_isEnvied_0 20 rfl rfl)
theorem dX5_isEnvied_21 : decode cX5_isEnvied 21 = .ok (.aload_n 0, 1) := dk_42 (dk_at dksX5_isEnvied_0 21 rfl rfl)
theorem dX5_isEnvied_22 : decode cX5_isEnvied 22 = .ok (.getfield 76, 3) := dk_180 0 76 (dk_at dksX5_isEnvied_1 0 rfl rfl)
theorem dX5_isEnvied_25 : decode cX5_isEnvied 25 = .ok (.iload_n 1, 1) := dk_27 (dk_at dksX5_isEnvied_1 3 rfl rfl)
theorem dX5_isEnvied_26 : decode cX5_isEnvied 26 = .ok (.iaload, 1) := dk_46 (dk_at dksX5_isEnvied_1 4 rfl rfl)
theorem dX5_isEnvied_27 : decode cX5_isEnvied 27 = .ok (.if_icmp .ge 7, 3) := dk_162 0 7 (dk_at dksX5_isEnvied_1 5 rfl rfl)
theorem dX5_isEnvied_30 : decode cX5_isEnvied 30 = .ok (.iconst 1, 1) := dk_4 (dk_at dksX5_isEnvied_1 8 rfl rfl)
theorem dX5_isEnvied_31 : decode cX5_isEnvied 31 = .ok (.goto 4, 3) := dk_167 0 4 (dk_at dksX5_isEnvied_1 9 rfl rfl)
theorem dX5_isEnvied_34 : decode cX5_isEnvied 34 = .ok (.iconst 0, 1) := dk_3 (dk_at dksX5_isEnvied_1 12 rfl rfl)
theorem dX5_isEnvied_35 : decode cX5_isEnvied 35 = .ok (.ireturn, 1) := dk_172 (dk_at dksX5_isEnvied_1 13 rfl rfl)
abbrev cX5_quarrel : ByteArray := prog_17_method_85_code
def yX5_quarrel : MethodName := ⟨RX5, "quarrel", "()I"⟩
def dkwX5_quarrel_0 : List UInt8 := [42, 182, 1, 202, 42, 182, 1, 205, 172]
abbrev dktX5_quarrel_0 : List UInt8 := dkwX5_quarrel_0 ++ []
theorem dksX5_quarrel_0 : cX5_quarrel.data.toList.drop 0 = dktX5_quarrel_0 := by decide +kernel
theorem dX5_quarrel_0 : decode cX5_quarrel 0 = .ok (.aload_n 0, 1) := dk_42 (dk_at dksX5_quarrel_0 0 rfl rfl)
theorem dX5_quarrel_1 : decode cX5_quarrel 1 = .ok (.invokevirtual 458, 3) := dk_182 1 202 (dk_at dksX5_quarrel_0 1 rfl rfl)
theorem dX5_quarrel_4 : decode cX5_quarrel 4 = .ok (.aload_n 0, 1) := dk_42 (dk_at dksX5_quarrel_0 4 rfl rfl)
theorem dX5_quarrel_5 : decode cX5_quarrel 5 = .ok (.invokevirtual 461, 3) := dk_182 1 205 (dk_at dksX5_quarrel_0 5 rfl rfl)
theorem dX5_quarrel_8 : decode cX5_quarrel 8 = .ok (.ireturn, 1) := dk_172 (dk_at dksX5_quarrel_0 8 rfl rfl)
abbrev cX5_allEnvies : ByteArray := prog_17_method_83_code
def yX5_allEnvies : MethodName := ⟨RX5, "allEnvies", "()I"⟩
def dkwX5_allEnvies_1 : List UInt8 := [28, 29, 182, 1, 198, 184, 1, 48, 96, 60, 132, 3, 1, 167, 255, 233, 132, 2, 1, 167, 255, 217, 27, 172]
abbrev dktX5_allEnvies_1 : List UInt8 := dkwX5_allEnvies_1 ++ []
def dkwX5_allEnvies_0 : List UInt8 := [3, 60, 3, 61, 28, 42, 180, 1, 94, 162, 0, 37, 3, 62, 29, 42, 180, 1, 94, 162, 0, 21, 27, 42]
abbrev dktX5_allEnvies_0 : List UInt8 := dkwX5_allEnvies_0 ++ dktX5_allEnvies_1
theorem dksX5_allEnvies_0 : cX5_allEnvies.data.toList.drop 0 = dktX5_allEnvies_0 := by decide +kernel
theorem dksX5_allEnvies_1 : cX5_allEnvies.data.toList.drop 24 = dktX5_allEnvies_1 := dk_seg dksX5_allEnvies_0 24 rfl rfl
theorem dX5_allEnvies_0 : decode cX5_allEnvies 0 = .ok (.iconst 0, 1) := dk_3 (dk_at dksX5_allEnvies_0 0 rfl rfl)
theorem dX5_allEnvies_1 : decode cX5_allEnvies 1 = .ok (.istore_n 1, 1) := dk_60 (dk_at dksX5_allEnvies_0 1 rfl rfl)
theorem dX5_allEnvies_2 : decode cX5_allEnvies 2 = .ok (.iconst 0, 1) := dk_3 (dk_at dksX5_allEnvies_0 2 rfl rfl)
theorem dX5_allEnvies_3 : decode cX5_allEnvies 3 = .ok (.istore_n 2, 1) := dk_61 (dk_at dksX5_allEnvies_0 3 rfl rfl)
theorem dX5_allEnvies_4 : decode cX5_allEnvies 4 = .ok (.iload_n 2, 1) := dk_28 (dk_at dksX5_allEnvies_0 4 rfl rfl)
theorem dX5_allEnvies_5 : decode cX5_allEnvies 5 = .ok (.aload_n 0, 1) := dk_42 (dk_at dksX5_allEnvies_0 5 rfl rfl)
theorem dX5_allEnvies_6 : decode cX5_allEnvies 6 = .ok (.getfield 350, 3) := dk_180 1 94 (dk_at dksX5_allEnvies_0 6 rfl rfl)
theorem dX5_allEnvies_9 : decode cX5_allEnvies 9 = .ok (.if_icmp .ge 37, 3) := dk_162 0 37 (dk_at dksX5_allEnvies_0 9 rfl rfl)
theorem dX5_allEnvies_12 : decode cX5_allEnvies 12 = .ok (.iconst 0, 1) := dk_3 (dk_at dksX5_allEnvies_0 12 rfl rfl)
theorem dX5_allEnvies_13 : decode cX5_allEnvies 13 = .ok (.istore_n 3, 1) := dk_62 (dk_at dksX5_allEnvies_0 13 rfl rfl)
theorem dX5_allEnvies_14 : decode cX5_allEnvies 14 = .ok (.iload_n 3, 1) := dk_29 (dk_at dksX5_allEnvies_0 14 rfl rfl)
theorem dX5_allEnvies_15 : decode cX5_allEnvies 15 = .ok (.aload_n 0, 1) := dk_42 (dk_at dksX5_allEnvies_0 15 rfl rfl)
theorem dX5_allEnvies_16 : decode cX5_allEnvies 16 = .ok (.getfield 350, 3) := dk_180 1 94 (dk_at dksX5_allEnvies_0 16 rfl rfl)
theorem dX5_allEnvies_19 : decode cX5_allEnvies 19 = .ok (.if_icmp .ge 21, 3) := dk_162 0 21 (dk_at dksX5_allEnvies_0 19 rfl rfl)
theorem dX5_allEnvies_22 : decode cX5_allEnvies 22 = .ok (.iload_n 1, 1) := dk_27 (dk_at dksX5_allEnvies_0 22 rfl rfl)
theorem dX5_allEnvies_23 : decode cX5_allEnvies 23 = .ok (.aload_n 0, 1) := dk_42 (dk_at dksX5_allEnvies_0 23 rfl rfl)
theorem dX5_allEnvies_24 : decode cX5_allEnvies 24 = .ok (.iload_n 2, 1) := dk_28 (dk_at dksX5_allEnvies_1 0 rfl rfl)
theorem dX5_allEnvies_25 : decode cX5_allEnvies 25 = .ok (.iload_n 3, 1) := dk_29 (dk_at dksX5_allEnvies_1 1 rfl rfl)
theorem dX5_allEnvies_26 : decode cX5_allEnvies 26 = .ok (.invokevirtual 454, 3) := dk_182 1 198 (dk_at dksX5_allEnvies_1 2 rfl rfl)
theorem dX5_allEnvies_29 : decode cX5_allEnvies 29 = .ok (.invokestatic 304, 3) := dk_184 1 48 (dk_at dksX5_allEnvies_1 5 rfl rfl)
theorem dX5_allEnvies_32 : decode cX5_allEnvies 32 = .ok (.iadd, 1) := dk_96 (dk_at dksX5_allEnvies_1 8 rfl rfl)
theorem dX5_allEnvies_33 : decode cX5_allEnvies 33 = .ok (.istore_n 1, 1) := dk_60 (dk_at dksX5_allEnvies_1 9 rfl rfl)
theorem dX5_allEnvies_34 : decode cX5_allEnvies 34 = .ok (.iinc 3 1, 3) := dk_132 3 1 (dk_at dksX5_allEnvies_1 10 rfl rfl)
theorem dX5_allEnvies_37 : decode cX5_allEnvies 37 = .ok (.goto (-23), 3) := dk_167 255 233 (dk_at dksX5_allEnvies_1 13 rfl rfl)
theorem dX5_allEnvies_40 : decode cX5_allEnvies 40 = .ok (.iinc 2 1, 3) := dk_132 2 1 (dk_at dksX5_allEnvies_1 16 rfl rfl)
theorem dX5_allEnvies_43 : decode cX5_allEnvies 43 = .ok (.goto (-39), 3) := dk_167 255 217 (dk_at dksX5_allEnvies_1 19 rfl rfl)
theorem dX5_allEnvies_46 : decode cX5_allEnvies 46 = .ok (.iload_n 1, 1) := dk_27 (dk_at dksX5_allEnvies_1 22 rfl rfl)
theorem dX5_allEnvies_47 : decode cX5_allEnvies 47 = .ok (.ireturn, 1) := dk_172 (dk_at dksX5_allEnvies_1 23 rfl rfl)
abbrev cX5_calm : ByteArray := prog_17_method_87_code
def yX5_calm : MethodName := ⟨RX5, "calm", "(I)I"⟩
def dkwX5_calm_5 : List UInt8 := [29, 16, 8, 108, 167, 0, 16, 27, 4, 160, 0, 10, 29, 16, 8, 112, 167, 0, 4, 28, 172]
abbrev dktX5_calm_5 : List UInt8 := dkwX5_calm_5 ++ []
def dkwX5_calm_4 : List UInt8 := [132, 5, 1, 167, 255, 201, 132, 4, 1, 167, 255, 180, 29, 156, 0, 7, 2, 167, 0, 27, 27, 154, 0, 10]
abbrev dktX5_calm_4 : List UInt8 := dkwX5_calm_4 ++ dktX5_calm_5
def dkwX5_calm_3 : List UInt8 := [182, 1, 208, 21, 6, 28, 161, 0, 6, 167, 0, 15, 21, 6, 61, 16, 8, 21, 4, 104, 21, 5, 96, 62]
abbrev dktX5_calm_3 : List UInt8 := dkwX5_calm_3 ++ dktX5_calm_4
def dkwX5_calm_2 : List UInt8 := [162, 0, 52, 42, 21, 4, 21, 5, 182, 1, 208, 42, 182, 1, 205, 54, 6, 42, 21, 4, 21, 5]
abbrev dktX5_calm_2 : List UInt8 := dkwX5_calm_2 ++ dktX5_calm_3
def dkwX5_calm_1 : List UInt8 := [54, 4, 21, 4, 42, 180, 1, 94, 162, 0, 73, 21, 4, 4, 96, 54, 5, 21, 5, 42, 180, 1, 94]
abbrev dktX5_calm_1 : List UInt8 := dkwX5_calm_1 ++ dktX5_calm_2
def dkwX5_calm_0 : List UInt8 := [27, 3, 5, 184, 1, 112, 154, 0, 5, 2, 172, 42, 182, 1, 202, 42, 182, 1, 205, 61, 2, 62, 3]
abbrev dktX5_calm_0 : List UInt8 := dkwX5_calm_0 ++ dktX5_calm_1
theorem dksX5_calm_0 : cX5_calm.data.toList.drop 0 = dktX5_calm_0 := by decide +kernel
theorem dksX5_calm_1 : cX5_calm.data.toList.drop 23 = dktX5_calm_1 := dk_seg dksX5_calm_0 23 rfl rfl
theorem dksX5_calm_2 : cX5_calm.data.toList.drop 46 = dktX5_calm_2 := dk_seg dksX5_calm_1 23 rfl rfl
theorem dksX5_calm_3 : cX5_calm.data.toList.drop 68 = dktX5_calm_3 := dk_seg dksX5_calm_2 22 rfl rfl
theorem dksX5_calm_4 : cX5_calm.data.toList.drop 92 = dktX5_calm_4 := dk_seg dksX5_calm_3 24 rfl rfl
theorem dksX5_calm_5 : cX5_calm.data.toList.drop 116 = dktX5_calm_5 := dk_seg dksX5_calm_4 24 rfl rfl
theorem dX5_calm_0 : decode cX5_calm 0 = .ok (.iload_n 1, 1) := dk_27 (dk_at dksX5_calm_0 0 rfl rfl)
theorem dX5_calm_1 : decode cX5_calm 1 = .ok (.iconst 0, 1) := dk_3 (dk_at dksX5_calm_0 1 rfl rfl)
theorem dX5_calm_2 : decode cX5_calm 2 = .ok (.iconst 2, 1) := dk_5 (dk_at dksX5_calm_0 2 rfl rfl)
theorem dX5_calm_3 : decode cX5_calm 3 = .ok (.invokestatic 368, 3) := dk_184 1 112 (dk_at dksX5_calm_0 3 rfl rfl)
theorem dX5_calm_6 : decode cX5_calm 6 = .ok (.ifCond .ne 5, 3) := dk_154 0 5 (dk_at dksX5_calm_0 6 rfl rfl)
theorem dX5_calm_9 : decode cX5_calm 9 = .ok (.iconst (-1), 1) := dk_2 (dk_at dksX5_calm_0 9 rfl rfl)
theorem dX5_calm_10 : decode cX5_calm 10 = .ok (.ireturn, 1) := dk_172 (dk_at dksX5_calm_0 10 rfl rfl)
theorem dX5_calm_11 : decode cX5_calm 11 = .ok (.aload_n 0, 1) := dk_42 (dk_at dksX5_calm_0 11 rfl rfl)
theorem dX5_calm_12 : decode cX5_calm 12 = .ok (.invokevirtual 458, 3) := dk_182 1 202 (dk_at dksX5_calm_0 12 rfl rfl)
theorem dX5_calm_15 : decode cX5_calm 15 = .ok (.aload_n 0, 1) := dk_42 (dk_at dksX5_calm_0 15 rfl rfl)
theorem dX5_calm_16 : decode cX5_calm 16 = .ok (.invokevirtual 461, 3) := dk_182 1 205 (dk_at dksX5_calm_0 16 rfl rfl)
theorem dX5_calm_19 : decode cX5_calm 19 = .ok (.istore_n 2, 1) := dk_61 (dk_at dksX5_calm_0 19 rfl rfl)
theorem dX5_calm_20 : decode cX5_calm 20 = .ok (.iconst (-1), 1) := dk_2 (dk_at dksX5_calm_0 20 rfl rfl)
theorem dX5_calm_21 : decode cX5_calm 21 = .ok (.istore_n 3, 1) := dk_62 (dk_at dksX5_calm_0 21 rfl rfl)
theorem dX5_calm_22 : decode cX5_calm 22 = .ok (.iconst 0, 1) := dk_3 (dk_at dksX5_calm_0 22 rfl rfl)
theorem dX5_calm_23 : decode cX5_calm 23 = .ok (.istore 4, 2) := dk_54 4 (dk_at dksX5_calm_1 0 rfl rfl)
theorem dX5_calm_25 : decode cX5_calm 25 = .ok (.iload 4, 2) := dk_21 4 (dk_at dksX5_calm_1 2 rfl rfl)
theorem dX5_calm_27 : decode cX5_calm 27 = .ok (.aload_n 0, 1) := dk_42 (dk_at dksX5_calm_1 4 rfl rfl)
theorem dX5_calm_28 : decode cX5_calm 28 = .ok (.getfield 350, 3) := dk_180 1 94 (dk_at dksX5_calm_1 5 rfl rfl)
theorem dX5_calm_31 : decode cX5_calm 31 = .ok (.if_icmp .ge 73, 3) := dk_162 0 73 (dk_at dksX5_calm_1 8 rfl rfl)
theorem dX5_calm_34 : decode cX5_calm 34 = .ok (.iload 4, 2) := dk_21 4 (dk_at dksX5_calm_1 11 rfl rfl)
theorem dX5_calm_36 : decode cX5_calm 36 = .ok (.iconst 1, 1) := dk_4 (dk_at dksX5_calm_1 13 rfl rfl)
theorem dX5_calm_37 : decode cX5_calm 37 = .ok (.iadd, 1) := dk_96 (dk_at dksX5_calm_1 14 rfl rfl)
theorem dX5_calm_38 : decode cX5_calm 38 = .ok (.istore 5, 2) := dk_54 5 (dk_at dksX5_calm_1 15 rfl rfl)
theorem dX5_calm_40 : decode cX5_calm 40 = .ok (.iload 5, 2) := dk_21 5 (dk_at dksX5_calm_1 17 rfl rfl)
theorem dX5_calm_42 : decode cX5_calm 42 = .ok (.aload_n 0, 1) := dk_42 (dk_at dksX5_calm_1 19 rfl rfl)
theorem dX5_calm_43 : decode cX5_calm 43 = .ok (.getfield 350, 3) := dk_180 1 94 (dk_at dksX5_calm_1 20 rfl rfl)
theorem dX5_calm_46 : decode cX5_calm 46 = .ok (.if_icmp .ge 52, 3) := dk_162 0 52 (dk_at dksX5_calm_2 0 rfl rfl)
theorem dX5_calm_49 : decode cX5_calm 49 = .ok (.aload_n 0, 1) := dk_42 (dk_at dksX5_calm_2 3 rfl rfl)
theorem dX5_calm_50 : decode cX5_calm 50 = .ok (.iload 4, 2) := dk_21 4 (dk_at dksX5_calm_2 4 rfl rfl)
theorem dX5_calm_52 : decode cX5_calm 52 = .ok (.iload 5, 2) := dk_21 5 (dk_at dksX5_calm_2 6 rfl rfl)
theorem dX5_calm_54 : decode cX5_calm 54 = .ok (.invokevirtual 464, 3) := dk_182 1 208 (dk_at dksX5_calm_2 8 rfl rfl)
theorem dX5_calm_57 : decode cX5_calm 57 = .ok (.aload_n 0, 1) := dk_42 (dk_at dksX5_calm_2 11 rfl rfl)
theorem dX5_calm_58 : decode cX5_calm 58 = .ok (.invokevirtual 461, 3) := dk_182 1 205 (dk_at dksX5_calm_2 12 rfl rfl)
theorem dX5_calm_61 : decode cX5_calm 61 = .ok (.istore 6, 2) := dk_54 6 (dk_at dksX5_calm_2 15 rfl rfl)
theorem dX5_calm_63 : decode cX5_calm 63 = .ok (.aload_n 0, 1) := dk_42 (dk_at dksX5_calm_2 17 rfl rfl)
theorem dX5_calm_64 : decode cX5_calm 64 = .ok (.iload 4, 2) := dk_21 4 (dk_at dksX5_calm_2 18 rfl rfl)
theorem dX5_calm_66 : decode cX5_calm 66 = .ok (.iload 5, 2) := dk_21 5 (dk_at dksX5_calm_2 20 rfl rfl)
theorem dX5_calm_68 : decode cX5_calm 68 = .ok (.invokevirtual 464, 3) := dk_182 1 208 (dk_at dksX5_calm_3 0 rfl rfl)
theorem dX5_calm_71 : decode cX5_calm 71 = .ok (.iload 6, 2) := dk_21 6 (dk_at dksX5_calm_3 3 rfl rfl)
theorem dX5_calm_73 : decode cX5_calm 73 = .ok (.iload_n 2, 1) := dk_28 (dk_at dksX5_calm_3 5 rfl rfl)
theorem dX5_calm_74 : decode cX5_calm 74 = .ok (.if_icmp .lt 6, 3) := dk_161 0 6 (dk_at dksX5_calm_3 6 rfl rfl)
theorem dX5_calm_77 : decode cX5_calm 77 = .ok (.goto 15, 3) := dk_167 0 15 (dk_at dksX5_calm_3 9 rfl rfl)
theorem dX5_calm_80 : decode cX5_calm 80 = .ok (.iload 6, 2) := dk_21 6 (dk_at dksX5_calm_3 12 rfl rfl)
theorem dX5_calm_82 : decode cX5_calm 82 = .ok (.istore_n 2, 1) := dk_61 (dk_at dksX5_calm_3 14 rfl rfl)
theorem dX5_calm_83 : decode cX5_calm 83 = .ok (.bipush 8, 2) := dk_16 8 (dk_at dksX5_calm_3 15 rfl rfl)
theorem dX5_calm_85 : decode cX5_calm 85 = .ok (.iload 4, 2) := dk_21 4 (dk_at dksX5_calm_3 17 rfl rfl)
theorem dX5_calm_87 : decode cX5_calm 87 = .ok (.imul, 1) := dk_104 (dk_at dksX5_calm_3 19 rfl rfl)
theorem dX5_calm_88 : decode cX5_calm 88 = .ok (.iload 5, 2) := dk_21 5 (dk_at dksX5_calm_3 20 rfl rfl)
theorem dX5_calm_90 : decode cX5_calm 90 = .ok (.iadd, 1) := dk_96 (dk_at dksX5_calm_3 22 rfl rfl)
theorem dX5_calm_91 : decode cX5_calm 91 = .ok (.istore_n 3, 1) := dk_62 (dk_at dksX5_calm_3 23 rfl rfl)
theorem dX5_calm_92 : decode cX5_calm 92 = .ok (.iinc 5 1, 3) := dk_132 5 1 (dk_at dksX5_calm_4 0 rfl rfl)
theorem dX5_calm_95 : decode cX5_calm 95 = .ok (.goto (-55), 3) := dk_167 255 201 (dk_at dksX5_calm_4 3 rfl rfl)
theorem dX5_calm_98 : decode cX5_calm 98 = .ok (.iinc 4 1, 3) := dk_132 4 1 (dk_at dksX5_calm_4 6 rfl rfl)
theorem dX5_calm_101 : decode cX5_calm 101 = .ok (.goto (-76), 3) := dk_167 255 180 (dk_at dksX5_calm_4 9 rfl rfl)
theorem dX5_calm_104 : decode cX5_calm 104 = .ok (.iload_n 3, 1) := dk_29 (dk_at dksX5_calm_4 12 rfl rfl)
theorem dX5_calm_105 : decode cX5_calm 105 = .ok (.ifCond .ge 7, 3) := dk_156 0 7 (dk_at dksX5_calm_4 13 rfl rfl)
theorem dX5_calm_108 : decode cX5_calm 108 = .ok (.iconst (-1), 1) := dk_2 (dk_at dksX5_calm_4 16 rfl rfl)
theorem dX5_calm_109 : decode cX5_calm 109 = .ok (.goto 27, 3) := dk_167 0 27 (dk_at dksX5_calm_4 17 rfl rfl)
theorem dX5_calm_112 : decode cX5_calm 112 = .ok (.iload_n 1, 1) := dk_27 (dk_at dksX5_calm_4 20 rfl rfl)
theorem dX5_calm_113 : decode cX5_calm 113 = .ok (.ifCond .ne 10, 3) := dk_154 0 10 (dk_at dksX5_calm_4 21 rfl rfl)
theorem dX5_calm_116 : decode cX5_calm 116 = .ok (.iload_n 3, 1) := dk_29 (dk_at dksX5_calm_5 0 rfl rfl)
theorem dX5_calm_117 : decode cX5_calm 117 = .ok (.bipush 8, 2) := dk_16 8 (dk_at dksX5_calm_5 1 rfl rfl)
theorem dX5_calm_119 : decode cX5_calm 119 = .ok (.idiv, 1) := dk_108 (dk_at dksX5_calm_5 3 rfl rfl)
theorem dX5_calm_120 : decode cX5_calm 120 = .ok (.goto 16, 3) := dk_167 0 16 (dk_at dksX5_calm_5 4 rfl rfl)
theorem dX5_calm_123 : decode cX5_calm 123 = .ok (.iload_n 1, 1) := dk_27 (dk_at dksX5_calm_5 7 rfl rfl)
theorem dX5_calm_124 : decode cX5_calm 124 = .ok (.iconst 1, 1) := dk_4 (dk_at dksX5_calm_5 8 rfl rfl)
theorem dX5_calm_125 : decode cX5_calm 125 = .ok (.if_icmp .ne 10, 3) := dk_160 0 10 (dk_at dksX5_calm_5 9 rfl rfl)
theorem dX5_calm_128 : decode cX5_calm 128 = .ok (.iload_n 3, 1) := dk_29 (dk_at dksX5_calm_5 12 rfl rfl)
theorem dX5_calm_129 : decode cX5_calm 129 = .ok (.bipush 8, 2) := dk_16 8 (dk_at dksX5_calm_5 13 rfl rfl)
theorem dX5_calm_131 : decode cX5_calm 131 = .ok (.irem, 1) := dk_112 (dk_at dksX5_calm_5 15 rfl rfl)
theorem dX5_calm_132 : decode cX5_calm 132 = .ok (.goto 4, 3) := dk_167 0 4 (dk_at dksX5_calm_5 16 rfl rfl)
theorem dX5_calm_135 : decode cX5_calm 135 = .ok (.iload_n 2, 1) := dk_28 (dk_at dksX5_calm_5 19 rfl rfl)
theorem dX5_calm_136 : decode cX5_calm 136 = .ok (.ireturn, 1) := dk_172 (dk_at dksX5_calm_5 20 rfl rfl)
abbrev cX5_changeHomes : ByteArray := prog_17_method_86_code
def yX5_changeHomes : MethodName := ⟨RX5, "changeHomes", "(II)V"⟩
def dkwX5_changeHomes_1 : List UInt8 := [29, 79, 177]
abbrev dktX5_changeHomes_1 : List UInt8 := dkwX5_changeHomes_1 ++ []
def dkwX5_changeHomes_0 : List UInt8 := [42, 180, 0, 112, 27, 46, 62, 42, 180, 0, 112, 27, 42, 180, 0, 112, 28, 46, 79, 42, 180, 0, 112, 28]
abbrev dktX5_changeHomes_0 : List UInt8 := dkwX5_changeHomes_0 ++ dktX5_changeHomes_1
theorem dksX5_changeHomes_0 : cX5_changeHomes.data.toList.drop 0 = dktX5_changeHomes_0 := by decide +kernel
theorem dksX5_changeHomes_1 : cX5_changeHomes.data.toList.drop 24 = dktX5_changeHomes_1 := dk_seg dksX5_changeHomes_0 24 rfl rfl
theorem dX5_changeHomes_0 : decode cX5_changeHomes 0 = .ok (.aload_n 0, 1) := dk_42 (dk_at dksX5_changeHomes_0 0 rfl rfl)
theorem dX5_changeHomes_1 : decode cX5_changeHomes 1 = .ok (.getfield 112, 3) := dk_180 0 112 (dk_at dksX5_changeHomes_0 1 rfl rfl)
theorem dX5_changeHomes_4 : decode cX5_changeHomes 4 = .ok (.iload_n 1, 1) := dk_27 (dk_at dksX5_changeHomes_0 4 rfl rfl)
theorem dX5_changeHomes_5 : decode cX5_changeHomes 5 = .ok (.iaload, 1) := dk_46 (dk_at dksX5_changeHomes_0 5 rfl rfl)
theorem dX5_changeHomes_6 : decode cX5_changeHomes 6 = .ok (.istore_n 3, 1) := dk_62 (dk_at dksX5_changeHomes_0 6 rfl rfl)
theorem dX5_changeHomes_7 : decode cX5_changeHomes 7 = .ok (.aload_n 0, 1) := dk_42 (dk_at dksX5_changeHomes_0 7 rfl rfl)
theorem dX5_changeHomes_8 : decode cX5_changeHomes 8 = .ok (.getfield 112, 3) := dk_180 0 112 (dk_at dksX5_changeHomes_0 8 rfl rfl)
theorem dX5_changeHomes_11 : decode cX5_changeHomes 11 = .ok (.iload_n 1, 1) := dk_27 (dk_at dksX5_changeHomes_0 11 rfl rfl)
theorem dX5_changeHomes_12 : decode cX5_changeHomes 12 = .ok (.aload_n 0, 1) := dk_42 (dk_at dksX5_changeHomes_0 12 rfl rfl)
theorem dX5_changeHomes_13 : decode cX5_changeHomes 13 = .ok (.getfield 112, 3) := dk_180 0 112 (dk_at dksX5_changeHomes_0 13 rfl rfl)
theorem dX5_changeHomes_16 : decode cX5_changeHomes 16 = .ok (.iload_n 2, 1) := dk_28 (dk_at dksX5_changeHomes_0 16 rfl rfl)
theorem dX5_changeHomes_17 : decode cX5_changeHomes 17 = .ok (.iaload, 1) := dk_46 (dk_at dksX5_changeHomes_0 17 rfl rfl)
theorem dX5_changeHomes_18 : decode cX5_changeHomes 18 = .ok (.iastore, 1) := dk_79 (dk_at dksX5_changeHomes_0 18 rfl rfl)
theorem dX5_changeHomes_19 : decode cX5_changeHomes 19 = .ok (.aload_n 0, 1) := dk_42 (dk_at dksX5_changeHomes_0 19 rfl rfl)
theorem dX5_changeHomes_20 : decode cX5_changeHomes 20 = .ok (.getfield 112, 3) := dk_180 0 112 (dk_at dksX5_changeHomes_0 20 rfl rfl)
theorem dX5_changeHomes_23 : decode cX5_changeHomes 23 = .ok (.iload_n 2, 1) := dk_28 (dk_at dksX5_changeHomes_0 23 rfl rfl)
theorem dX5_changeHomes_24 : decode cX5_changeHomes 24 = .ok (.iload_n 3, 1) := dk_29 (dk_at dksX5_changeHomes_1 0 rfl rfl)
theorem dX5_changeHomes_25 : decode cX5_changeHomes 25 = .ok (.iastore, 1) := dk_79 (dk_at dksX5_changeHomes_1 1 rfl rfl)
theorem dX5_changeHomes_26 : decode cX5_changeHomes 26 = .ok (.return_, 1) := dk_177 (dk_at dksX5_changeHomes_1 2 rfl rfl)
abbrev cX5_let : ByteArray := prog_17_method_91_code
def yX5_let : MethodName := ⟨RX5, "let", "()I"⟩
def dkwX5_let_6 : List UInt8 := [181, 1, 109, 27, 172]
abbrev dktX5_let_6 : List UInt8 := dkwX5_let_6 ++ []
def dkwX5_let_5 : List UInt8 := [21, 4, 46, 79, 132, 4, 1, 167, 255, 230, 42, 182, 1, 217, 61, 167, 255, 203, 42, 42, 180, 1, 94]
abbrev dktX5_let_5 : List UInt8 := dkwX5_let_5 ++ dktX5_let_6
def dkwX5_let_4 : List UInt8 := [60, 3, 54, 4, 21, 4, 42, 180, 1, 94, 162, 0, 23, 42, 180, 0, 97, 21, 4, 42, 180, 0, 112]
abbrev dktX5_let_4 : List UInt8 := dkwX5_let_4 ++ dktX5_let_5
def dkwX5_let_3 : List UInt8 := [167, 255, 206, 19, 1, 167, 60, 4, 61, 28, 153, 0, 55, 42, 182, 1, 214, 62, 29, 27, 162, 0, 37, 29]
abbrev dktX5_let_3 : List UInt8 := dkwX5_let_3 ++ dktX5_let_4
def dkwX5_let_2 : List UInt8 := [42, 180, 0, 112, 27, 46, 162, 0, 9, 42, 27, 28, 182, 1, 208, 132, 2, 1, 167, 255, 224, 132, 1, 1]
abbrev dktX5_let_2 : List UInt8 := dkwX5_let_2 ++ dktX5_let_3
def dkwX5_let_1 : List UInt8 := [180, 1, 94, 162, 0, 48, 27, 4, 96, 61, 28, 42, 180, 1, 94, 162, 0, 30, 42, 180, 0, 112, 28, 46]
abbrev dktX5_let_1 : List UInt8 := dkwX5_let_1 ++ dktX5_let_2
def dkwX5_let_0 : List UInt8 := [42, 3, 181, 1, 109, 42, 180, 1, 94, 154, 0, 5, 2, 172, 42, 182, 1, 202, 3, 60, 27, 42]
abbrev dktX5_let_0 : List UInt8 := dkwX5_let_0 ++ dktX5_let_1
theorem dksX5_let_0 : cX5_let.data.toList.drop 0 = dktX5_let_0 := by decide +kernel
theorem dksX5_let_1 : cX5_let.data.toList.drop 22 = dktX5_let_1 := dk_seg dksX5_let_0 22 rfl rfl
theorem dksX5_let_2 : cX5_let.data.toList.drop 46 = dktX5_let_2 := dk_seg dksX5_let_1 24 rfl rfl
theorem dksX5_let_3 : cX5_let.data.toList.drop 70 = dktX5_let_3 := dk_seg dksX5_let_2 24 rfl rfl
theorem dksX5_let_4 : cX5_let.data.toList.drop 94 = dktX5_let_4 := dk_seg dksX5_let_3 24 rfl rfl
theorem dksX5_let_5 : cX5_let.data.toList.drop 117 = dktX5_let_5 := dk_seg dksX5_let_4 23 rfl rfl
theorem dksX5_let_6 : cX5_let.data.toList.drop 140 = dktX5_let_6 := dk_seg dksX5_let_5 23 rfl rfl
theorem dX5_let_0 : decode cX5_let 0 = .ok (.aload_n 0, 1) := dk_42 (dk_at dksX5_let_0 0 rfl rfl)
theorem dX5_let_1 : decode cX5_let 1 = .ok (.iconst 0, 1) := dk_3 (dk_at dksX5_let_0 1 rfl rfl)
theorem dX5_let_2 : decode cX5_let 2 = .ok (.putfield 365, 3) := dk_181 1 109 (dk_at dksX5_let_0 2 rfl rfl)
theorem dX5_let_5 : decode cX5_let 5 = .ok (.aload_n 0, 1) := dk_42 (dk_at dksX5_let_0 5 rfl rfl)
theorem dX5_let_6 : decode cX5_let 6 = .ok (.getfield 350, 3) := dk_180 1 94 (dk_at dksX5_let_0 6 rfl rfl)
theorem dX5_let_9 : decode cX5_let 9 = .ok (.ifCond .ne 5, 3) := dk_154 0 5 (dk_at dksX5_let_0 9 rfl rfl)
theorem dX5_let_12 : decode cX5_let 12 = .ok (.iconst (-1), 1) := dk_2 (dk_at dksX5_let_0 12 rfl rfl)
theorem dX5_let_13 : decode cX5_let 13 = .ok (.ireturn, 1) := dk_172 (dk_at dksX5_let_0 13 rfl rfl)
theorem dX5_let_14 : decode cX5_let 14 = .ok (.aload_n 0, 1) := dk_42 (dk_at dksX5_let_0 14 rfl rfl)
theorem dX5_let_15 : decode cX5_let 15 = .ok (.invokevirtual 458, 3) := dk_182 1 202 (dk_at dksX5_let_0 15 rfl rfl)
theorem dX5_let_18 : decode cX5_let 18 = .ok (.iconst 0, 1) := dk_3 (dk_at dksX5_let_0 18 rfl rfl)
theorem dX5_let_19 : decode cX5_let 19 = .ok (.istore_n 1, 1) := dk_60 (dk_at dksX5_let_0 19 rfl rfl)
theorem dX5_let_20 : decode cX5_let 20 = .ok (.iload_n 1, 1) := dk_27 (dk_at dksX5_let_0 20 rfl rfl)
theorem dX5_let_21 : decode cX5_let 21 = .ok (.aload_n 0, 1) := dk_42 (dk_at dksX5_let_0 21 rfl rfl)
theorem dX5_let_22 : decode cX5_let 22 = .ok (.getfield 350, 3) := dk_180 1 94 (dk_at dksX5_let_1 0 rfl rfl)
theorem dX5_let_25 : decode cX5_let 25 = .ok (.if_icmp .ge 48, 3) := dk_162 0 48 (dk_at dksX5_let_1 3 rfl rfl)
theorem dX5_let_28 : decode cX5_let 28 = .ok (.iload_n 1, 1) := dk_27 (dk_at dksX5_let_1 6 rfl rfl)
theorem dX5_let_29 : decode cX5_let 29 = .ok (.iconst 1, 1) := dk_4 (dk_at dksX5_let_1 7 rfl rfl)
theorem dX5_let_30 : decode cX5_let 30 = .ok (.iadd, 1) := dk_96 (dk_at dksX5_let_1 8 rfl rfl)
theorem dX5_let_31 : decode cX5_let 31 = .ok (.istore_n 2, 1) := dk_61 (dk_at dksX5_let_1 9 rfl rfl)
theorem dX5_let_32 : decode cX5_let 32 = .ok (.iload_n 2, 1) := dk_28 (dk_at dksX5_let_1 10 rfl rfl)
theorem dX5_let_33 : decode cX5_let 33 = .ok (.aload_n 0, 1) := dk_42 (dk_at dksX5_let_1 11 rfl rfl)
theorem dX5_let_34 : decode cX5_let 34 = .ok (.getfield 350, 3) := dk_180 1 94 (dk_at dksX5_let_1 12 rfl rfl)
theorem dX5_let_37 : decode cX5_let 37 = .ok (.if_icmp .ge 30, 3) := dk_162 0 30 (dk_at dksX5_let_1 15 rfl rfl)
theorem dX5_let_40 : decode cX5_let 40 = .ok (.aload_n 0, 1) := dk_42 (dk_at dksX5_let_1 18 rfl rfl)
theorem dX5_let_41 : decode cX5_let 41 = .ok (.getfield 112, 3) := dk_180 0 112 (dk_at dksX5_let_1 19 rfl rfl)
theorem dX5_let_44 : decode cX5_let 44 = .ok (.iload_n 2, 1) := dk_28 (dk_at dksX5_let_1 22 rfl rfl)
theorem dX5_let_45 : decode cX5_let 45 = .ok (.iaload, 1) := dk_46 (dk_at dksX5_let_1 23 rfl rfl)
theorem dX5_let_46 : decode cX5_let 46 = .ok (.aload_n 0, 1) := dk_42 (dk_at dksX5_let_2 0 rfl rfl)
theorem dX5_let_47 : decode cX5_let 47 = .ok (.getfield 112, 3) := dk_180 0 112 (dk_at dksX5_let_2 1 rfl rfl)
theorem dX5_let_50 : decode cX5_let 50 = .ok (.iload_n 1, 1) := dk_27 (dk_at dksX5_let_2 4 rfl rfl)
theorem dX5_let_51 : decode cX5_let 51 = .ok (.iaload, 1) := dk_46 (dk_at dksX5_let_2 5 rfl rfl)
theorem dX5_let_52 : decode cX5_let 52 = .ok (.if_icmp .ge 9, 3) := dk_162 0 9 (dk_at dksX5_let_2 6 rfl rfl)
theorem dX5_let_55 : decode cX5_let 55 = .ok (.aload_n 0, 1) := dk_42 (dk_at dksX5_let_2 9 rfl rfl)
theorem dX5_let_56 : decode cX5_let 56 = .ok (.iload_n 1, 1) := dk_27 (dk_at dksX5_let_2 10 rfl rfl)
theorem dX5_let_57 : decode cX5_let 57 = .ok (.iload_n 2, 1) := dk_28 (dk_at dksX5_let_2 11 rfl rfl)
theorem dX5_let_58 : decode cX5_let 58 = .ok (.invokevirtual 464, 3) := dk_182 1 208 (dk_at dksX5_let_2 12 rfl rfl)
theorem dX5_let_61 : decode cX5_let 61 = .ok (.iinc 2 1, 3) := dk_132 2 1 (dk_at dksX5_let_2 15 rfl rfl)
theorem dX5_let_64 : decode cX5_let 64 = .ok (.goto (-32), 3) := dk_167 255 224 (dk_at dksX5_let_2 18 rfl rfl)
theorem dX5_let_67 : decode cX5_let 67 = .ok (.iinc 1 1, 3) := dk_132 1 1 (dk_at dksX5_let_2 21 rfl rfl)
theorem dX5_let_70 : decode cX5_let 70 = .ok (.goto (-50), 3) := dk_167 255 206 (dk_at dksX5_let_3 0 rfl rfl)
theorem dX5_let_73 : decode cX5_let 73 = .ok (.ldc_w 423, 3) := dk_19 1 167 (dk_at dksX5_let_3 3 rfl rfl)
theorem dX5_let_76 : decode cX5_let 76 = .ok (.istore_n 1, 1) := dk_60 (dk_at dksX5_let_3 6 rfl rfl)
theorem dX5_let_77 : decode cX5_let 77 = .ok (.iconst 1, 1) := dk_4 (dk_at dksX5_let_3 7 rfl rfl)
theorem dX5_let_78 : decode cX5_let 78 = .ok (.istore_n 2, 1) := dk_61 (dk_at dksX5_let_3 8 rfl rfl)
theorem dX5_let_79 : decode cX5_let 79 = .ok (.iload_n 2, 1) := dk_28 (dk_at dksX5_let_3 9 rfl rfl)
theorem dX5_let_80 : decode cX5_let 80 = .ok (.ifCond .eq 55, 3) := dk_153 0 55 (dk_at dksX5_let_3 10 rfl rfl)
theorem dX5_let_83 : decode cX5_let 83 = .ok (.aload_n 0, 1) := dk_42 (dk_at dksX5_let_3 13 rfl rfl)
theorem dX5_let_84 : decode cX5_let 84 = .ok (.invokevirtual 470, 3) := dk_182 1 214 (dk_at dksX5_let_3 14 rfl rfl)
theorem dX5_let_87 : decode cX5_let 87 = .ok (.istore_n 3, 1) := dk_62 (dk_at dksX5_let_3 17 rfl rfl)
theorem dX5_let_88 : decode cX5_let 88 = .ok (.iload_n 3, 1) := dk_29 (dk_at dksX5_let_3 18 rfl rfl)
theorem dX5_let_89 : decode cX5_let 89 = .ok (.iload_n 1, 1) := dk_27 (dk_at dksX5_let_3 19 rfl rfl)
theorem dX5_let_90 : decode cX5_let 90 = .ok (.if_icmp .ge 37, 3) := dk_162 0 37 (dk_at dksX5_let_3 20 rfl rfl)
theorem dX5_let_93 : decode cX5_let 93 = .ok (.iload_n 3, 1) := dk_29 (dk_at dksX5_let_3 23 rfl rfl)
theorem dX5_let_94 : decode cX5_let 94 = .ok (.istore_n 1, 1) := dk_60 (dk_at dksX5_let_4 0 rfl rfl)
theorem dX5_let_95 : decode cX5_let 95 = .ok (.iconst 0, 1) := dk_3 (dk_at dksX5_let_4 1 rfl rfl)
theorem dX5_let_96 : decode cX5_let 96 = .ok (.istore 4, 2) := dk_54 4 (dk_at dksX5_let_4 2 rfl rfl)
theorem dX5_let_98 : decode cX5_let 98 = .ok (.iload 4, 2) := dk_21 4 (dk_at dksX5_let_4 4 rfl rfl)
theorem dX5_let_100 : decode cX5_let 100 = .ok (.aload_n 0, 1) := dk_42 (dk_at dksX5_let_4 6 rfl rfl)
theorem dX5_let_101 : decode cX5_let 101 = .ok (.getfield 350, 3) := dk_180 1 94 (dk_at dksX5_let_4 7 rfl rfl)
theorem dX5_let_104 : decode cX5_let 104 = .ok (.if_icmp .ge 23, 3) := dk_162 0 23 (dk_at dksX5_let_4 10 rfl rfl)
theorem dX5_let_107 : decode cX5_let 107 = .ok (.aload_n 0, 1) := dk_42 (dk_at dksX5_let_4 13 rfl rfl)
theorem dX5_let_108 : decode cX5_let 108 = .ok (.getfield 97, 3) := dk_180 0 97 (dk_at dksX5_let_4 14 rfl rfl)
theorem dX5_let_111 : decode cX5_let 111 = .ok (.iload 4, 2) := dk_21 4 (dk_at dksX5_let_4 17 rfl rfl)
theorem dX5_let_113 : decode cX5_let 113 = .ok (.aload_n 0, 1) := dk_42 (dk_at dksX5_let_4 19 rfl rfl)
theorem dX5_let_114 : decode cX5_let 114 = .ok (.getfield 112, 3) := dk_180 0 112 (dk_at dksX5_let_4 20 rfl rfl)
theorem dX5_let_117 : decode cX5_let 117 = .ok (.iload 4, 2) := dk_21 4 (dk_at dksX5_let_5 0 rfl rfl)
theorem dX5_let_119 : decode cX5_let 119 = .ok (.iaload, 1) := dk_46 (dk_at dksX5_let_5 2 rfl rfl)
theorem dX5_let_120 : decode cX5_let 120 = .ok (.iastore, 1) := dk_79 (dk_at dksX5_let_5 3 rfl rfl)
theorem dX5_let_121 : decode cX5_let 121 = .ok (.iinc 4 1, 3) := dk_132 4 1 (dk_at dksX5_let_5 4 rfl rfl)
theorem dX5_let_124 : decode cX5_let 124 = .ok (.goto (-26), 3) := dk_167 255 230 (dk_at dksX5_let_5 7 rfl rfl)
theorem dX5_let_127 : decode cX5_let 127 = .ok (.aload_n 0, 1) := dk_42 (dk_at dksX5_let_5 10 rfl rfl)
theorem dX5_let_128 : decode cX5_let 128 = .ok (.invokevirtual 473, 3) := dk_182 1 217 (dk_at dksX5_let_5 11 rfl rfl)
theorem dX5_let_131 : decode cX5_let 131 = .ok (.istore_n 2, 1) := dk_61 (dk_at dksX5_let_5 14 rfl rfl)
theorem dX5_let_132 : decode cX5_let 132 = .ok (.goto (-53), 3) := dk_167 255 203 (dk_at dksX5_let_5 15 rfl rfl)
theorem dX5_let_135 : decode cX5_let 135 = .ok (.aload_n 0, 1) := dk_42 (dk_at dksX5_let_5 18 rfl rfl)
theorem dX5_let_136 : decode cX5_let 136 = .ok (.aload_n 0, 1) := dk_42 (dk_at dksX5_let_5 19 rfl rfl)
theorem dX5_let_137 : decode cX5_let 137 = .ok (.getfield 350, 3) := dk_180 1 94 (dk_at dksX5_let_5 20 rfl rfl)
theorem dX5_let_140 : decode cX5_let 140 = .ok (.putfield 365, 3) := dk_181 1 109 (dk_at dksX5_let_6 0 rfl rfl)
theorem dX5_let_143 : decode cX5_let 143 = .ok (.iload_n 1, 1) := dk_27 (dk_at dksX5_let_6 3 rfl rfl)
theorem dX5_let_144 : decode cX5_let 144 = .ok (.ireturn, 1) := dk_172 (dk_at dksX5_let_6 4 rfl rfl)
abbrev cX5_uneven : ByteArray := prog_17_method_89_code
def yX5_uneven : MethodName := ⟨RX5, "uneven", "()I"⟩
def dkwX5_uneven_2 : List UInt8 := [182, 1, 211, 167, 0, 4, 28, 61, 132, 3, 1, 167, 255, 207, 28, 27, 100, 172]
abbrev dktX5_uneven_2 : List UInt8 := dkwX5_uneven_2 ++ []
def dkwX5_uneven_1 : List UInt8 := [162, 0, 11, 42, 29, 182, 1, 211, 167, 0, 4, 27, 60, 42, 29, 182, 1, 211, 28, 164, 0, 11, 42, 29]
abbrev dktX5_uneven_1 : List UInt8 := dkwX5_uneven_1 ++ dktX5_uneven_2
def dkwX5_uneven_0 : List UInt8 := [19, 1, 167, 60, 3, 61, 3, 62, 29, 42, 180, 1, 94, 162, 0, 47, 42, 29, 182, 1, 211, 27]
abbrev dktX5_uneven_0 : List UInt8 := dkwX5_uneven_0 ++ dktX5_uneven_1
theorem dksX5_uneven_0 : cX5_uneven.data.toList.drop 0 = dktX5_uneven_0 := by decide +kernel
theorem dksX5_uneven_1 : cX5_uneven.data.toList.drop 22 = dktX5_uneven_1 := dk_seg dksX5_uneven_0 22 rfl rfl
theorem dksX5_uneven_2 : cX5_uneven.data.toList.drop 46 = dktX5_uneven_2 := dk_seg dksX5_uneven_1 24 rfl rfl
theorem dX5_uneven_0 : decode cX5_uneven 0 = .ok (.ldc_w 423, 3) := dk_19 1 167 (dk_at dksX5_uneven_0 0 rfl rfl)
theorem dX5_uneven_3 : decode cX5_uneven 3 = .ok (.istore_n 1, 1) := dk_60 (dk_at dksX5_uneven_0 3 rfl rfl)
theorem dX5_uneven_4 : decode cX5_uneven 4 = .ok (.iconst 0, 1) := dk_3 (dk_at dksX5_uneven_0 4 rfl rfl)
theorem dX5_uneven_5 : decode cX5_uneven 5 = .ok (.istore_n 2, 1) := dk_61 (dk_at dksX5_uneven_0 5 rfl rfl)
theorem dX5_uneven_6 : decode cX5_uneven 6 = .ok (.iconst 0, 1) := dk_3 (dk_at dksX5_uneven_0 6 rfl rfl)
theorem dX5_uneven_7 : decode cX5_uneven 7 = .ok (.istore_n 3, 1) := dk_62 (dk_at dksX5_uneven_0 7 rfl rfl)
theorem dX5_uneven_8 : decode cX5_uneven 8 = .ok (.iload_n 3, 1) := dk_29 (dk_at dksX5_uneven_0 8 rfl rfl)
theorem dX5_uneven_9 : decode cX5_uneven 9 = .ok (.aload_n 0, 1) := dk_42 (dk_at dksX5_uneven_0 9 rfl rfl)
theorem dX5_uneven_10 : decode cX5_uneven 10 = .ok (.getfield 350, 3) := dk_180 1 94 (dk_at dksX5_uneven_0 10 rfl rfl)
theorem dX5_uneven_13 : decode cX5_uneven 13 = .ok (.if_icmp .ge 47, 3) := dk_162 0 47 (dk_at dksX5_uneven_0 13 rfl rfl)
theorem dX5_uneven_16 : decode cX5_uneven 16 = .ok (.aload_n 0, 1) := dk_42 (dk_at dksX5_uneven_0 16 rfl rfl)
theorem dX5_uneven_17 : decode cX5_uneven 17 = .ok (.iload_n 3, 1) := dk_29 (dk_at dksX5_uneven_0 17 rfl rfl)
theorem dX5_uneven_18 : decode cX5_uneven 18 = .ok (.invokevirtual 467, 3) := dk_182 1 211 (dk_at dksX5_uneven_0 18 rfl rfl)
theorem dX5_uneven_21 : decode cX5_uneven 21 = .ok (.iload_n 1, 1) := dk_27 (dk_at dksX5_uneven_0 21 rfl rfl)
theorem dX5_uneven_22 : decode cX5_uneven 22 = .ok (.if_icmp .ge 11, 3) := dk_162 0 11 (dk_at dksX5_uneven_1 0 rfl rfl)
theorem dX5_uneven_25 : decode cX5_uneven 25 = .ok (.aload_n 0, 1) := dk_42 (dk_at dksX5_uneven_1 3 rfl rfl)
theorem dX5_uneven_26 : decode cX5_uneven 26 = .ok (.iload_n 3, 1) := dk_29 (dk_at dksX5_uneven_1 4 rfl rfl)
theorem dX5_uneven_27 : decode cX5_uneven 27 = .ok (.invokevirtual 467, 3) := dk_182 1 211 (dk_at dksX5_uneven_1 5 rfl rfl)
theorem dX5_uneven_30 : decode cX5_uneven 30 = .ok (.goto 4, 3) := dk_167 0 4 (dk_at dksX5_uneven_1 8 rfl rfl)
theorem dX5_uneven_33 : decode cX5_uneven 33 = .ok (.iload_n 1, 1) := dk_27 (dk_at dksX5_uneven_1 11 rfl rfl)
theorem dX5_uneven_34 : decode cX5_uneven 34 = .ok (.istore_n 1, 1) := dk_60 (dk_at dksX5_uneven_1 12 rfl rfl)
theorem dX5_uneven_35 : decode cX5_uneven 35 = .ok (.aload_n 0, 1) := dk_42 (dk_at dksX5_uneven_1 13 rfl rfl)
theorem dX5_uneven_36 : decode cX5_uneven 36 = .ok (.iload_n 3, 1) := dk_29 (dk_at dksX5_uneven_1 14 rfl rfl)
theorem dX5_uneven_37 : decode cX5_uneven 37 = .ok (.invokevirtual 467, 3) := dk_182 1 211 (dk_at dksX5_uneven_1 15 rfl rfl)
theorem dX5_uneven_40 : decode cX5_uneven 40 = .ok (.iload_n 2, 1) := dk_28 (dk_at dksX5_uneven_1 18 rfl rfl)
theorem dX5_uneven_41 : decode cX5_uneven 41 = .ok (.if_icmp .le 11, 3) := dk_164 0 11 (dk_at dksX5_uneven_1 19 rfl rfl)
theorem dX5_uneven_44 : decode cX5_uneven 44 = .ok (.aload_n 0, 1) := dk_42 (dk_at dksX5_uneven_1 22 rfl rfl)
theorem dX5_uneven_45 : decode cX5_uneven 45 = .ok (.iload_n 3, 1) := dk_29 (dk_at dksX5_uneven_1 23 rfl rfl)
theorem dX5_uneven_46 : decode cX5_uneven 46 = .ok (.invokevirtual 467, 3) := dk_182 1 211 (dk_at dksX5_uneven_2 0 rfl rfl)
theorem dX5_uneven_49 : decode cX5_uneven 49 = .ok (.goto 4, 3) := dk_167 0 4 (dk_at dksX5_uneven_2 3 rfl rfl)
theorem dX5_uneven_52 : decode cX5_uneven 52 = .ok (.iload_n 2, 1) := dk_28 (dk_at dksX5_uneven_2 6 rfl rfl)
theorem dX5_uneven_53 : decode cX5_uneven 53 = .ok (.istore_n 2, 1) := dk_61 (dk_at dksX5_uneven_2 7 rfl rfl)
theorem dX5_uneven_54 : decode cX5_uneven 54 = .ok (.iinc 3 1, 3) := dk_132 3 1 (dk_at dksX5_uneven_2 8 rfl rfl)
theorem dX5_uneven_57 : decode cX5_uneven 57 = .ok (.goto (-49), 3) := dk_167 255 207 (dk_at dksX5_uneven_2 11 rfl rfl)
theorem dX5_uneven_60 : decode cX5_uneven 60 = .ok (.iload_n 2, 1) := dk_28 (dk_at dksX5_uneven_2 14 rfl rfl)
theorem dX5_uneven_61 : decode cX5_uneven 61 = .ok (.iload_n 1, 1) := dk_27 (dk_at dksX5_uneven_2 15 rfl rfl)
theorem dX5_uneven_62 : decode cX5_uneven 62 = .ok (.isub, 1) := dk_100 (dk_at dksX5_uneven_2 16 rfl rfl)
theorem dX5_uneven_63 : decode cX5_uneven 63 = .ok (.ireturn, 1) := dk_172 (dk_at dksX5_uneven_2 17 rfl rfl)
abbrev cX5_monthOf : ByteArray := prog_17_method_88_code
def yX5_monthOf : MethodName := ⟨RX5, "monthOf", "(I)I"⟩
def dkwX5_monthOf_0 : List UInt8 := [16, 30, 42, 180, 0, 112, 27, 46, 104, 42, 180, 0, 76, 27, 46, 96, 172]
abbrev dktX5_monthOf_0 : List UInt8 := dkwX5_monthOf_0 ++ []
theorem dksX5_monthOf_0 : cX5_monthOf.data.toList.drop 0 = dktX5_monthOf_0 := by decide +kernel
theorem dX5_monthOf_0 : decode cX5_monthOf 0 = .ok (.bipush 30, 2) := dk_16 30 (dk_at dksX5_monthOf_0 0 rfl rfl)
theorem dX5_monthOf_2 : decode cX5_monthOf 2 = .ok (.aload_n 0, 1) := dk_42 (dk_at dksX5_monthOf_0 2 rfl rfl)
theorem dX5_monthOf_3 : decode cX5_monthOf 3 = .ok (.getfield 112, 3) := dk_180 0 112 (dk_at dksX5_monthOf_0 3 rfl rfl)
theorem dX5_monthOf_6 : decode cX5_monthOf 6 = .ok (.iload_n 1, 1) := dk_27 (dk_at dksX5_monthOf_0 6 rfl rfl)
theorem dX5_monthOf_7 : decode cX5_monthOf 7 = .ok (.iaload, 1) := dk_46 (dk_at dksX5_monthOf_0 7 rfl rfl)
theorem dX5_monthOf_8 : decode cX5_monthOf 8 = .ok (.imul, 1) := dk_104 (dk_at dksX5_monthOf_0 8 rfl rfl)
theorem dX5_monthOf_9 : decode cX5_monthOf 9 = .ok (.aload_n 0, 1) := dk_42 (dk_at dksX5_monthOf_0 9 rfl rfl)
theorem dX5_monthOf_10 : decode cX5_monthOf 10 = .ok (.getfield 76, 3) := dk_180 0 76 (dk_at dksX5_monthOf_0 10 rfl rfl)
theorem dX5_monthOf_13 : decode cX5_monthOf 13 = .ok (.iload_n 1, 1) := dk_27 (dk_at dksX5_monthOf_0 13 rfl rfl)
theorem dX5_monthOf_14 : decode cX5_monthOf 14 = .ok (.iaload, 1) := dk_46 (dk_at dksX5_monthOf_0 14 rfl rfl)
theorem dX5_monthOf_15 : decode cX5_monthOf 15 = .ok (.iadd, 1) := dk_96 (dk_at dksX5_monthOf_0 15 rfl rfl)
theorem dX5_monthOf_16 : decode cX5_monthOf 16 = .ok (.ireturn, 1) := dk_172 (dk_at dksX5_monthOf_0 16 rfl rfl)
abbrev cX5_nextHomes : ByteArray := prog_17_method_90_code
def yX5_nextHomes : MethodName := ⟨RX5, "nextHomes", "()Z"⟩
def dkwX5_nextHomes_4 : List UInt8 := [21, 4, 182, 1, 208, 132, 4, 255, 132, 3, 1, 167, 255, 237, 4, 172]
abbrev dktX5_nextHomes_4 : List UInt8 := dkwX5_nextHomes_4 ++ []
def dkwX5_nextHomes_3 : List UInt8 := [182, 1, 208, 27, 4, 96, 62, 42, 180, 1, 94, 4, 100, 54, 4, 29, 21, 4, 162, 0, 19, 42, 29]
abbrev dktX5_nextHomes_3 : List UInt8 := dkwX5_nextHomes_3 ++ dktX5_nextHomes_4
def dkwX5_nextHomes_2 : List UInt8 := [180, 0, 112, 28, 46, 42, 180, 0, 112, 27, 46, 163, 0, 9, 132, 2, 255, 167, 255, 238, 42, 27, 28]
abbrev dktX5_nextHomes_2 : List UInt8 := dkwX5_nextHomes_2 ++ dktX5_nextHomes_3
def dkwX5_nextHomes_1 : List UInt8 := [46, 161, 0, 9, 132, 1, 255, 167, 255, 232, 27, 156, 0, 5, 3, 172, 42, 180, 1, 94, 4, 100, 61, 42]
abbrev dktX5_nextHomes_1 : List UInt8 := dkwX5_nextHomes_1 ++ dktX5_nextHomes_2
def dkwX5_nextHomes_0 : List UInt8 := [42, 180, 1, 94, 5, 100, 60, 27, 155, 0, 26, 42, 180, 0, 112, 27, 46, 42, 180, 0, 112, 27, 4, 96]
abbrev dktX5_nextHomes_0 : List UInt8 := dkwX5_nextHomes_0 ++ dktX5_nextHomes_1
theorem dksX5_nextHomes_0 : cX5_nextHomes.data.toList.drop 0 = dktX5_nextHomes_0 := by decide +kernel
theorem dksX5_nextHomes_1 : cX5_nextHomes.data.toList.drop 24 = dktX5_nextHomes_1 := dk_seg dksX5_nextHomes_0 24 rfl rfl
theorem dksX5_nextHomes_2 : cX5_nextHomes.data.toList.drop 48 = dktX5_nextHomes_2 := dk_seg dksX5_nextHomes_1 24 rfl rfl
theorem dksX5_nextHomes_3 : cX5_nextHomes.data.toList.drop 71 = dktX5_nextHomes_3 := dk_seg dksX5_nextHomes_2 23 rfl rfl
theorem dksX5_nextHomes_4 : cX5_nextHomes.data.toList.drop 94 = dktX5_nextHomes_4 := dk_seg dksX5_nextHomes_3 23 rfl rfl
theorem dX5_nextHomes_0 : decode cX5_nextHomes 0 = .ok (.aload_n 0, 1) := dk_42 (dk_at dksX5_nextHomes_0 0 rfl rfl)
theorem dX5_nextHomes_1 : decode cX5_nextHomes 1 = .ok (.getfield 350, 3) := dk_180 1 94 (dk_at dksX5_nextHomes_0 1 rfl rfl)
theorem dX5_nextHomes_4 : decode cX5_nextHomes 4 = .ok (.iconst 2, 1) := dk_5 (dk_at dksX5_nextHomes_0 4 rfl rfl)
theorem dX5_nextHomes_5 : decode cX5_nextHomes 5 = .ok (.isub, 1) := dk_100 (dk_at dksX5_nextHomes_0 5 rfl rfl)
theorem dX5_nextHomes_6 : decode cX5_nextHomes 6 = .ok (.istore_n 1, 1) := dk_60 (dk_at dksX5_nextHomes_0 6 rfl rfl)
theorem dX5_nextHomes_7 : decode cX5_nextHomes 7 = .ok (.iload_n 1, 1) := dk_27 (dk_at dksX5_nextHomes_0 7 rfl rfl)
theorem dX5_nextHomes_8 : decode cX5_nextHomes 8 = .ok (.ifCond .lt 26, 3) := dk_155 0 26 (dk_at dksX5_nextHomes_0 8 rfl rfl)
theorem dX5_nextHomes_11 : decode cX5_nextHomes 11 = .ok (.aload_n 0, 1) := dk_42 (dk_at dksX5_nextHomes_0 11 rfl rfl)
theorem dX5_nextHomes_12 : decode cX5_nextHomes 12 = .ok (.getfield 112, 3) := dk_180 0 112 (dk_at dksX5_nextHomes_0 12 rfl rfl)
theorem dX5_nextHomes_15 : decode cX5_nextHomes 15 = .ok (.iload_n 1, 1) := dk_27 (dk_at dksX5_nextHomes_0 15 rfl rfl)
theorem dX5_nextHomes_16 : decode cX5_nextHomes 16 = .ok (.iaload, 1) := dk_46 (dk_at dksX5_nextHomes_0 16 rfl rfl)
theorem dX5_nextHomes_17 : decode cX5_nextHomes 17 = .ok (.aload_n 0, 1) := dk_42 (dk_at dksX5_nextHomes_0 17 rfl rfl)
theorem dX5_nextHomes_18 : decode cX5_nextHomes 18 = .ok (.getfield 112, 3) := dk_180 0 112 (dk_at dksX5_nextHomes_0 18 rfl rfl)
theorem dX5_nextHomes_21 : decode cX5_nextHomes 21 = .ok (.iload_n 1, 1) := dk_27 (dk_at dksX5_nextHomes_0 21 rfl rfl)
theorem dX5_nextHomes_22 : decode cX5_nextHomes 22 = .ok (.iconst 1, 1) := dk_4 (dk_at dksX5_nextHomes_0 22 rfl rfl)
theorem dX5_nextHomes_23 : decode cX5_nextHomes 23 = .ok (.iadd, 1) := dk_96 (dk_at dksX5_nextHomes_0 23 rfl rfl)
theorem dX5_nextHomes_24 : decode cX5_nextHomes 24 = .ok (.iaload, 1) := dk_46 (dk_at dksX5_nextHomes_1 0 rfl rfl)
theorem dX5_nextHomes_25 : decode cX5_nextHomes 25 = .ok (.if_icmp .lt 9, 3) := dk_161 0 9 (dk_at dksX5_nextHomes_1 1 rfl rfl)
theorem dX5_nextHomes_28 : decode cX5_nextHomes 28 = .ok (.iinc 1 (-1), 3) := dk_132 1 255 (dk_at dksX5_nextHomes_1 4 rfl rfl)
theorem dX5_nextHomes_31 : decode cX5_nextHomes 31 = .ok (.goto (-24), 3) := dk_167 255 232 (dk_at dksX5_nextHomes_1 7 rfl rfl)
theorem dX5_nextHomes_34 : decode cX5_nextHomes 34 = .ok (.iload_n 1, 1) := dk_27 (dk_at dksX5_nextHomes_1 10 rfl rfl)
theorem dX5_nextHomes_35 : decode cX5_nextHomes 35 = .ok (.ifCond .ge 5, 3) := dk_156 0 5 (dk_at dksX5_nextHomes_1 11 rfl rfl)
theorem dX5_nextHomes_38 : decode cX5_nextHomes 38 = .ok (.iconst 0, 1) := dk_3 (dk_at dksX5_nextHomes_1 14 rfl rfl)
theorem dX5_nextHomes_39 : decode cX5_nextHomes 39 = .ok (.ireturn, 1) := dk_172 (dk_at dksX5_nextHomes_1 15 rfl rfl)
theorem dX5_nextHomes_40 : decode cX5_nextHomes 40 = .ok (.aload_n 0, 1) := dk_42 (dk_at dksX5_nextHomes_1 16 rfl rfl)
theorem dX5_nextHomes_41 : decode cX5_nextHomes 41 = .ok (.getfield 350, 3) := dk_180 1 94 (dk_at dksX5_nextHomes_1 17 rfl rfl)
theorem dX5_nextHomes_44 : decode cX5_nextHomes 44 = .ok (.iconst 1, 1) := dk_4 (dk_at dksX5_nextHomes_1 20 rfl rfl)
theorem dX5_nextHomes_45 : decode cX5_nextHomes 45 = .ok (.isub, 1) := dk_100 (dk_at dksX5_nextHomes_1 21 rfl rfl)
theorem dX5_nextHomes_46 : decode cX5_nextHomes 46 = .ok (.istore_n 2, 1) := dk_61 (dk_at dksX5_nextHomes_1 22 rfl rfl)
theorem dX5_nextHomes_47 : decode cX5_nextHomes 47 = .ok (.aload_n 0, 1) := dk_42 (dk_at dksX5_nextHomes_1 23 rfl rfl)
theorem dX5_nextHomes_48 : decode cX5_nextHomes 48 = .ok (.getfield 112, 3) := dk_180 0 112 (dk_at dksX5_nextHomes_2 0 rfl rfl)
theorem dX5_nextHomes_51 : decode cX5_nextHomes 51 = .ok (.iload_n 2, 1) := dk_28 (dk_at dksX5_nextHomes_2 3 rfl rfl)
theorem dX5_nextHomes_52 : decode cX5_nextHomes 52 = .ok (.iaload, 1) := dk_46 (dk_at dksX5_nextHomes_2 4 rfl rfl)
theorem dX5_nextHomes_53 : decode cX5_nextHomes 53 = .ok (.aload_n 0, 1) := dk_42 (dk_at dksX5_nextHomes_2 5 rfl rfl)
theorem dX5_nextHomes_54 : decode cX5_nextHomes 54 = .ok (.getfield 112, 3) := dk_180 0 112 (dk_at dksX5_nextHomes_2 6 rfl rfl)
theorem dX5_nextHomes_57 : decode cX5_nextHomes 57 = .ok (.iload_n 1, 1) := dk_27 (dk_at dksX5_nextHomes_2 9 rfl rfl)
theorem dX5_nextHomes_58 : decode cX5_nextHomes 58 = .ok (.iaload, 1) := dk_46 (dk_at dksX5_nextHomes_2 10 rfl rfl)
theorem dX5_nextHomes_59 : decode cX5_nextHomes 59 = .ok (.if_icmp .gt 9, 3) := dk_163 0 9 (dk_at dksX5_nextHomes_2 11 rfl rfl)
theorem dX5_nextHomes_62 : decode cX5_nextHomes 62 = .ok (.iinc 2 (-1), 3) := dk_132 2 255 (dk_at dksX5_nextHomes_2 14 rfl rfl)
theorem dX5_nextHomes_65 : decode cX5_nextHomes 65 = .ok (.goto (-18), 3) := dk_167 255 238 (dk_at dksX5_nextHomes_2 17 rfl rfl)
theorem dX5_nextHomes_68 : decode cX5_nextHomes 68 = .ok (.aload_n 0, 1) := dk_42 (dk_at dksX5_nextHomes_2 20 rfl rfl)
theorem dX5_nextHomes_69 : decode cX5_nextHomes 69 = .ok (.iload_n 1, 1) := dk_27 (dk_at dksX5_nextHomes_2 21 rfl rfl)
theorem dX5_nextHomes_70 : decode cX5_nextHomes 70 = .ok (.iload_n 2, 1) := dk_28 (dk_at dksX5_nextHomes_2 22 rfl rfl)
theorem dX5_nextHomes_71 : decode cX5_nextHomes 71 = .ok (.invokevirtual 464, 3) := dk_182 1 208 (dk_at dksX5_nextHomes_3 0 rfl rfl)
theorem dX5_nextHomes_74 : decode cX5_nextHomes 74 = .ok (.iload_n 1, 1) := dk_27 (dk_at dksX5_nextHomes_3 3 rfl rfl)
theorem dX5_nextHomes_75 : decode cX5_nextHomes 75 = .ok (.iconst 1, 1) := dk_4 (dk_at dksX5_nextHomes_3 4 rfl rfl)
theorem dX5_nextHomes_76 : decode cX5_nextHomes 76 = .ok (.iadd, 1) := dk_96 (dk_at dksX5_nextHomes_3 5 rfl rfl)
theorem dX5_nextHomes_77 : decode cX5_nextHomes 77 = .ok (.istore_n 3, 1) := dk_62 (dk_at dksX5_nextHomes_3 6 rfl rfl)
theorem dX5_nextHomes_78 : decode cX5_nextHomes 78 = .ok (.aload_n 0, 1) := dk_42 (dk_at dksX5_nextHomes_3 7 rfl rfl)
theorem dX5_nextHomes_79 : decode cX5_nextHomes 79 = .ok (.getfield 350, 3) := dk_180 1 94 (dk_at dksX5_nextHomes_3 8 rfl rfl)
theorem dX5_nextHomes_82 : decode cX5_nextHomes 82 = .ok (.iconst 1, 1) := dk_4 (dk_at dksX5_nextHomes_3 11 rfl rfl)
theorem dX5_nextHomes_83 : decode cX5_nextHomes 83 = .ok (.isub, 1) := dk_100 (dk_at dksX5_nextHomes_3 12 rfl rfl)
theorem dX5_nextHomes_84 : decode cX5_nextHomes 84 = .ok (.istore 4, 2) := dk_54 4 (dk_at dksX5_nextHomes_3 13 rfl rfl)
theorem dX5_nextHomes_86 : decode cX5_nextHomes 86 = .ok (.iload_n 3, 1) := dk_29 (dk_at dksX5_nextHomes_3 15 rfl rfl)
theorem dX5_nextHomes_87 : decode cX5_nextHomes 87 = .ok (.iload 4, 2) := dk_21 4 (dk_at dksX5_nextHomes_3 16 rfl rfl)
theorem dX5_nextHomes_89 : decode cX5_nextHomes 89 = .ok (.if_icmp .ge 19, 3) := dk_162 0 19 (dk_at dksX5_nextHomes_3 18 rfl rfl)
theorem dX5_nextHomes_92 : decode cX5_nextHomes 92 = .ok (.aload_n 0, 1) := dk_42 (dk_at dksX5_nextHomes_3 21 rfl rfl)
theorem dX5_nextHomes_93 : decode cX5_nextHomes 93 = .ok (.iload_n 3, 1) := dk_29 (dk_at dksX5_nextHomes_3 22 rfl rfl)
theorem dX5_nextHomes_94 : decode cX5_nextHomes 94 = .ok (.iload 4, 2) := dk_21 4 (dk_at dksX5_nextHomes_4 0 rfl rfl)
theorem dX5_nextHomes_96 : decode cX5_nextHomes 96 = .ok (.invokevirtual 464, 3) := dk_182 1 208 (dk_at dksX5_nextHomes_4 2 rfl rfl)
theorem dX5_nextHomes_99 : decode cX5_nextHomes 99 = .ok (.iinc 4 (-1), 3) := dk_132 4 255 (dk_at dksX5_nextHomes_4 5 rfl rfl)
theorem dX5_nextHomes_102 : decode cX5_nextHomes 102 = .ok (.iinc 3 1, 3) := dk_132 3 1 (dk_at dksX5_nextHomes_4 8 rfl rfl)
theorem dX5_nextHomes_105 : decode cX5_nextHomes 105 = .ok (.goto (-19), 3) := dk_167 255 237 (dk_at dksX5_nextHomes_4 11 rfl rfl)
theorem dX5_nextHomes_108 : decode cX5_nextHomes 108 = .ok (.iconst 1, 1) := dk_4 (dk_at dksX5_nextHomes_4 14 rfl rfl)
theorem dX5_nextHomes_109 : decode cX5_nextHomes 109 = .ok (.ireturn, 1) := dk_172 (dk_at dksX5_nextHomes_4 15 rfl rfl)
abbrev cX5_month : ByteArray := prog_17_method_92_code
def yX5_month : MethodName := ⟨RX5, "month", "(I)I"⟩
def dkwX5_month_0 : List UInt8 := [42, 27, 182, 1, 126, 154, 0, 5, 2, 172, 42, 182, 1, 202, 42, 27, 182, 1, 211, 172]
abbrev dktX5_month_0 : List UInt8 := dkwX5_month_0 ++ []
theorem dksX5_month_0 : cX5_month.data.toList.drop 0 = dktX5_month_0 := by decide +kernel
theorem dX5_month_0 : decode cX5_month 0 = .ok (.aload_n 0, 1) := dk_42 (dk_at dksX5_month_0 0 rfl rfl)
theorem dX5_month_1 : decode cX5_month 1 = .ok (.iload_n 1, 1) := dk_27 (dk_at dksX5_month_0 1 rfl rfl)
theorem dX5_month_2 : decode cX5_month 2 = .ok (.invokevirtual 382, 3) := dk_182 1 126 (dk_at dksX5_month_0 2 rfl rfl)
theorem dX5_month_5 : decode cX5_month 5 = .ok (.ifCond .ne 5, 3) := dk_154 0 5 (dk_at dksX5_month_0 5 rfl rfl)
theorem dX5_month_8 : decode cX5_month 8 = .ok (.iconst (-1), 1) := dk_2 (dk_at dksX5_month_0 8 rfl rfl)
theorem dX5_month_9 : decode cX5_month 9 = .ok (.ireturn, 1) := dk_172 (dk_at dksX5_month_0 9 rfl rfl)
theorem dX5_month_10 : decode cX5_month 10 = .ok (.aload_n 0, 1) := dk_42 (dk_at dksX5_month_0 10 rfl rfl)
theorem dX5_month_11 : decode cX5_month 11 = .ok (.invokevirtual 458, 3) := dk_182 1 202 (dk_at dksX5_month_0 11 rfl rfl)
theorem dX5_month_14 : decode cX5_month 14 = .ok (.aload_n 0, 1) := dk_42 (dk_at dksX5_month_0 14 rfl rfl)
theorem dX5_month_15 : decode cX5_month 15 = .ok (.iload_n 1, 1) := dk_27 (dk_at dksX5_month_0 15 rfl rfl)
theorem dX5_month_16 : decode cX5_month 16 = .ok (.invokevirtual 467, 3) := dk_182 1 211 (dk_at dksX5_month_0 16 rfl rfl)
theorem dX5_month_19 : decode cX5_month 19 = .ok (.ireturn, 1) := dk_172 (dk_at dksX5_month_0 19 rfl rfl)
abbrev cX5_spread : ByteArray := prog_17_method_93_code
def yX5_spread : MethodName := ⟨RX5, "spread", "()I"⟩
def dkwX5_spread_0 : List UInt8 := [42, 180, 1, 94, 154, 0, 5, 2, 172, 42, 182, 1, 202, 42, 182, 1, 214, 172]
abbrev dktX5_spread_0 : List UInt8 := dkwX5_spread_0 ++ []
theorem dksX5_spread_0 : cX5_spread.data.toList.drop 0 = dktX5_spread_0 := by decide +kernel
theorem dX5_spread_0 : decode cX5_spread 0 = .ok (.aload_n 0, 1) := dk_42 (dk_at dksX5_spread_0 0 rfl rfl)
theorem dX5_spread_1 : decode cX5_spread 1 = .ok (.getfield 350, 3) := dk_180 1 94 (dk_at dksX5_spread_0 1 rfl rfl)
theorem dX5_spread_4 : decode cX5_spread 4 = .ok (.ifCond .ne 5, 3) := dk_154 0 5 (dk_at dksX5_spread_0 4 rfl rfl)
theorem dX5_spread_7 : decode cX5_spread 7 = .ok (.iconst (-1), 1) := dk_2 (dk_at dksX5_spread_0 7 rfl rfl)
theorem dX5_spread_8 : decode cX5_spread 8 = .ok (.ireturn, 1) := dk_172 (dk_at dksX5_spread_0 8 rfl rfl)
theorem dX5_spread_9 : decode cX5_spread 9 = .ok (.aload_n 0, 1) := dk_42 (dk_at dksX5_spread_0 9 rfl rfl)
theorem dX5_spread_10 : decode cX5_spread 10 = .ok (.invokevirtual 458, 3) := dk_182 1 202 (dk_at dksX5_spread_0 10 rfl rfl)
theorem dX5_spread_13 : decode cX5_spread 13 = .ok (.aload_n 0, 1) := dk_42 (dk_at dksX5_spread_0 13 rfl rfl)
theorem dX5_spread_14 : decode cX5_spread 14 = .ok (.invokevirtual 470, 3) := dk_182 1 214 (dk_at dksX5_spread_0 14 rfl rfl)
theorem dX5_spread_17 : decode cX5_spread 17 = .ok (.ireturn, 1) := dk_172 (dk_at dksX5_spread_0 17 rfl rfl)
abbrev cX5_live : ByteArray := prog_17_method_94_code
def yX5_live : MethodName := ⟨RX5, "live", "(I)I"⟩
def dkwX5_live_2 : List UInt8 := [128, 61, 132, 3, 1, 167, 255, 222, 28, 172]
abbrev dktX5_live_2 : List UInt8 := dkwX5_live_2 ++ []
def dkwX5_live_1 : List UInt8 := [162, 0, 32, 28, 42, 180, 0, 67, 29, 46, 27, 160, 0, 7, 4, 167, 0, 4, 3, 184, 1, 48, 29, 120]
abbrev dktX5_live_1 : List UInt8 := dkwX5_live_1 ++ dktX5_live_2
def dkwX5_live_0 : List UInt8 := [27, 3, 42, 180, 0, 82, 184, 1, 112, 154, 0, 5, 2, 172, 3, 61, 3, 62, 29, 42, 180, 1, 94]
abbrev dktX5_live_0 : List UInt8 := dkwX5_live_0 ++ dktX5_live_1
theorem dksX5_live_0 : cX5_live.data.toList.drop 0 = dktX5_live_0 := by decide +kernel
theorem dksX5_live_1 : cX5_live.data.toList.drop 23 = dktX5_live_1 := dk_seg dksX5_live_0 23 rfl rfl
theorem dksX5_live_2 : cX5_live.data.toList.drop 47 = dktX5_live_2 := dk_seg dksX5_live_1 24 rfl rfl
theorem dX5_live_0 : decode cX5_live 0 = .ok (.iload_n 1, 1) := dk_27 (dk_at dksX5_live_0 0 rfl rfl)
theorem dX5_live_1 : decode cX5_live 1 = .ok (.iconst 0, 1) := dk_3 (dk_at dksX5_live_0 1 rfl rfl)
theorem dX5_live_2 : decode cX5_live 2 = .ok (.aload_n 0, 1) := dk_42 (dk_at dksX5_live_0 2 rfl rfl)
theorem dX5_live_3 : decode cX5_live 3 = .ok (.getfield 82, 3) := dk_180 0 82 (dk_at dksX5_live_0 3 rfl rfl)
theorem dX5_live_6 : decode cX5_live 6 = .ok (.invokestatic 368, 3) := dk_184 1 112 (dk_at dksX5_live_0 6 rfl rfl)
theorem dX5_live_9 : decode cX5_live 9 = .ok (.ifCond .ne 5, 3) := dk_154 0 5 (dk_at dksX5_live_0 9 rfl rfl)
theorem dX5_live_12 : decode cX5_live 12 = .ok (.iconst (-1), 1) := dk_2 (dk_at dksX5_live_0 12 rfl rfl)
theorem dX5_live_13 : decode cX5_live 13 = .ok (.ireturn, 1) := dk_172 (dk_at dksX5_live_0 13 rfl rfl)
theorem dX5_live_14 : decode cX5_live 14 = .ok (.iconst 0, 1) := dk_3 (dk_at dksX5_live_0 14 rfl rfl)
theorem dX5_live_15 : decode cX5_live 15 = .ok (.istore_n 2, 1) := dk_61 (dk_at dksX5_live_0 15 rfl rfl)
theorem dX5_live_16 : decode cX5_live 16 = .ok (.iconst 0, 1) := dk_3 (dk_at dksX5_live_0 16 rfl rfl)
theorem dX5_live_17 : decode cX5_live 17 = .ok (.istore_n 3, 1) := dk_62 (dk_at dksX5_live_0 17 rfl rfl)
theorem dX5_live_18 : decode cX5_live 18 = .ok (.iload_n 3, 1) := dk_29 (dk_at dksX5_live_0 18 rfl rfl)
theorem dX5_live_19 : decode cX5_live 19 = .ok (.aload_n 0, 1) := dk_42 (dk_at dksX5_live_0 19 rfl rfl)
theorem dX5_live_20 : decode cX5_live 20 = .ok (.getfield 350, 3) := dk_180 1 94 (dk_at dksX5_live_0 20 rfl rfl)
theorem dX5_live_23 : decode cX5_live 23 = .ok (.if_icmp .ge 32, 3) := dk_162 0 32 (dk_at dksX5_live_1 0 rfl rfl)
theorem dX5_live_26 : decode cX5_live 26 = .ok (.iload_n 2, 1) := dk_28 (dk_at dksX5_live_1 3 rfl rfl)
theorem dX5_live_27 : decode cX5_live 27 = .ok (.aload_n 0, 1) := dk_42 (dk_at dksX5_live_1 4 rfl rfl)
theorem dX5_live_28 : decode cX5_live 28 = .ok (.getfield 67, 3) := dk_180 0 67 (dk_at dksX5_live_1 5 rfl rfl)
theorem dX5_live_31 : decode cX5_live 31 = .ok (.iload_n 3, 1) := dk_29 (dk_at dksX5_live_1 8 rfl rfl)
theorem dX5_live_32 : decode cX5_live 32 = .ok (.iaload, 1) := dk_46 (dk_at dksX5_live_1 9 rfl rfl)
theorem dX5_live_33 : decode cX5_live 33 = .ok (.iload_n 1, 1) := dk_27 (dk_at dksX5_live_1 10 rfl rfl)
theorem dX5_live_34 : decode cX5_live 34 = .ok (.if_icmp .ne 7, 3) := dk_160 0 7 (dk_at dksX5_live_1 11 rfl rfl)
theorem dX5_live_37 : decode cX5_live 37 = .ok (.iconst 1, 1) := dk_4 (dk_at dksX5_live_1 14 rfl rfl)
theorem dX5_live_38 : decode cX5_live 38 = .ok (.goto 4, 3) := dk_167 0 4 (dk_at dksX5_live_1 15 rfl rfl)
theorem dX5_live_41 : decode cX5_live 41 = .ok (.iconst 0, 1) := dk_3 (dk_at dksX5_live_1 18 rfl rfl)
theorem dX5_live_42 : decode cX5_live 42 = .ok (.invokestatic 304, 3) := dk_184 1 48 (dk_at dksX5_live_1 19 rfl rfl)
theorem dX5_live_45 : decode cX5_live 45 = .ok (.iload_n 3, 1) := dk_29 (dk_at dksX5_live_1 22 rfl rfl)
theorem dX5_live_46 : decode cX5_live 46 = .ok (.ishl, 1) := dk_120 (dk_at dksX5_live_1 23 rfl rfl)
theorem dX5_live_47 : decode cX5_live 47 = .ok (.ior, 1) := dk_128 (dk_at dksX5_live_2 0 rfl rfl)
theorem dX5_live_48 : decode cX5_live 48 = .ok (.istore_n 2, 1) := dk_61 (dk_at dksX5_live_2 1 rfl rfl)
theorem dX5_live_49 : decode cX5_live 49 = .ok (.iinc 3 1, 3) := dk_132 3 1 (dk_at dksX5_live_2 2 rfl rfl)
theorem dX5_live_52 : decode cX5_live 52 = .ok (.goto (-34), 3) := dk_167 255 222 (dk_at dksX5_live_2 5 rfl rfl)
theorem dX5_live_55 : decode cX5_live 55 = .ok (.iload_n 2, 1) := dk_28 (dk_at dksX5_live_2 8 rfl rfl)
theorem dX5_live_56 : decode cX5_live 56 = .ok (.ireturn, 1) := dk_172 (dk_at dksX5_live_2 9 rfl rfl)
abbrev cX5_rest : ByteArray := prog_17_method_96_code
def yX5_rest : MethodName := ⟨RX5, "rest", "()I"⟩
def dkwX5_rest_1 : List UInt8 := [42, 180, 0, 88, 16, 25, 46, 28, 160, 0, 5, 27, 172, 132, 1, 1, 167, 255, 222, 2, 172]
abbrev dktX5_rest_1 : List UInt8 := dkwX5_rest_1 ++ []
def dkwX5_rest_0 : List UInt8 := [42, 182, 1, 138, 3, 60, 27, 16, 60, 163, 0, 34, 42, 180, 0, 88, 16, 25, 46, 61, 42, 182, 1, 161]
abbrev dktX5_rest_0 : List UInt8 := dkwX5_rest_0 ++ dktX5_rest_1
theorem dksX5_rest_0 : cX5_rest.data.toList.drop 0 = dktX5_rest_0 := by decide +kernel
theorem dksX5_rest_1 : cX5_rest.data.toList.drop 24 = dktX5_rest_1 := dk_seg dksX5_rest_0 24 rfl rfl
theorem dX5_rest_0 : decode cX5_rest 0 = .ok (.aload_n 0, 1) := dk_42 (dk_at dksX5_rest_0 0 rfl rfl)
theorem dX5_rest_1 : decode cX5_rest 1 = .ok (.invokevirtual 394, 3) := dk_182 1 138 (dk_at dksX5_rest_0 1 rfl rfl)
theorem dX5_rest_4 : decode cX5_rest 4 = .ok (.iconst 0, 1) := dk_3 (dk_at dksX5_rest_0 4 rfl rfl)
theorem dX5_rest_5 : decode cX5_rest 5 = .ok (.istore_n 1, 1) := dk_60 (dk_at dksX5_rest_0 5 rfl rfl)
theorem dX5_rest_6 : decode cX5_rest 6 = .ok (.iload_n 1, 1) := dk_27 (dk_at dksX5_rest_0 6 rfl rfl)
theorem dX5_rest_7 : decode cX5_rest 7 = .ok (.bipush 60, 2) := dk_16 60 (dk_at dksX5_rest_0 7 rfl rfl)
theorem dX5_rest_9 : decode cX5_rest 9 = .ok (.if_icmp .gt 34, 3) := dk_163 0 34 (dk_at dksX5_rest_0 9 rfl rfl)
theorem dX5_rest_12 : decode cX5_rest 12 = .ok (.aload_n 0, 1) := dk_42 (dk_at dksX5_rest_0 12 rfl rfl)
theorem dX5_rest_13 : decode cX5_rest 13 = .ok (.getfield 88, 3) := dk_180 0 88 (dk_at dksX5_rest_0 13 rfl rfl)
theorem dX5_rest_16 : decode cX5_rest 16 = .ok (.bipush 25, 2) := dk_16 25 (dk_at dksX5_rest_0 16 rfl rfl)
theorem dX5_rest_18 : decode cX5_rest 18 = .ok (.iaload, 1) := dk_46 (dk_at dksX5_rest_0 18 rfl rfl)
theorem dX5_rest_19 : decode cX5_rest 19 = .ok (.istore_n 2, 1) := dk_61 (dk_at dksX5_rest_0 19 rfl rfl)
theorem dX5_rest_20 : decode cX5_rest 20 = .ok (.aload_n 0, 1) := dk_42 (dk_at dksX5_rest_0 20 rfl rfl)
theorem dX5_rest_21 : decode cX5_rest 21 = .ok (.invokevirtual 417, 3) := dk_182 1 161 (dk_at dksX5_rest_0 21 rfl rfl)
theorem dX5_rest_24 : decode cX5_rest 24 = .ok (.aload_n 0, 1) := dk_42 (dk_at dksX5_rest_1 0 rfl rfl)
theorem dX5_rest_25 : decode cX5_rest 25 = .ok (.getfield 88, 3) := dk_180 0 88 (dk_at dksX5_rest_1 1 rfl rfl)
theorem dX5_rest_28 : decode cX5_rest 28 = .ok (.bipush 25, 2) := dk_16 25 (dk_at dksX5_rest_1 4 rfl rfl)
theorem dX5_rest_30 : decode cX5_rest 30 = .ok (.iaload, 1) := dk_46 (dk_at dksX5_rest_1 6 rfl rfl)
theorem dX5_rest_31 : decode cX5_rest 31 = .ok (.iload_n 2, 1) := dk_28 (dk_at dksX5_rest_1 7 rfl rfl)
theorem dX5_rest_32 : decode cX5_rest 32 = .ok (.if_icmp .ne 5, 3) := dk_160 0 5 (dk_at dksX5_rest_1 8 rfl rfl)
theorem dX5_rest_35 : decode cX5_rest 35 = .ok (.iload_n 1, 1) := dk_27 (dk_at dksX5_rest_1 11 rfl rfl)
theorem dX5_rest_36 : decode cX5_rest 36 = .ok (.ireturn, 1) := dk_172 (dk_at dksX5_rest_1 12 rfl rfl)
theorem dX5_rest_37 : decode cX5_rest 37 = .ok (.iinc 1 1, 3) := dk_132 1 1 (dk_at dksX5_rest_1 13 rfl rfl)
theorem dX5_rest_40 : decode cX5_rest 40 = .ok (.goto (-34), 3) := dk_167 255 222 (dk_at dksX5_rest_1 16 rfl rfl)
theorem dX5_rest_43 : decode cX5_rest 43 = .ok (.iconst (-1), 1) := dk_2 (dk_at dksX5_rest_1 19 rfl rfl)
theorem dX5_rest_44 : decode cX5_rest 44 = .ok (.ireturn, 1) := dk_172 (dk_at dksX5_rest_1 20 rfl rfl)
abbrev cX5_will : ByteArray := prog_17_method_97_code
def yX5_will : MethodName := ⟨RX5, "will", "(I)I"⟩
def dkwX5_will_1 : List UInt8 := [172]
abbrev dktX5_will_1 : List UInt8 := dkwX5_will_1 ++ []
def dkwX5_will_0 : List UInt8 := [27, 3, 16, 60, 184, 1, 112, 154, 0, 5, 2, 172, 42, 27, 182, 1, 220, 42, 180, 0, 88, 16, 25, 46]
abbrev dktX5_will_0 : List UInt8 := dkwX5_will_0 ++ dktX5_will_1
theorem dksX5_will_0 : cX5_will.data.toList.drop 0 = dktX5_will_0 := by decide +kernel
theorem dksX5_will_1 : cX5_will.data.toList.drop 24 = dktX5_will_1 := dk_seg dksX5_will_0 24 rfl rfl
theorem dX5_will_0 : decode cX5_will 0 = .ok (.iload_n 1, 1) := dk_27 (dk_at dksX5_will_0 0 rfl rfl)
theorem dX5_will_1 : decode cX5_will 1 = .ok (.iconst 0, 1) := dk_3 (dk_at dksX5_will_0 1 rfl rfl)
theorem dX5_will_2 : decode cX5_will 2 = .ok (.bipush 60, 2) := dk_16 60 (dk_at dksX5_will_0 2 rfl rfl)
theorem dX5_will_4 : decode cX5_will 4 = .ok (.invokestatic 368, 3) := dk_184 1 112 (dk_at dksX5_will_0 4 rfl rfl)
theorem dX5_will_7 : decode cX5_will 7 = .ok (.ifCond .ne 5, 3) := dk_154 0 5 (dk_at dksX5_will_0 7 rfl rfl)
theorem dX5_will_10 : decode cX5_will 10 = .ok (.iconst (-1), 1) := dk_2 (dk_at dksX5_will_0 10 rfl rfl)
theorem dX5_will_11 : decode cX5_will 11 = .ok (.ireturn, 1) := dk_172 (dk_at dksX5_will_0 11 rfl rfl)
theorem dX5_will_12 : decode cX5_will 12 = .ok (.aload_n 0, 1) := dk_42 (dk_at dksX5_will_0 12 rfl rfl)
theorem dX5_will_13 : decode cX5_will 13 = .ok (.iload_n 1, 1) := dk_27 (dk_at dksX5_will_0 13 rfl rfl)
theorem dX5_will_14 : decode cX5_will 14 = .ok (.invokevirtual 476, 3) := dk_182 1 220 (dk_at dksX5_will_0 14 rfl rfl)
theorem dX5_will_17 : decode cX5_will 17 = .ok (.aload_n 0, 1) := dk_42 (dk_at dksX5_will_0 17 rfl rfl)
theorem dX5_will_18 : decode cX5_will 18 = .ok (.getfield 88, 3) := dk_180 0 88 (dk_at dksX5_will_0 18 rfl rfl)
theorem dX5_will_21 : decode cX5_will 21 = .ok (.bipush 25, 2) := dk_16 25 (dk_at dksX5_will_0 21 rfl rfl)
theorem dX5_will_23 : decode cX5_will 23 = .ok (.iaload, 1) := dk_46 (dk_at dksX5_will_0 23 rfl rfl)
theorem dX5_will_24 : decode cX5_will 24 = .ok (.ireturn, 1) := dk_172 (dk_at dksX5_will_1 0 rfl rfl)
abbrev cX5_goFar : ByteArray := prog_17_method_95_code
def yX5_goFar : MethodName := ⟨RX5, "goFar", "(I)V"⟩
def dkwX5_goFar_0 : List UInt8 := [42, 182, 1, 138, 3, 61, 28, 27, 162, 0, 13, 42, 182, 1, 161, 132, 2, 1, 167, 255, 244, 177]
abbrev dktX5_goFar_0 : List UInt8 := dkwX5_goFar_0 ++ []
theorem dksX5_goFar_0 : cX5_goFar.data.toList.drop 0 = dktX5_goFar_0 := by decide +kernel
theorem dX5_goFar_0 : decode cX5_goFar 0 = .ok (.aload_n 0, 1) := dk_42 (dk_at dksX5_goFar_0 0 rfl rfl)
theorem dX5_goFar_1 : decode cX5_goFar 1 = .ok (.invokevirtual 394, 3) := dk_182 1 138 (dk_at dksX5_goFar_0 1 rfl rfl)
theorem dX5_goFar_4 : decode cX5_goFar 4 = .ok (.iconst 0, 1) := dk_3 (dk_at dksX5_goFar_0 4 rfl rfl)
theorem dX5_goFar_5 : decode cX5_goFar 5 = .ok (.istore_n 2, 1) := dk_61 (dk_at dksX5_goFar_0 5 rfl rfl)
theorem dX5_goFar_6 : decode cX5_goFar 6 = .ok (.iload_n 2, 1) := dk_28 (dk_at dksX5_goFar_0 6 rfl rfl)
theorem dX5_goFar_7 : decode cX5_goFar 7 = .ok (.iload_n 1, 1) := dk_27 (dk_at dksX5_goFar_0 7 rfl rfl)
theorem dX5_goFar_8 : decode cX5_goFar 8 = .ok (.if_icmp .ge 13, 3) := dk_162 0 13 (dk_at dksX5_goFar_0 8 rfl rfl)
theorem dX5_goFar_11 : decode cX5_goFar 11 = .ok (.aload_n 0, 1) := dk_42 (dk_at dksX5_goFar_0 11 rfl rfl)
theorem dX5_goFar_12 : decode cX5_goFar 12 = .ok (.invokevirtual 417, 3) := dk_182 1 161 (dk_at dksX5_goFar_0 12 rfl rfl)
theorem dX5_goFar_15 : decode cX5_goFar 15 = .ok (.iinc 2 1, 3) := dk_132 2 1 (dk_at dksX5_goFar_0 15 rfl rfl)
theorem dX5_goFar_18 : decode cX5_goFar 18 = .ok (.goto (-12), 3) := dk_167 255 244 (dk_at dksX5_goFar_0 18 rfl rfl)
theorem dX5_goFar_21 : decode cX5_goFar 21 = .ok (.return_, 1) := dk_177 (dk_at dksX5_goFar_0 21 rfl rfl)
abbrev cX5_pull : ByteArray := prog_17_method_98_code
def yX5_pull : MethodName := ⟨RX5, "pull", "()I"⟩
def dkwX5_pull_0 : List UInt8 := [42, 182, 1, 138, 42, 182, 1, 135, 172]
abbrev dktX5_pull_0 : List UInt8 := dkwX5_pull_0 ++ []
theorem dksX5_pull_0 : cX5_pull.data.toList.drop 0 = dktX5_pull_0 := by decide +kernel
theorem dX5_pull_0 : decode cX5_pull 0 = .ok (.aload_n 0, 1) := dk_42 (dk_at dksX5_pull_0 0 rfl rfl)
theorem dX5_pull_1 : decode cX5_pull 1 = .ok (.invokevirtual 394, 3) := dk_182 1 138 (dk_at dksX5_pull_0 1 rfl rfl)
theorem dX5_pull_4 : decode cX5_pull 4 = .ok (.aload_n 0, 1) := dk_42 (dk_at dksX5_pull_0 4 rfl rfl)
theorem dX5_pull_5 : decode cX5_pull 5 = .ok (.invokevirtual 391, 3) := dk_182 1 135 (dk_at dksX5_pull_0 5 rfl rfl)
theorem dX5_pull_8 : decode cX5_pull 8 = .ok (.ireturn, 1) := dk_172 (dk_at dksX5_pull_0 8 rfl rfl)
abbrev cX5_lever : ByteArray := prog_17_method_99_code
def yX5_lever : MethodName := ⟨RX5, "lever", "()I"⟩
def dkwX5_lever_2 : List UInt8 := [132, 1, 1, 167, 255, 209, 2, 172]
abbrev dktX5_lever_2 : List UInt8 := dkwX5_lever_2 ++ []
def dkwX5_lever_1 : List UInt8 := [182, 1, 161, 42, 180, 0, 88, 16, 25, 46, 42, 180, 0, 85, 16, 25, 46, 164, 0, 5, 27, 172]
abbrev dktX5_lever_1 : List UInt8 := dkwX5_lever_1 ++ dktX5_lever_2
def dkwX5_lever_0 : List UInt8 := [3, 60, 27, 16, 99, 163, 0, 47, 42, 182, 1, 138, 42, 180, 0, 88, 16, 24, 92, 46, 27, 96, 79, 42]
abbrev dktX5_lever_0 : List UInt8 := dkwX5_lever_0 ++ dktX5_lever_1
theorem dksX5_lever_0 : cX5_lever.data.toList.drop 0 = dktX5_lever_0 := by decide +kernel
theorem dksX5_lever_1 : cX5_lever.data.toList.drop 24 = dktX5_lever_1 := dk_seg dksX5_lever_0 24 rfl rfl
theorem dksX5_lever_2 : cX5_lever.data.toList.drop 46 = dktX5_lever_2 := dk_seg dksX5_lever_1 22 rfl rfl
theorem dX5_lever_0 : decode cX5_lever 0 = .ok (.iconst 0, 1) := dk_3 (dk_at dksX5_lever_0 0 rfl rfl)
theorem dX5_lever_1 : decode cX5_lever 1 = .ok (.istore_n 1, 1) := dk_60 (dk_at dksX5_lever_0 1 rfl rfl)
theorem dX5_lever_2 : decode cX5_lever 2 = .ok (.iload_n 1, 1) := dk_27 (dk_at dksX5_lever_0 2 rfl rfl)
theorem dX5_lever_3 : decode cX5_lever 3 = .ok (.bipush 99, 2) := dk_16 99 (dk_at dksX5_lever_0 3 rfl rfl)
theorem dX5_lever_5 : decode cX5_lever 5 = .ok (.if_icmp .gt 47, 3) := dk_163 0 47 (dk_at dksX5_lever_0 5 rfl rfl)
theorem dX5_lever_8 : decode cX5_lever 8 = .ok (.aload_n 0, 1) := dk_42 (dk_at dksX5_lever_0 8 rfl rfl)
theorem dX5_lever_9 : decode cX5_lever 9 = .ok (.invokevirtual 394, 3) := dk_182 1 138 (dk_at dksX5_lever_0 9 rfl rfl)
theorem dX5_lever_12 : decode cX5_lever 12 = .ok (.aload_n 0, 1) := dk_42 (dk_at dksX5_lever_0 12 rfl rfl)
theorem dX5_lever_13 : decode cX5_lever 13 = .ok (.getfield 88, 3) := dk_180 0 88 (dk_at dksX5_lever_0 13 rfl rfl)
theorem dX5_lever_16 : decode cX5_lever 16 = .ok (.bipush 24, 2) := dk_16 24 (dk_at dksX5_lever_0 16 rfl rfl)
theorem dX5_lever_18 : decode cX5_lever 18 = .ok (.dup2, 1) := dk_92 (dk_at dksX5_lever_0 18 rfl rfl)
theorem dX5_lever_19 : decode cX5_lever 19 = .ok (.iaload, 1) := dk_46 (dk_at dksX5_lever_0 19 rfl rfl)
theorem dX5_lever_20 : decode cX5_lever 20 = .ok (.iload_n 1, 1) := dk_27 (dk_at dksX5_lever_0 20 rfl rfl)
theorem dX5_lever_21 : decode cX5_lever 21 = .ok (.iadd, 1) := dk_96 (dk_at dksX5_lever_0 21 rfl rfl)
theorem dX5_lever_22 : decode cX5_lever 22 = .ok (.iastore, 1) := dk_79 (dk_at dksX5_lever_0 22 rfl rfl)
theorem dX5_lever_23 : decode cX5_lever 23 = .ok (.aload_n 0, 1) := dk_42 (dk_at dksX5_lever_0 23 rfl rfl)
theorem dX5_lever_24 : decode cX5_lever 24 = .ok (.invokevirtual 417, 3) := dk_182 1 161 (dk_at dksX5_lever_1 0 rfl rfl)
theorem dX5_lever_27 : decode cX5_lever 27 = .ok (.aload_n 0, 1) := dk_42 (dk_at dksX5_lever_1 3 rfl rfl)
theorem dX5_lever_28 : decode cX5_lever 28 = .ok (.getfield 88, 3) := dk_180 0 88 (dk_at dksX5_lever_1 4 rfl rfl)
theorem dX5_lever_31 : decode cX5_lever 31 = .ok (.bipush 25, 2) := dk_16 25 (dk_at dksX5_lever_1 7 rfl rfl)
theorem dX5_lever_33 : decode cX5_lever 33 = .ok (.iaload, 1) := dk_46 (dk_at dksX5_lever_1 9 rfl rfl)
theorem dX5_lever_34 : decode cX5_lever 34 = .ok (.aload_n 0, 1) := dk_42 (dk_at dksX5_lever_1 10 rfl rfl)
theorem dX5_lever_35 : decode cX5_lever 35 = .ok (.getfield 85, 3) := dk_180 0 85 (dk_at dksX5_lever_1 11 rfl rfl)
theorem dX5_lever_38 : decode cX5_lever 38 = .ok (.bipush 25, 2) := dk_16 25 (dk_at dksX5_lever_1 14 rfl rfl)
theorem dX5_lever_40 : decode cX5_lever 40 = .ok (.iaload, 1) := dk_46 (dk_at dksX5_lever_1 16 rfl rfl)
theorem dX5_lever_41 : decode cX5_lever 41 = .ok (.if_icmp .le 5, 3) := dk_164 0 5 (dk_at dksX5_lever_1 17 rfl rfl)
theorem dX5_lever_44 : decode cX5_lever 44 = .ok (.iload_n 1, 1) := dk_27 (dk_at dksX5_lever_1 20 rfl rfl)
theorem dX5_lever_45 : decode cX5_lever 45 = .ok (.ireturn, 1) := dk_172 (dk_at dksX5_lever_1 21 rfl rfl)
theorem dX5_lever_46 : decode cX5_lever 46 = .ok (.iinc 1 1, 3) := dk_132 1 1 (dk_at dksX5_lever_2 0 rfl rfl)
theorem dX5_lever_49 : decode cX5_lever 49 = .ok (.goto (-47), 3) := dk_167 255 209 (dk_at dksX5_lever_2 3 rfl rfl)
theorem dX5_lever_52 : decode cX5_lever 52 = .ok (.iconst (-1), 1) := dk_2 (dk_at dksX5_lever_2 6 rfl rfl)
theorem dX5_lever_53 : decode cX5_lever 53 = .ok (.ireturn, 1) := dk_172 (dk_at dksX5_lever_2 7 rfl rfl)
abbrev cX5_hover : ByteArray := prog_17_method_100_code
def yX5_hover : MethodName := ⟨RX5, "hover", "(I)I"⟩
def dkwX5_hover_2 : List UInt8 := [180, 0, 88, 16, 25, 46, 172]
abbrev dktX5_hover_2 : List UInt8 := dkwX5_hover_2 ++ []
def dkwX5_hover_1 : List UInt8 := [162, 0, 21, 42, 180, 0, 88, 16, 24, 27, 79, 42, 182, 1, 161, 132, 2, 1, 167, 255, 235, 42]
abbrev dktX5_hover_1 : List UInt8 := dkwX5_hover_1 ++ dktX5_hover_2
def dkwX5_hover_0 : List UInt8 := [27, 3, 17, 3, 231, 184, 1, 112, 154, 0, 5, 2, 172, 42, 182, 1, 138, 3, 61, 28, 16, 60]
abbrev dktX5_hover_0 : List UInt8 := dkwX5_hover_0 ++ dktX5_hover_1
theorem dksX5_hover_0 : cX5_hover.data.toList.drop 0 = dktX5_hover_0 := by decide +kernel
theorem dksX5_hover_1 : cX5_hover.data.toList.drop 22 = dktX5_hover_1 := dk_seg dksX5_hover_0 22 rfl rfl
theorem dksX5_hover_2 : cX5_hover.data.toList.drop 44 = dktX5_hover_2 := dk_seg dksX5_hover_1 22 rfl rfl
theorem dX5_hover_0 : decode cX5_hover 0 = .ok (.iload_n 1, 1) := dk_27 (dk_at dksX5_hover_0 0 rfl rfl)
theorem dX5_hover_1 : decode cX5_hover 1 = .ok (.iconst 0, 1) := dk_3 (dk_at dksX5_hover_0 1 rfl rfl)
theorem dX5_hover_2 : decode cX5_hover 2 = .ok (.sipush 999, 3) := dk_17 3 231 (dk_at dksX5_hover_0 2 rfl rfl)
theorem dX5_hover_5 : decode cX5_hover 5 = .ok (.invokestatic 368, 3) := dk_184 1 112 (dk_at dksX5_hover_0 5 rfl rfl)
theorem dX5_hover_8 : decode cX5_hover 8 = .ok (.ifCond .ne 5, 3) := dk_154 0 5 (dk_at dksX5_hover_0 8 rfl rfl)
theorem dX5_hover_11 : decode cX5_hover 11 = .ok (.iconst (-1), 1) := dk_2 (dk_at dksX5_hover_0 11 rfl rfl)
theorem dX5_hover_12 : decode cX5_hover 12 = .ok (.ireturn, 1) := dk_172 (dk_at dksX5_hover_0 12 rfl rfl)
theorem dX5_hover_13 : decode cX5_hover 13 = .ok (.aload_n 0, 1) := dk_42 (dk_at dksX5_hover_0 13 rfl rfl)
theorem dX5_hover_14 : decode cX5_hover 14 = .ok (.invokevirtual 394, 3) := dk_182 1 138 (dk_at dksX5_hover_0 14 rfl rfl)
theorem dX5_hover_17 : decode cX5_hover 17 = .ok (.iconst 0, 1) := dk_3 (dk_at dksX5_hover_0 17 rfl rfl)
theorem dX5_hover_18 : decode cX5_hover 18 = .ok (.istore_n 2, 1) := dk_61 (dk_at dksX5_hover_0 18 rfl rfl)
theorem dX5_hover_19 : decode cX5_hover 19 = .ok (.iload_n 2, 1) := dk_28 (dk_at dksX5_hover_0 19 rfl rfl)
theorem dX5_hover_20 : decode cX5_hover 20 = .ok (.bipush 60, 2) := dk_16 60 (dk_at dksX5_hover_0 20 rfl rfl)
theorem dX5_hover_22 : decode cX5_hover 22 = .ok (.if_icmp .ge 21, 3) := dk_162 0 21 (dk_at dksX5_hover_1 0 rfl rfl)
theorem dX5_hover_25 : decode cX5_hover 25 = .ok (.aload_n 0, 1) := dk_42 (dk_at dksX5_hover_1 3 rfl rfl)
theorem dX5_hover_26 : decode cX5_hover 26 = .ok (.getfield 88, 3) := dk_180 0 88 (dk_at dksX5_hover_1 4 rfl rfl)
theorem dX5_hover_29 : decode cX5_hover 29 = .ok (.bipush 24, 2) := dk_16 24 (dk_at dksX5_hover_1 7 rfl rfl)
theorem dX5_hover_31 : decode cX5_hover 31 = .ok (.iload_n 1, 1) := dk_27 (dk_at dksX5_hover_1 9 rfl rfl)
theorem dX5_hover_32 : decode cX5_hover 32 = .ok (.iastore, 1) := dk_79 (dk_at dksX5_hover_1 10 rfl rfl)
theorem dX5_hover_33 : decode cX5_hover 33 = .ok (.aload_n 0, 1) := dk_42 (dk_at dksX5_hover_1 11 rfl rfl)
theorem dX5_hover_34 : decode cX5_hover 34 = .ok (.invokevirtual 417, 3) := dk_182 1 161 (dk_at dksX5_hover_1 12 rfl rfl)
theorem dX5_hover_37 : decode cX5_hover 37 = .ok (.iinc 2 1, 3) := dk_132 2 1 (dk_at dksX5_hover_1 15 rfl rfl)
theorem dX5_hover_40 : decode cX5_hover 40 = .ok (.goto (-21), 3) := dk_167 255 235 (dk_at dksX5_hover_1 18 rfl rfl)
theorem dX5_hover_43 : decode cX5_hover 43 = .ok (.aload_n 0, 1) := dk_42 (dk_at dksX5_hover_1 21 rfl rfl)
theorem dX5_hover_44 : decode cX5_hover 44 = .ok (.getfield 88, 3) := dk_180 0 88 (dk_at dksX5_hover_2 0 rfl rfl)
theorem dX5_hover_47 : decode cX5_hover 47 = .ok (.bipush 25, 2) := dk_16 25 (dk_at dksX5_hover_2 3 rfl rfl)
theorem dX5_hover_49 : decode cX5_hover 49 = .ok (.iaload, 1) := dk_46 (dk_at dksX5_hover_2 5 rfl rfl)
theorem dX5_hover_50 : decode cX5_hover 50 = .ok (.ireturn, 1) := dk_172 (dk_at dksX5_hover_2 6 rfl rfl)
abbrev cX5_ruin : ByteArray := prog_17_method_101_code
def yX5_ruin : MethodName := ⟨RX5, "ruin", "(I)I"⟩
def dkwX5_ruin_2 : List UInt8 := [28, 172]
abbrev dktX5_ruin_2 : List UInt8 := dkwX5_ruin_2 ++ []
def dkwX5_ruin_1 : List UInt8 := [180, 1, 94, 162, 0, 21, 28, 42, 180, 0, 88, 16, 16, 29, 96, 46, 96, 61, 132, 3, 1, 167, 255, 233]
abbrev dktX5_ruin_1 : List UInt8 := dkwX5_ruin_1 ++ dktX5_ruin_2
def dkwX5_ruin_0 : List UInt8 := [27, 3, 16, 60, 184, 1, 112, 154, 0, 5, 2, 172, 42, 27, 182, 1, 220, 3, 61, 3, 62, 29, 42]
abbrev dktX5_ruin_0 : List UInt8 := dkwX5_ruin_0 ++ dktX5_ruin_1
theorem dksX5_ruin_0 : cX5_ruin.data.toList.drop 0 = dktX5_ruin_0 := by decide +kernel
theorem dksX5_ruin_1 : cX5_ruin.data.toList.drop 23 = dktX5_ruin_1 := dk_seg dksX5_ruin_0 23 rfl rfl
theorem dksX5_ruin_2 : cX5_ruin.data.toList.drop 47 = dktX5_ruin_2 := dk_seg dksX5_ruin_1 24 rfl rfl
theorem dX5_ruin_0 : decode cX5_ruin 0 = .ok (.iload_n 1, 1) := dk_27 (dk_at dksX5_ruin_0 0 rfl rfl)
theorem dX5_ruin_1 : decode cX5_ruin 1 = .ok (.iconst 0, 1) := dk_3 (dk_at dksX5_ruin_0 1 rfl rfl)
theorem dX5_ruin_2 : decode cX5_ruin 2 = .ok (.bipush 60, 2) := dk_16 60 (dk_at dksX5_ruin_0 2 rfl rfl)
theorem dX5_ruin_4 : decode cX5_ruin 4 = .ok (.invokestatic 368, 3) := dk_184 1 112 (dk_at dksX5_ruin_0 4 rfl rfl)
theorem dX5_ruin_7 : decode cX5_ruin 7 = .ok (.ifCond .ne 5, 3) := dk_154 0 5 (dk_at dksX5_ruin_0 7 rfl rfl)
theorem dX5_ruin_10 : decode cX5_ruin 10 = .ok (.iconst (-1), 1) := dk_2 (dk_at dksX5_ruin_0 10 rfl rfl)
theorem dX5_ruin_11 : decode cX5_ruin 11 = .ok (.ireturn, 1) := dk_172 (dk_at dksX5_ruin_0 11 rfl rfl)
theorem dX5_ruin_12 : decode cX5_ruin 12 = .ok (.aload_n 0, 1) := dk_42 (dk_at dksX5_ruin_0 12 rfl rfl)
theorem dX5_ruin_13 : decode cX5_ruin 13 = .ok (.iload_n 1, 1) := dk_27 (dk_at dksX5_ruin_0 13 rfl rfl)
theorem dX5_ruin_14 : decode cX5_ruin 14 = .ok (.invokevirtual 476, 3) := dk_182 1 220 (dk_at dksX5_ruin_0 14 rfl rfl)
theorem dX5_ruin_17 : decode cX5_ruin 17 = .ok (.iconst 0, 1) := dk_3 (dk_at dksX5_ruin_0 17 rfl rfl)
theorem dX5_ruin_18 : decode cX5_ruin 18 = .ok (.istore_n 2, 1) := dk_61 (dk_at dksX5_ruin_0 18 rfl rfl)
theorem dX5_ruin_19 : decode cX5_ruin 19 = .ok (.iconst 0, 1) := dk_3 (dk_at dksX5_ruin_0 19 rfl rfl)
theorem dX5_ruin_20 : decode cX5_ruin 20 = .ok (.istore_n 3, 1) := dk_62 (dk_at dksX5_ruin_0 20 rfl rfl)
theorem dX5_ruin_21 : decode cX5_ruin 21 = .ok (.iload_n 3, 1) := dk_29 (dk_at dksX5_ruin_0 21 rfl rfl)
theorem dX5_ruin_22 : decode cX5_ruin 22 = .ok (.aload_n 0, 1) := dk_42 (dk_at dksX5_ruin_0 22 rfl rfl)
theorem dX5_ruin_23 : decode cX5_ruin 23 = .ok (.getfield 350, 3) := dk_180 1 94 (dk_at dksX5_ruin_1 0 rfl rfl)
theorem dX5_ruin_26 : decode cX5_ruin 26 = .ok (.if_icmp .ge 21, 3) := dk_162 0 21 (dk_at dksX5_ruin_1 3 rfl rfl)
theorem dX5_ruin_29 : decode cX5_ruin 29 = .ok (.iload_n 2, 1) := dk_28 (dk_at dksX5_ruin_1 6 rfl rfl)
theorem dX5_ruin_30 : decode cX5_ruin 30 = .ok (.aload_n 0, 1) := dk_42 (dk_at dksX5_ruin_1 7 rfl rfl)
theorem dX5_ruin_31 : decode cX5_ruin 31 = .ok (.getfield 88, 3) := dk_180 0 88 (dk_at dksX5_ruin_1 8 rfl rfl)
theorem dX5_ruin_34 : decode cX5_ruin 34 = .ok (.bipush 16, 2) := dk_16 16 (dk_at dksX5_ruin_1 11 rfl rfl)
theorem dX5_ruin_36 : decode cX5_ruin 36 = .ok (.iload_n 3, 1) := dk_29 (dk_at dksX5_ruin_1 13 rfl rfl)
theorem dX5_ruin_37 : decode cX5_ruin 37 = .ok (.iadd, 1) := dk_96 (dk_at dksX5_ruin_1 14 rfl rfl)
theorem dX5_ruin_38 : decode cX5_ruin 38 = .ok (.iaload, 1) := dk_46 (dk_at dksX5_ruin_1 15 rfl rfl)
theorem dX5_ruin_39 : decode cX5_ruin 39 = .ok (.iadd, 1) := dk_96 (dk_at dksX5_ruin_1 16 rfl rfl)
theorem dX5_ruin_40 : decode cX5_ruin 40 = .ok (.istore_n 2, 1) := dk_61 (dk_at dksX5_ruin_1 17 rfl rfl)
theorem dX5_ruin_41 : decode cX5_ruin 41 = .ok (.iinc 3 1, 3) := dk_132 3 1 (dk_at dksX5_ruin_1 18 rfl rfl)
theorem dX5_ruin_44 : decode cX5_ruin 44 = .ok (.goto (-23), 3) := dk_167 255 233 (dk_at dksX5_ruin_1 21 rfl rfl)
theorem dX5_ruin_47 : decode cX5_ruin 47 = .ok (.iload_n 2, 1) := dk_28 (dk_at dksX5_ruin_2 0 rfl rfl)
theorem dX5_ruin_48 : decode cX5_ruin 48 = .ok (.ireturn, 1) := dk_172 (dk_at dksX5_ruin_2 1 rfl rfl)
abbrev cX5_settle : ByteArray := prog_17_method_102_code
def yX5_settle : MethodName := ⟨RX5, "settle", "(II)I"⟩
def dkwX5_settle_3 : List UInt8 := [182, 1, 141, 154, 0, 5, 29, 172, 42, 182, 1, 161, 132, 3, 1, 167, 255, 198, 2, 172]
abbrev dktX5_settle_3 : List UInt8 := dkwX5_settle_3 ++ []
def dkwX5_settle_2 : List UInt8 := [46, 28, 161, 0, 20, 42, 27, 28, 2, 42, 28, 2, 3, 182, 1, 148, 182, 1, 154, 167, 255, 224, 42, 27]
abbrev dktX5_settle_2 : List UInt8 := dkwX5_settle_2 ++ dktX5_settle_3
def dkwX5_settle_1 : List UInt8 := [182, 1, 138, 3, 62, 29, 16, 60, 163, 0, 58, 42, 27, 182, 1, 141, 158, 0, 30, 42, 180, 0, 88, 27]
abbrev dktX5_settle_1 : List UInt8 := dkwX5_settle_1 ++ dktX5_settle_2
def dkwX5_settle_0 : List UInt8 := [42, 27, 182, 1, 126, 153, 0, 15, 28, 4, 42, 180, 0, 82, 184, 1, 112, 154, 0, 5, 2, 172, 42]
abbrev dktX5_settle_0 : List UInt8 := dkwX5_settle_0 ++ dktX5_settle_1
theorem dksX5_settle_0 : cX5_settle.data.toList.drop 0 = dktX5_settle_0 := by decide +kernel
theorem dksX5_settle_1 : cX5_settle.data.toList.drop 23 = dktX5_settle_1 := dk_seg dksX5_settle_0 23 rfl rfl
theorem dksX5_settle_2 : cX5_settle.data.toList.drop 47 = dktX5_settle_2 := dk_seg dksX5_settle_1 24 rfl rfl
theorem dksX5_settle_3 : cX5_settle.data.toList.drop 71 = dktX5_settle_3 := dk_seg dksX5_settle_2 24 rfl rfl
theorem dX5_settle_0 : decode cX5_settle 0 = .ok (.aload_n 0, 1) := dk_42 (dk_at dksX5_settle_0 0 rfl rfl)
theorem dX5_settle_1 : decode cX5_settle 1 = .ok (.iload_n 1, 1) := dk_27 (dk_at dksX5_settle_0 1 rfl rfl)
theorem dX5_settle_2 : decode cX5_settle 2 = .ok (.invokevirtual 382, 3) := dk_182 1 126 (dk_at dksX5_settle_0 2 rfl rfl)
theorem dX5_settle_5 : decode cX5_settle 5 = .ok (.ifCond .eq 15, 3) := dk_153 0 15 (dk_at dksX5_settle_0 5 rfl rfl)
theorem dX5_settle_8 : decode cX5_settle 8 = .ok (.iload_n 2, 1) := dk_28 (dk_at dksX5_settle_0 8 rfl rfl)
theorem dX5_settle_9 : decode cX5_settle 9 = .ok (.iconst 1, 1) := dk_4 (dk_at dksX5_settle_0 9 rfl rfl)
theorem dX5_settle_10 : decode cX5_settle 10 = .ok (.aload_n 0, 1) := dk_42 (dk_at dksX5_settle_0 10 rfl rfl)
theorem dX5_settle_11 : decode cX5_settle 11 = .ok (.getfield 82, 3) := dk_180 0 82 (dk_at dksX5_settle_0 11 rfl rfl)
theorem dX5_settle_14 : decode cX5_settle 14 = .ok (.invokestatic 368, 3) := dk_184 1 112 (dk_at dksX5_settle_0 14 rfl rfl)
theorem dX5_settle_17 : decode cX5_settle 17 = .ok (.ifCond .ne 5, 3) := dk_154 0 5 (dk_at dksX5_settle_0 17 rfl rfl)
theorem dX5_settle_20 : decode cX5_settle 20 = .ok (.iconst (-1), 1) := dk_2 (dk_at dksX5_settle_0 20 rfl rfl)
theorem dX5_settle_21 : decode cX5_settle 21 = .ok (.ireturn, 1) := dk_172 (dk_at dksX5_settle_0 21 rfl rfl)
theorem dX5_settle_22 : decode cX5_settle 22 = .ok (.aload_n 0, 1) := dk_42 (dk_at dksX5_settle_0 22 rfl rfl)
theorem dX5_settle_23 : decode cX5_settle 23 = .ok (.invokevirtual 394, 3) := dk_182 1 138 (dk_at dksX5_settle_1 0 rfl rfl)
theorem dX5_settle_26 : decode cX5_settle 26 = .ok (.iconst 0, 1) := dk_3 (dk_at dksX5_settle_1 3 rfl rfl)
theorem dX5_settle_27 : decode cX5_settle 27 = .ok (.istore_n 3, 1) := dk_62 (dk_at dksX5_settle_1 4 rfl rfl)
theorem dX5_settle_28 : decode cX5_settle 28 = .ok (.iload_n 3, 1) := dk_29 (dk_at dksX5_settle_1 5 rfl rfl)
theorem dX5_settle_29 : decode cX5_settle 29 = .ok (.bipush 60, 2) := dk_16 60 (dk_at dksX5_settle_1 6 rfl rfl)
theorem dX5_settle_31 : decode cX5_settle 31 = .ok (.if_icmp .gt 58, 3) := dk_163 0 58 (dk_at dksX5_settle_1 8 rfl rfl)
theorem dX5_settle_34 : decode cX5_settle 34 = .ok (.aload_n 0, 1) := dk_42 (dk_at dksX5_settle_1 11 rfl rfl)
theorem dX5_settle_35 : decode cX5_settle 35 = .ok (.iload_n 1, 1) := dk_27 (dk_at dksX5_settle_1 12 rfl rfl)
theorem dX5_settle_36 : decode cX5_settle 36 = .ok (.invokevirtual 397, 3) := dk_182 1 141 (dk_at dksX5_settle_1 13 rfl rfl)
theorem dX5_settle_39 : decode cX5_settle 39 = .ok (.ifCond .le 30, 3) := dk_158 0 30 (dk_at dksX5_settle_1 16 rfl rfl)
theorem dX5_settle_42 : decode cX5_settle 42 = .ok (.aload_n 0, 1) := dk_42 (dk_at dksX5_settle_1 19 rfl rfl)
theorem dX5_settle_43 : decode cX5_settle 43 = .ok (.getfield 88, 3) := dk_180 0 88 (dk_at dksX5_settle_1 20 rfl rfl)
theorem dX5_settle_46 : decode cX5_settle 46 = .ok (.iload_n 1, 1) := dk_27 (dk_at dksX5_settle_1 23 rfl rfl)
theorem dX5_settle_47 : decode cX5_settle 47 = .ok (.iaload, 1) := dk_46 (dk_at dksX5_settle_2 0 rfl rfl)
theorem dX5_settle_48 : decode cX5_settle 48 = .ok (.iload_n 2, 1) := dk_28 (dk_at dksX5_settle_2 1 rfl rfl)
theorem dX5_settle_49 : decode cX5_settle 49 = .ok (.if_icmp .lt 20, 3) := dk_161 0 20 (dk_at dksX5_settle_2 2 rfl rfl)
theorem dX5_settle_52 : decode cX5_settle 52 = .ok (.aload_n 0, 1) := dk_42 (dk_at dksX5_settle_2 5 rfl rfl)
theorem dX5_settle_53 : decode cX5_settle 53 = .ok (.iload_n 1, 1) := dk_27 (dk_at dksX5_settle_2 6 rfl rfl)
theorem dX5_settle_54 : decode cX5_settle 54 = .ok (.iload_n 2, 1) := dk_28 (dk_at dksX5_settle_2 7 rfl rfl)
theorem dX5_settle_55 : decode cX5_settle 55 = .ok (.iconst (-1), 1) := dk_2 (dk_at dksX5_settle_2 8 rfl rfl)
theorem dX5_settle_56 : decode cX5_settle 56 = .ok (.aload_n 0, 1) := dk_42 (dk_at dksX5_settle_2 9 rfl rfl)
theorem dX5_settle_57 : decode cX5_settle 57 = .ok (.iload_n 2, 1) := dk_28 (dk_at dksX5_settle_2 10 rfl rfl)
theorem dX5_settle_58 : decode cX5_settle 58 = .ok (.iconst (-1), 1) := dk_2 (dk_at dksX5_settle_2 11 rfl rfl)
theorem dX5_settle_59 : decode cX5_settle 59 = .ok (.iconst 0, 1) := dk_3 (dk_at dksX5_settle_2 12 rfl rfl)
theorem dX5_settle_60 : decode cX5_settle 60 = .ok (.invokevirtual 404, 3) := dk_182 1 148 (dk_at dksX5_settle_2 13 rfl rfl)
theorem dX5_settle_63 : decode cX5_settle 63 = .ok (.invokevirtual 410, 3) := dk_182 1 154 (dk_at dksX5_settle_2 16 rfl rfl)
theorem dX5_settle_66 : decode cX5_settle 66 = .ok (.goto (-32), 3) := dk_167 255 224 (dk_at dksX5_settle_2 19 rfl rfl)
theorem dX5_settle_69 : decode cX5_settle 69 = .ok (.aload_n 0, 1) := dk_42 (dk_at dksX5_settle_2 22 rfl rfl)
theorem dX5_settle_70 : decode cX5_settle 70 = .ok (.iload_n 1, 1) := dk_27 (dk_at dksX5_settle_2 23 rfl rfl)
theorem dX5_settle_71 : decode cX5_settle 71 = .ok (.invokevirtual 397, 3) := dk_182 1 141 (dk_at dksX5_settle_3 0 rfl rfl)
theorem dX5_settle_74 : decode cX5_settle 74 = .ok (.ifCond .ne 5, 3) := dk_154 0 5 (dk_at dksX5_settle_3 3 rfl rfl)
theorem dX5_settle_77 : decode cX5_settle 77 = .ok (.iload_n 3, 1) := dk_29 (dk_at dksX5_settle_3 6 rfl rfl)
theorem dX5_settle_78 : decode cX5_settle 78 = .ok (.ireturn, 1) := dk_172 (dk_at dksX5_settle_3 7 rfl rfl)
theorem dX5_settle_79 : decode cX5_settle 79 = .ok (.aload_n 0, 1) := dk_42 (dk_at dksX5_settle_3 8 rfl rfl)
theorem dX5_settle_80 : decode cX5_settle 80 = .ok (.invokevirtual 417, 3) := dk_182 1 161 (dk_at dksX5_settle_3 9 rfl rfl)
theorem dX5_settle_83 : decode cX5_settle 83 = .ok (.iinc 3 1, 3) := dk_132 3 1 (dk_at dksX5_settle_3 12 rfl rfl)
theorem dX5_settle_86 : decode cX5_settle 86 = .ok (.goto (-58), 3) := dk_167 255 198 (dk_at dksX5_settle_3 15 rfl rfl)
theorem dX5_settle_89 : decode cX5_settle 89 = .ok (.iconst (-1), 1) := dk_2 (dk_at dksX5_settle_3 18 rfl rfl)
theorem dX5_settle_90 : decode cX5_settle 90 = .ok (.ireturn, 1) := dk_172 (dk_at dksX5_settle_3 19 rfl rfl)
abbrev cX5_odds : ByteArray := prog_17_method_104_code
def yX5_odds : MethodName := ⟨RX5, "odds", "(IIII)I"⟩
def dkwX5_odds_6 : List UInt8 := [108, 172]
abbrev dktX5_odds_6 : List UInt8 := dkwX5_odds_6 ++ []
def dkwX5_odds_5 : List UInt8 := [21, 5, 184, 1, 226, 54, 7, 21, 4, 154, 0, 11, 21, 5, 21, 7, 108, 167, 0, 8, 21, 6, 21, 7]
abbrev dktX5_odds_5 : List UInt8 := dkwX5_odds_5 ++ dktX5_odds_6
def dkwX5_odds_4 : List UInt8 := [104, 167, 0, 4, 3, 96, 54, 5, 132, 6, 1, 167, 255, 195, 16, 100, 28, 184, 1, 168, 54, 6, 21, 6]
abbrev dktX5_odds_4 : List UInt8 := dkwX5_odds_4 ++ dktX5_odds_5
def dkwX5_odds_3 : List UInt8 := [180, 0, 79, 27, 46, 100, 21, 7, 184, 1, 168, 42, 180, 0, 79, 27, 46, 28, 21, 7, 100, 184, 1, 168]
abbrev dktX5_odds_3 : List UInt8 := dkwX5_odds_3 ++ dktX5_odds_4
def dkwX5_odds_2 : List UInt8 := [28, 120, 162, 0, 59, 21, 6, 184, 1, 223, 54, 7, 21, 5, 21, 7, 29, 161, 0, 34, 16, 100, 42]
abbrev dktX5_odds_2 : List UInt8 := dkwX5_odds_2 ++ dktX5_odds_3
def dkwX5_odds_1 : List UInt8 := [153, 0, 13, 21, 4, 3, 4, 184, 1, 112, 154, 0, 5, 2, 172, 3, 54, 5, 3, 54, 6, 21, 6, 4]
abbrev dktX5_odds_1 : List UInt8 := dkwX5_odds_1 ++ dktX5_odds_2
def dkwX5_odds_0 : List UInt8 := [42, 27, 182, 1, 126, 153, 0, 31, 28, 3, 7, 184, 1, 112, 153, 0, 22, 29, 3, 28, 184, 1, 112]
abbrev dktX5_odds_0 : List UInt8 := dkwX5_odds_0 ++ dktX5_odds_1
theorem dksX5_odds_0 : cX5_odds.data.toList.drop 0 = dktX5_odds_0 := by decide +kernel
theorem dksX5_odds_1 : cX5_odds.data.toList.drop 23 = dktX5_odds_1 := dk_seg dksX5_odds_0 23 rfl rfl
theorem dksX5_odds_2 : cX5_odds.data.toList.drop 47 = dktX5_odds_2 := dk_seg dksX5_odds_1 24 rfl rfl
theorem dksX5_odds_3 : cX5_odds.data.toList.drop 70 = dktX5_odds_3 := dk_seg dksX5_odds_2 23 rfl rfl
theorem dksX5_odds_4 : cX5_odds.data.toList.drop 94 = dktX5_odds_4 := dk_seg dksX5_odds_3 24 rfl rfl
theorem dksX5_odds_5 : cX5_odds.data.toList.drop 118 = dktX5_odds_5 := dk_seg dksX5_odds_4 24 rfl rfl
theorem dksX5_odds_6 : cX5_odds.data.toList.drop 142 = dktX5_odds_6 := dk_seg dksX5_odds_5 24 rfl rfl
theorem dX5_odds_0 : decode cX5_odds 0 = .ok (.aload_n 0, 1) := dk_42 (dk_at dksX5_odds_0 0 rfl rfl)
theorem dX5_odds_1 : decode cX5_odds 1 = .ok (.iload_n 1, 1) := dk_27 (dk_at dksX5_odds_0 1 rfl rfl)
theorem dX5_odds_2 : decode cX5_odds 2 = .ok (.invokevirtual 382, 3) := dk_182 1 126 (dk_at dksX5_odds_0 2 rfl rfl)
theorem dX5_odds_5 : decode cX5_odds 5 = .ok (.ifCond .eq 31, 3) := dk_153 0 31 (dk_at dksX5_odds_0 5 rfl rfl)
theorem dX5_odds_8 : decode cX5_odds 8 = .ok (.iload_n 2, 1) := dk_28 (dk_at dksX5_odds_0 8 rfl rfl)
theorem dX5_odds_9 : decode cX5_odds 9 = .ok (.iconst 0, 1) := dk_3 (dk_at dksX5_odds_0 9 rfl rfl)
theorem dX5_odds_10 : decode cX5_odds 10 = .ok (.iconst 4, 1) := dk_7 (dk_at dksX5_odds_0 10 rfl rfl)
theorem dX5_odds_11 : decode cX5_odds 11 = .ok (.invokestatic 368, 3) := dk_184 1 112 (dk_at dksX5_odds_0 11 rfl rfl)
theorem dX5_odds_14 : decode cX5_odds 14 = .ok (.ifCond .eq 22, 3) := dk_153 0 22 (dk_at dksX5_odds_0 14 rfl rfl)
theorem dX5_odds_17 : decode cX5_odds 17 = .ok (.iload_n 3, 1) := dk_29 (dk_at dksX5_odds_0 17 rfl rfl)
theorem dX5_odds_18 : decode cX5_odds 18 = .ok (.iconst 0, 1) := dk_3 (dk_at dksX5_odds_0 18 rfl rfl)
theorem dX5_odds_19 : decode cX5_odds 19 = .ok (.iload_n 2, 1) := dk_28 (dk_at dksX5_odds_0 19 rfl rfl)
theorem dX5_odds_20 : decode cX5_odds 20 = .ok (.invokestatic 368, 3) := dk_184 1 112 (dk_at dksX5_odds_0 20 rfl rfl)
theorem dX5_odds_23 : decode cX5_odds 23 = .ok (.ifCond .eq 13, 3) := dk_153 0 13 (dk_at dksX5_odds_1 0 rfl rfl)
theorem dX5_odds_26 : decode cX5_odds 26 = .ok (.iload 4, 2) := dk_21 4 (dk_at dksX5_odds_1 3 rfl rfl)
theorem dX5_odds_28 : decode cX5_odds 28 = .ok (.iconst 0, 1) := dk_3 (dk_at dksX5_odds_1 5 rfl rfl)
theorem dX5_odds_29 : decode cX5_odds 29 = .ok (.iconst 1, 1) := dk_4 (dk_at dksX5_odds_1 6 rfl rfl)
theorem dX5_odds_30 : decode cX5_odds 30 = .ok (.invokestatic 368, 3) := dk_184 1 112 (dk_at dksX5_odds_1 7 rfl rfl)
theorem dX5_odds_33 : decode cX5_odds 33 = .ok (.ifCond .ne 5, 3) := dk_154 0 5 (dk_at dksX5_odds_1 10 rfl rfl)
theorem dX5_odds_36 : decode cX5_odds 36 = .ok (.iconst (-1), 1) := dk_2 (dk_at dksX5_odds_1 13 rfl rfl)
theorem dX5_odds_37 : decode cX5_odds 37 = .ok (.ireturn, 1) := dk_172 (dk_at dksX5_odds_1 14 rfl rfl)
theorem dX5_odds_38 : decode cX5_odds 38 = .ok (.iconst 0, 1) := dk_3 (dk_at dksX5_odds_1 15 rfl rfl)
theorem dX5_odds_39 : decode cX5_odds 39 = .ok (.istore 5, 2) := dk_54 5 (dk_at dksX5_odds_1 16 rfl rfl)
theorem dX5_odds_41 : decode cX5_odds 41 = .ok (.iconst 0, 1) := dk_3 (dk_at dksX5_odds_1 18 rfl rfl)
theorem dX5_odds_42 : decode cX5_odds 42 = .ok (.istore 6, 2) := dk_54 6 (dk_at dksX5_odds_1 19 rfl rfl)
theorem dX5_odds_44 : decode cX5_odds 44 = .ok (.iload 6, 2) := dk_21 6 (dk_at dksX5_odds_1 21 rfl rfl)
theorem dX5_odds_46 : decode cX5_odds 46 = .ok (.iconst 1, 1) := dk_4 (dk_at dksX5_odds_1 23 rfl rfl)
theorem dX5_odds_47 : decode cX5_odds 47 = .ok (.iload_n 2, 1) := dk_28 (dk_at dksX5_odds_2 0 rfl rfl)
theorem dX5_odds_48 : decode cX5_odds 48 = .ok (.ishl, 1) := dk_120 (dk_at dksX5_odds_2 1 rfl rfl)
theorem dX5_odds_49 : decode cX5_odds 49 = .ok (.if_icmp .ge 59, 3) := dk_162 0 59 (dk_at dksX5_odds_2 2 rfl rfl)
theorem dX5_odds_52 : decode cX5_odds 52 = .ok (.iload 6, 2) := dk_21 6 (dk_at dksX5_odds_2 5 rfl rfl)
theorem dX5_odds_54 : decode cX5_odds 54 = .ok (.invokestatic 479, 3) := dk_184 1 223 (dk_at dksX5_odds_2 7 rfl rfl)
theorem dX5_odds_57 : decode cX5_odds 57 = .ok (.istore 7, 2) := dk_54 7 (dk_at dksX5_odds_2 10 rfl rfl)
theorem dX5_odds_59 : decode cX5_odds 59 = .ok (.iload 5, 2) := dk_21 5 (dk_at dksX5_odds_2 12 rfl rfl)
theorem dX5_odds_61 : decode cX5_odds 61 = .ok (.iload 7, 2) := dk_21 7 (dk_at dksX5_odds_2 14 rfl rfl)
theorem dX5_odds_63 : decode cX5_odds 63 = .ok (.iload_n 3, 1) := dk_29 (dk_at dksX5_odds_2 16 rfl rfl)
theorem dX5_odds_64 : decode cX5_odds 64 = .ok (.if_icmp .lt 34, 3) := dk_161 0 34 (dk_at dksX5_odds_2 17 rfl rfl)
theorem dX5_odds_67 : decode cX5_odds 67 = .ok (.bipush 100, 2) := dk_16 100 (dk_at dksX5_odds_2 20 rfl rfl)
theorem dX5_odds_69 : decode cX5_odds 69 = .ok (.aload_n 0, 1) := dk_42 (dk_at dksX5_odds_2 22 rfl rfl)
theorem dX5_odds_70 : decode cX5_odds 70 = .ok (.getfield 79, 3) := dk_180 0 79 (dk_at dksX5_odds_3 0 rfl rfl)
theorem dX5_odds_73 : decode cX5_odds 73 = .ok (.iload_n 1, 1) := dk_27 (dk_at dksX5_odds_3 3 rfl rfl)
theorem dX5_odds_74 : decode cX5_odds 74 = .ok (.iaload, 1) := dk_46 (dk_at dksX5_odds_3 4 rfl rfl)
theorem dX5_odds_75 : decode cX5_odds 75 = .ok (.isub, 1) := dk_100 (dk_at dksX5_odds_3 5 rfl rfl)
theorem dX5_odds_76 : decode cX5_odds 76 = .ok (.iload 7, 2) := dk_21 7 (dk_at dksX5_odds_3 6 rfl rfl)
theorem dX5_odds_78 : decode cX5_odds 78 = .ok (.invokestatic 424, 3) := dk_184 1 168 (dk_at dksX5_odds_3 8 rfl rfl)
theorem dX5_odds_81 : decode cX5_odds 81 = .ok (.aload_n 0, 1) := dk_42 (dk_at dksX5_odds_3 11 rfl rfl)
theorem dX5_odds_82 : decode cX5_odds 82 = .ok (.getfield 79, 3) := dk_180 0 79 (dk_at dksX5_odds_3 12 rfl rfl)
theorem dX5_odds_85 : decode cX5_odds 85 = .ok (.iload_n 1, 1) := dk_27 (dk_at dksX5_odds_3 15 rfl rfl)
theorem dX5_odds_86 : decode cX5_odds 86 = .ok (.iaload, 1) := dk_46 (dk_at dksX5_odds_3 16 rfl rfl)
theorem dX5_odds_87 : decode cX5_odds 87 = .ok (.iload_n 2, 1) := dk_28 (dk_at dksX5_odds_3 17 rfl rfl)
theorem dX5_odds_88 : decode cX5_odds 88 = .ok (.iload 7, 2) := dk_21 7 (dk_at dksX5_odds_3 18 rfl rfl)
theorem dX5_odds_90 : decode cX5_odds 90 = .ok (.isub, 1) := dk_100 (dk_at dksX5_odds_3 20 rfl rfl)
theorem dX5_odds_91 : decode cX5_odds 91 = .ok (.invokestatic 424, 3) := dk_184 1 168 (dk_at dksX5_odds_3 21 rfl rfl)
theorem dX5_odds_94 : decode cX5_odds 94 = .ok (.imul, 1) := dk_104 (dk_at dksX5_odds_4 0 rfl rfl)
theorem dX5_odds_95 : decode cX5_odds 95 = .ok (.goto 4, 3) := dk_167 0 4 (dk_at dksX5_odds_4 1 rfl rfl)
theorem dX5_odds_98 : decode cX5_odds 98 = .ok (.iconst 0, 1) := dk_3 (dk_at dksX5_odds_4 4 rfl rfl)
theorem dX5_odds_99 : decode cX5_odds 99 = .ok (.iadd, 1) := dk_96 (dk_at dksX5_odds_4 5 rfl rfl)
theorem dX5_odds_100 : decode cX5_odds 100 = .ok (.istore 5, 2) := dk_54 5 (dk_at dksX5_odds_4 6 rfl rfl)
theorem dX5_odds_102 : decode cX5_odds 102 = .ok (.iinc 6 1, 3) := dk_132 6 1 (dk_at dksX5_odds_4 8 rfl rfl)
theorem dX5_odds_105 : decode cX5_odds 105 = .ok (.goto (-61), 3) := dk_167 255 195 (dk_at dksX5_odds_4 11 rfl rfl)
theorem dX5_odds_108 : decode cX5_odds 108 = .ok (.bipush 100, 2) := dk_16 100 (dk_at dksX5_odds_4 14 rfl rfl)
theorem dX5_odds_110 : decode cX5_odds 110 = .ok (.iload_n 2, 1) := dk_28 (dk_at dksX5_odds_4 16 rfl rfl)
theorem dX5_odds_111 : decode cX5_odds 111 = .ok (.invokestatic 424, 3) := dk_184 1 168 (dk_at dksX5_odds_4 17 rfl rfl)
theorem dX5_odds_114 : decode cX5_odds 114 = .ok (.istore 6, 2) := dk_54 6 (dk_at dksX5_odds_4 20 rfl rfl)
theorem dX5_odds_116 : decode cX5_odds 116 = .ok (.iload 6, 2) := dk_21 6 (dk_at dksX5_odds_4 22 rfl rfl)
theorem dX5_odds_118 : decode cX5_odds 118 = .ok (.iload 5, 2) := dk_21 5 (dk_at dksX5_odds_5 0 rfl rfl)
theorem dX5_odds_120 : decode cX5_odds 120 = .ok (.invokestatic 482, 3) := dk_184 1 226 (dk_at dksX5_odds_5 2 rfl rfl)
theorem dX5_odds_123 : decode cX5_odds 123 = .ok (.istore 7, 2) := dk_54 7 (dk_at dksX5_odds_5 5 rfl rfl)
theorem dX5_odds_125 : decode cX5_odds 125 = .ok (.iload 4, 2) := dk_21 4 (dk_at dksX5_odds_5 7 rfl rfl)
theorem dX5_odds_127 : decode cX5_odds 127 = .ok (.ifCond .ne 11, 3) := dk_154 0 11 (dk_at dksX5_odds_5 9 rfl rfl)
theorem dX5_odds_130 : decode cX5_odds 130 = .ok (.iload 5, 2) := dk_21 5 (dk_at dksX5_odds_5 12 rfl rfl)
theorem dX5_odds_132 : decode cX5_odds 132 = .ok (.iload 7, 2) := dk_21 7 (dk_at dksX5_odds_5 14 rfl rfl)
theorem dX5_odds_134 : decode cX5_odds 134 = .ok (.idiv, 1) := dk_108 (dk_at dksX5_odds_5 16 rfl rfl)
theorem dX5_odds_135 : decode cX5_odds 135 = .ok (.goto 8, 3) := dk_167 0 8 (dk_at dksX5_odds_5 17 rfl rfl)
theorem dX5_odds_138 : decode cX5_odds 138 = .ok (.iload 6, 2) := dk_21 6 (dk_at dksX5_odds_5 20 rfl rfl)
theorem dX5_odds_140 : decode cX5_odds 140 = .ok (.iload 7, 2) := dk_21 7 (dk_at dksX5_odds_5 22 rfl rfl)
theorem dX5_odds_142 : decode cX5_odds 142 = .ok (.idiv, 1) := dk_108 (dk_at dksX5_odds_6 0 rfl rfl)
theorem dX5_odds_143 : decode cX5_odds 143 = .ok (.ireturn, 1) := dk_172 (dk_at dksX5_odds_6 1 rfl rfl)
abbrev cX5_members : ByteArray := prog_17_method_44_code
def yX5_members : MethodName := ⟨RX5, "members", "(I)I"⟩
def dkwX5_members_1 : List UInt8 := [27, 172]
abbrev dktX5_members_1 : List UInt8 := dkwX5_members_1 ++ []
def dkwX5_members_0 : List UInt8 := [3, 60, 3, 61, 28, 16, 8, 162, 0, 17, 27, 26, 28, 122, 4, 126, 96, 60, 132, 2, 1, 167, 255, 239]
abbrev dktX5_members_0 : List UInt8 := dkwX5_members_0 ++ dktX5_members_1
theorem dksX5_members_0 : cX5_members.data.toList.drop 0 = dktX5_members_0 := by decide +kernel
theorem dksX5_members_1 : cX5_members.data.toList.drop 24 = dktX5_members_1 := dk_seg dksX5_members_0 24 rfl rfl
theorem dX5_members_0 : decode cX5_members 0 = .ok (.iconst 0, 1) := dk_3 (dk_at dksX5_members_0 0 rfl rfl)
theorem dX5_members_1 : decode cX5_members 1 = .ok (.istore_n 1, 1) := dk_60 (dk_at dksX5_members_0 1 rfl rfl)
theorem dX5_members_2 : decode cX5_members 2 = .ok (.iconst 0, 1) := dk_3 (dk_at dksX5_members_0 2 rfl rfl)
theorem dX5_members_3 : decode cX5_members 3 = .ok (.istore_n 2, 1) := dk_61 (dk_at dksX5_members_0 3 rfl rfl)
theorem dX5_members_4 : decode cX5_members 4 = .ok (.iload_n 2, 1) := dk_28 (dk_at dksX5_members_0 4 rfl rfl)
theorem dX5_members_5 : decode cX5_members 5 = .ok (.bipush 8, 2) := dk_16 8 (dk_at dksX5_members_0 5 rfl rfl)
theorem dX5_members_7 : decode cX5_members 7 = .ok (.if_icmp .ge 17, 3) := dk_162 0 17 (dk_at dksX5_members_0 7 rfl rfl)
theorem dX5_members_10 : decode cX5_members 10 = .ok (.iload_n 1, 1) := dk_27 (dk_at dksX5_members_0 10 rfl rfl)
theorem dX5_members_11 : decode cX5_members 11 = .ok (.iload_n 0, 1) := dk_26 (dk_at dksX5_members_0 11 rfl rfl)
theorem dX5_members_12 : decode cX5_members 12 = .ok (.iload_n 2, 1) := dk_28 (dk_at dksX5_members_0 12 rfl rfl)
theorem dX5_members_13 : decode cX5_members 13 = .ok (.ishr, 1) := dk_122 (dk_at dksX5_members_0 13 rfl rfl)
theorem dX5_members_14 : decode cX5_members 14 = .ok (.iconst 1, 1) := dk_4 (dk_at dksX5_members_0 14 rfl rfl)
theorem dX5_members_15 : decode cX5_members 15 = .ok (.iand, 1) := dk_126 (dk_at dksX5_members_0 15 rfl rfl)
theorem dX5_members_16 : decode cX5_members 16 = .ok (.iadd, 1) := dk_96 (dk_at dksX5_members_0 16 rfl rfl)
theorem dX5_members_17 : decode cX5_members 17 = .ok (.istore_n 1, 1) := dk_60 (dk_at dksX5_members_0 17 rfl rfl)
theorem dX5_members_18 : decode cX5_members 18 = .ok (.iinc 2 1, 3) := dk_132 2 1 (dk_at dksX5_members_0 18 rfl rfl)
theorem dX5_members_21 : decode cX5_members 21 = .ok (.goto (-17), 3) := dk_167 255 239 (dk_at dksX5_members_0 21 rfl rfl)
theorem dX5_members_24 : decode cX5_members 24 = .ok (.iload_n 1, 1) := dk_27 (dk_at dksX5_members_1 0 rfl rfl)
theorem dX5_members_25 : decode cX5_members 25 = .ok (.ireturn, 1) := dk_172 (dk_at dksX5_members_1 1 rfl rfl)
abbrev cX5_divisor : ByteArray := prog_17_method_103_code
def yX5_divisor : MethodName := ⟨RX5, "divisor", "(II)I"⟩
def dkwX5_divisor_0 : List UInt8 := [26, 61, 27, 62, 29, 158, 0, 16, 28, 29, 112, 54, 4, 29, 61, 21, 4, 62, 167, 255, 242, 28, 172]
abbrev dktX5_divisor_0 : List UInt8 := dkwX5_divisor_0 ++ []
theorem dksX5_divisor_0 : cX5_divisor.data.toList.drop 0 = dktX5_divisor_0 := by decide +kernel
theorem dX5_divisor_0 : decode cX5_divisor 0 = .ok (.iload_n 0, 1) := dk_26 (dk_at dksX5_divisor_0 0 rfl rfl)
theorem dX5_divisor_1 : decode cX5_divisor 1 = .ok (.istore_n 2, 1) := dk_61 (dk_at dksX5_divisor_0 1 rfl rfl)
theorem dX5_divisor_2 : decode cX5_divisor 2 = .ok (.iload_n 1, 1) := dk_27 (dk_at dksX5_divisor_0 2 rfl rfl)
theorem dX5_divisor_3 : decode cX5_divisor 3 = .ok (.istore_n 3, 1) := dk_62 (dk_at dksX5_divisor_0 3 rfl rfl)
theorem dX5_divisor_4 : decode cX5_divisor 4 = .ok (.iload_n 3, 1) := dk_29 (dk_at dksX5_divisor_0 4 rfl rfl)
theorem dX5_divisor_5 : decode cX5_divisor 5 = .ok (.ifCond .le 16, 3) := dk_158 0 16 (dk_at dksX5_divisor_0 5 rfl rfl)
theorem dX5_divisor_8 : decode cX5_divisor 8 = .ok (.iload_n 2, 1) := dk_28 (dk_at dksX5_divisor_0 8 rfl rfl)
theorem dX5_divisor_9 : decode cX5_divisor 9 = .ok (.iload_n 3, 1) := dk_29 (dk_at dksX5_divisor_0 9 rfl rfl)
theorem dX5_divisor_10 : decode cX5_divisor 10 = .ok (.irem, 1) := dk_112 (dk_at dksX5_divisor_0 10 rfl rfl)
theorem dX5_divisor_11 : decode cX5_divisor 11 = .ok (.istore 4, 2) := dk_54 4 (dk_at dksX5_divisor_0 11 rfl rfl)
theorem dX5_divisor_13 : decode cX5_divisor 13 = .ok (.iload_n 3, 1) := dk_29 (dk_at dksX5_divisor_0 13 rfl rfl)
theorem dX5_divisor_14 : decode cX5_divisor 14 = .ok (.istore_n 2, 1) := dk_61 (dk_at dksX5_divisor_0 14 rfl rfl)
theorem dX5_divisor_15 : decode cX5_divisor 15 = .ok (.iload 4, 2) := dk_21 4 (dk_at dksX5_divisor_0 15 rfl rfl)
theorem dX5_divisor_17 : decode cX5_divisor 17 = .ok (.istore_n 3, 1) := dk_62 (dk_at dksX5_divisor_0 17 rfl rfl)
theorem dX5_divisor_18 : decode cX5_divisor 18 = .ok (.goto (-14), 3) := dk_167 255 242 (dk_at dksX5_divisor_0 18 rfl rfl)
theorem dX5_divisor_21 : decode cX5_divisor 21 = .ok (.iload_n 2, 1) := dk_28 (dk_at dksX5_divisor_0 21 rfl rfl)
theorem dX5_divisor_22 : decode cX5_divisor 22 = .ok (.ireturn, 1) := dk_172 (dk_at dksX5_divisor_0 22 rfl rfl)
abbrev cX5_poorest : ByteArray := prog_17_method_105_code
def yX5_poorest : MethodName := ⟨RX5, "poorest", "()I"⟩
def dkwX5_poorest_1 : List UInt8 := [182, 1, 141, 42, 27, 182, 1, 141, 164, 0, 5, 28, 60, 132, 2, 1, 167, 255, 226, 27, 172]
abbrev dktX5_poorest_1 : List UInt8 := dkwX5_poorest_1 ++ []
def dkwX5_poorest_0 : List UInt8 := [42, 182, 1, 138, 2, 60, 3, 61, 28, 42, 180, 1, 94, 162, 0, 28, 27, 155, 0, 16, 42, 28]
abbrev dktX5_poorest_0 : List UInt8 := dkwX5_poorest_0 ++ dktX5_poorest_1
theorem dksX5_poorest_0 : cX5_poorest.data.toList.drop 0 = dktX5_poorest_0 := by decide +kernel
theorem dksX5_poorest_1 : cX5_poorest.data.toList.drop 22 = dktX5_poorest_1 := dk_seg dksX5_poorest_0 22 rfl rfl
theorem dX5_poorest_0 : decode cX5_poorest 0 = .ok (.aload_n 0, 1) := dk_42 (dk_at dksX5_poorest_0 0 rfl rfl)
theorem dX5_poorest_1 : decode cX5_poorest 1 = .ok (.invokevirtual 394, 3) := dk_182 1 138 (dk_at dksX5_poorest_0 1 rfl rfl)
theorem dX5_poorest_4 : decode cX5_poorest 4 = .ok (.iconst (-1), 1) := dk_2 (dk_at dksX5_poorest_0 4 rfl rfl)
theorem dX5_poorest_5 : decode cX5_poorest 5 = .ok (.istore_n 1, 1) := dk_60 (dk_at dksX5_poorest_0 5 rfl rfl)
theorem dX5_poorest_6 : decode cX5_poorest 6 = .ok (.iconst 0, 1) := dk_3 (dk_at dksX5_poorest_0 6 rfl rfl)
theorem dX5_poorest_7 : decode cX5_poorest 7 = .ok (.istore_n 2, 1) := dk_61 (dk_at dksX5_poorest_0 7 rfl rfl)
theorem dX5_poorest_8 : decode cX5_poorest 8 = .ok (.iload_n 2, 1) := dk_28 (dk_at dksX5_poorest_0 8 rfl rfl)
theorem dX5_poorest_9 : decode cX5_poorest 9 = .ok (.aload_n 0, 1) := dk_42 (dk_at dksX5_poorest_0 9 rfl rfl)
theorem dX5_poorest_10 : decode cX5_poorest 10 = .ok (.getfield 350, 3) := dk_180 1 94 (dk_at dksX5_poorest_0 10 rfl rfl)
theorem dX5_poorest_13 : decode cX5_poorest 13 = .ok (.if_icmp .ge 28, 3) := dk_162 0 28 (dk_at dksX5_poorest_0 13 rfl rfl)
theorem dX5_poorest_16 : decode cX5_poorest 16 = .ok (.iload_n 1, 1) := dk_27 (dk_at dksX5_poorest_0 16 rfl rfl)
theorem dX5_poorest_17 : decode cX5_poorest 17 = .ok (.ifCond .lt 16, 3) := dk_155 0 16 (dk_at dksX5_poorest_0 17 rfl rfl)
theorem dX5_poorest_20 : decode cX5_poorest 20 = .ok (.aload_n 0, 1) := dk_42 (dk_at dksX5_poorest_0 20 rfl rfl)
theorem dX5_poorest_21 : decode cX5_poorest 21 = .ok (.iload_n 2, 1) := dk_28 (dk_at dksX5_poorest_0 21 rfl rfl)
theorem dX5_poorest_22 : decode cX5_poorest 22 = .ok (.invokevirtual 397, 3) := dk_182 1 141 (dk_at dksX5_poorest_1 0 rfl rfl)
theorem dX5_poorest_25 : decode cX5_poorest 25 = .ok (.aload_n 0, 1) := dk_42 (dk_at dksX5_poorest_1 3 rfl rfl)
theorem dX5_poorest_26 : decode cX5_poorest 26 = .ok (.iload_n 1, 1) := dk_27 (dk_at dksX5_poorest_1 4 rfl rfl)
theorem dX5_poorest_27 : decode cX5_poorest 27 = .ok (.invokevirtual 397, 3) := dk_182 1 141 (dk_at dksX5_poorest_1 5 rfl rfl)
theorem dX5_poorest_30 : decode cX5_poorest 30 = .ok (.if_icmp .le 5, 3) := dk_164 0 5 (dk_at dksX5_poorest_1 8 rfl rfl)
theorem dX5_poorest_33 : decode cX5_poorest 33 = .ok (.iload_n 2, 1) := dk_28 (dk_at dksX5_poorest_1 11 rfl rfl)
theorem dX5_poorest_34 : decode cX5_poorest 34 = .ok (.istore_n 1, 1) := dk_60 (dk_at dksX5_poorest_1 12 rfl rfl)
theorem dX5_poorest_35 : decode cX5_poorest 35 = .ok (.iinc 2 1, 3) := dk_132 2 1 (dk_at dksX5_poorest_1 13 rfl rfl)
theorem dX5_poorest_38 : decode cX5_poorest 38 = .ok (.goto (-30), 3) := dk_167 255 226 (dk_at dksX5_poorest_1 16 rfl rfl)
theorem dX5_poorest_41 : decode cX5_poorest 41 = .ok (.iload_n 1, 1) := dk_27 (dk_at dksX5_poorest_1 19 rfl rfl)
theorem dX5_poorest_42 : decode cX5_poorest 42 = .ok (.ireturn, 1) := dk_172 (dk_at dksX5_poorest_1 20 rfl rfl)
abbrev cX5_owing : ByteArray := prog_17_method_106_code
def yX5_owing : MethodName := ⟨RX5, "owing", "()I"⟩
def dkwX5_owing_1 : List UInt8 := [158, 0, 7, 4, 167, 0, 4, 3, 184, 1, 48, 28, 120, 128, 60, 132, 2, 1, 167, 255, 224, 27, 172]
abbrev dktX5_owing_1 : List UInt8 := dkwX5_owing_1 ++ []
def dkwX5_owing_0 : List UInt8 := [42, 182, 1, 138, 3, 60, 3, 61, 28, 42, 180, 1, 94, 162, 0, 30, 27, 42, 28, 182, 1, 141]
abbrev dktX5_owing_0 : List UInt8 := dkwX5_owing_0 ++ dktX5_owing_1
theorem dksX5_owing_0 : cX5_owing.data.toList.drop 0 = dktX5_owing_0 := by decide +kernel
theorem dksX5_owing_1 : cX5_owing.data.toList.drop 22 = dktX5_owing_1 := dk_seg dksX5_owing_0 22 rfl rfl
theorem dX5_owing_0 : decode cX5_owing 0 = .ok (.aload_n 0, 1) := dk_42 (dk_at dksX5_owing_0 0 rfl rfl)
theorem dX5_owing_1 : decode cX5_owing 1 = .ok (.invokevirtual 394, 3) := dk_182 1 138 (dk_at dksX5_owing_0 1 rfl rfl)
theorem dX5_owing_4 : decode cX5_owing 4 = .ok (.iconst 0, 1) := dk_3 (dk_at dksX5_owing_0 4 rfl rfl)
theorem dX5_owing_5 : decode cX5_owing 5 = .ok (.istore_n 1, 1) := dk_60 (dk_at dksX5_owing_0 5 rfl rfl)
theorem dX5_owing_6 : decode cX5_owing 6 = .ok (.iconst 0, 1) := dk_3 (dk_at dksX5_owing_0 6 rfl rfl)
theorem dX5_owing_7 : decode cX5_owing 7 = .ok (.istore_n 2, 1) := dk_61 (dk_at dksX5_owing_0 7 rfl rfl)
theorem dX5_owing_8 : decode cX5_owing 8 = .ok (.iload_n 2, 1) := dk_28 (dk_at dksX5_owing_0 8 rfl rfl)
theorem dX5_owing_9 : decode cX5_owing 9 = .ok (.aload_n 0, 1) := dk_42 (dk_at dksX5_owing_0 9 rfl rfl)
theorem dX5_owing_10 : decode cX5_owing 10 = .ok (.getfield 350, 3) := dk_180 1 94 (dk_at dksX5_owing_0 10 rfl rfl)
theorem dX5_owing_13 : decode cX5_owing 13 = .ok (.if_icmp .ge 30, 3) := dk_162 0 30 (dk_at dksX5_owing_0 13 rfl rfl)
theorem dX5_owing_16 : decode cX5_owing 16 = .ok (.iload_n 1, 1) := dk_27 (dk_at dksX5_owing_0 16 rfl rfl)
theorem dX5_owing_17 : decode cX5_owing 17 = .ok (.aload_n 0, 1) := dk_42 (dk_at dksX5_owing_0 17 rfl rfl)
theorem dX5_owing_18 : decode cX5_owing 18 = .ok (.iload_n 2, 1) := dk_28 (dk_at dksX5_owing_0 18 rfl rfl)
theorem dX5_owing_19 : decode cX5_owing 19 = .ok (.invokevirtual 397, 3) := dk_182 1 141 (dk_at dksX5_owing_0 19 rfl rfl)
theorem dX5_owing_22 : decode cX5_owing 22 = .ok (.ifCond .le 7, 3) := dk_158 0 7 (dk_at dksX5_owing_1 0 rfl rfl)
theorem dX5_owing_25 : decode cX5_owing 25 = .ok (.iconst 1, 1) := dk_4 (dk_at dksX5_owing_1 3 rfl rfl)
theorem dX5_owing_26 : decode cX5_owing 26 = .ok (.goto 4, 3) := dk_167 0 4 (dk_at dksX5_owing_1 4 rfl rfl)
theorem dX5_owing_29 : decode cX5_owing 29 = .ok (.iconst 0, 1) := dk_3 (dk_at dksX5_owing_1 7 rfl rfl)
theorem dX5_owing_30 : decode cX5_owing 30 = .ok (.invokestatic 304, 3) := dk_184 1 48 (dk_at dksX5_owing_1 8 rfl rfl)
theorem dX5_owing_33 : decode cX5_owing 33 = .ok (.iload_n 2, 1) := dk_28 (dk_at dksX5_owing_1 11 rfl rfl)
theorem dX5_owing_34 : decode cX5_owing 34 = .ok (.ishl, 1) := dk_120 (dk_at dksX5_owing_1 12 rfl rfl)
theorem dX5_owing_35 : decode cX5_owing 35 = .ok (.ior, 1) := dk_128 (dk_at dksX5_owing_1 13 rfl rfl)
theorem dX5_owing_36 : decode cX5_owing 36 = .ok (.istore_n 1, 1) := dk_60 (dk_at dksX5_owing_1 14 rfl rfl)
theorem dX5_owing_37 : decode cX5_owing 37 = .ok (.iinc 2 1, 3) := dk_132 2 1 (dk_at dksX5_owing_1 15 rfl rfl)
theorem dX5_owing_40 : decode cX5_owing 40 = .ok (.goto (-32), 3) := dk_167 255 224 (dk_at dksX5_owing_1 18 rfl rfl)
theorem dX5_owing_43 : decode cX5_owing 43 = .ok (.iload_n 1, 1) := dk_27 (dk_at dksX5_owing_1 21 rfl rfl)
theorem dX5_owing_44 : decode cX5_owing 44 = .ok (.ireturn, 1) := dk_172 (dk_at dksX5_owing_1 22 rfl rfl)
abbrev cX5_law : ByteArray := prog_17_method_107_code
def yX5_law : MethodName := ⟨RX5, "law", "(I)I"⟩
def dkwX5_law_4 : List UInt8 := [28, 172]
abbrev dktX5_law_4 : List UInt8 := dkwX5_law_4 ++ []
def dkwX5_law_3 : List UInt8 := [16, 8, 29, 96, 46, 164, 0, 7, 4, 167, 0, 4, 3, 184, 1, 48, 96, 61, 132, 3, 1, 167, 255, 185]
abbrev dktX5_law_3 : List UInt8 := dkwX5_law_3 ++ dktX5_law_4
def dkwX5_law_2 : List UInt8 := [167, 0, 4, 3, 54, 4, 28, 21, 4, 42, 180, 0, 85, 16, 16, 29, 96, 46, 96, 42, 180, 0, 85]
abbrev dktX5_law_2 : List UInt8 := dkwX5_law_2 ++ dktX5_law_3
def dkwX5_law_1 : List UInt8 := [162, 0, 69, 42, 180, 0, 76, 29, 46, 27, 96, 158, 0, 14, 42, 180, 0, 76, 29, 46, 27, 96]
abbrev dktX5_law_1 : List UInt8 := dkwX5_law_1 ++ dktX5_law_2
def dkwX5_law_0 : List UInt8 := [27, 17, 252, 25, 17, 3, 231, 184, 1, 112, 154, 0, 5, 2, 172, 3, 61, 3, 62, 29, 42, 180, 1, 94]
abbrev dktX5_law_0 : List UInt8 := dkwX5_law_0 ++ dktX5_law_1
theorem dksX5_law_0 : cX5_law.data.toList.drop 0 = dktX5_law_0 := by decide +kernel
theorem dksX5_law_1 : cX5_law.data.toList.drop 24 = dktX5_law_1 := dk_seg dksX5_law_0 24 rfl rfl
theorem dksX5_law_2 : cX5_law.data.toList.drop 46 = dktX5_law_2 := dk_seg dksX5_law_1 22 rfl rfl
theorem dksX5_law_3 : cX5_law.data.toList.drop 69 = dktX5_law_3 := dk_seg dksX5_law_2 23 rfl rfl
theorem dksX5_law_4 : cX5_law.data.toList.drop 93 = dktX5_law_4 := dk_seg dksX5_law_3 24 rfl rfl
theorem dX5_law_0 : decode cX5_law 0 = .ok (.iload_n 1, 1) := dk_27 (dk_at dksX5_law_0 0 rfl rfl)
theorem dX5_law_1 : decode cX5_law 1 = .ok (.sipush (-999), 3) := dk_17 252 25 (dk_at dksX5_law_0 1 rfl rfl)
theorem dX5_law_4 : decode cX5_law 4 = .ok (.sipush 999, 3) := dk_17 3 231 (dk_at dksX5_law_0 4 rfl rfl)
theorem dX5_law_7 : decode cX5_law 7 = .ok (.invokestatic 368, 3) := dk_184 1 112 (dk_at dksX5_law_0 7 rfl rfl)
theorem dX5_law_10 : decode cX5_law 10 = .ok (.ifCond .ne 5, 3) := dk_154 0 5 (dk_at dksX5_law_0 10 rfl rfl)
theorem dX5_law_13 : decode cX5_law 13 = .ok (.iconst (-1), 1) := dk_2 (dk_at dksX5_law_0 13 rfl rfl)
theorem dX5_law_14 : decode cX5_law 14 = .ok (.ireturn, 1) := dk_172 (dk_at dksX5_law_0 14 rfl rfl)
theorem dX5_law_15 : decode cX5_law 15 = .ok (.iconst 0, 1) := dk_3 (dk_at dksX5_law_0 15 rfl rfl)
theorem dX5_law_16 : decode cX5_law 16 = .ok (.istore_n 2, 1) := dk_61 (dk_at dksX5_law_0 16 rfl rfl)
theorem dX5_law_17 : decode cX5_law 17 = .ok (.iconst 0, 1) := dk_3 (dk_at dksX5_law_0 17 rfl rfl)
theorem dX5_law_18 : decode cX5_law 18 = .ok (.istore_n 3, 1) := dk_62 (dk_at dksX5_law_0 18 rfl rfl)
theorem dX5_law_19 : decode cX5_law 19 = .ok (.iload_n 3, 1) := dk_29 (dk_at dksX5_law_0 19 rfl rfl)
theorem dX5_law_20 : decode cX5_law 20 = .ok (.aload_n 0, 1) := dk_42 (dk_at dksX5_law_0 20 rfl rfl)
theorem dX5_law_21 : decode cX5_law 21 = .ok (.getfield 350, 3) := dk_180 1 94 (dk_at dksX5_law_0 21 rfl rfl)
theorem dX5_law_24 : decode cX5_law 24 = .ok (.if_icmp .ge 69, 3) := dk_162 0 69 (dk_at dksX5_law_1 0 rfl rfl)
theorem dX5_law_27 : decode cX5_law 27 = .ok (.aload_n 0, 1) := dk_42 (dk_at dksX5_law_1 3 rfl rfl)
theorem dX5_law_28 : decode cX5_law 28 = .ok (.getfield 76, 3) := dk_180 0 76 (dk_at dksX5_law_1 4 rfl rfl)
theorem dX5_law_31 : decode cX5_law 31 = .ok (.iload_n 3, 1) := dk_29 (dk_at dksX5_law_1 7 rfl rfl)
theorem dX5_law_32 : decode cX5_law 32 = .ok (.iaload, 1) := dk_46 (dk_at dksX5_law_1 8 rfl rfl)
theorem dX5_law_33 : decode cX5_law 33 = .ok (.iload_n 1, 1) := dk_27 (dk_at dksX5_law_1 9 rfl rfl)
theorem dX5_law_34 : decode cX5_law 34 = .ok (.iadd, 1) := dk_96 (dk_at dksX5_law_1 10 rfl rfl)
theorem dX5_law_35 : decode cX5_law 35 = .ok (.ifCond .le 14, 3) := dk_158 0 14 (dk_at dksX5_law_1 11 rfl rfl)
theorem dX5_law_38 : decode cX5_law 38 = .ok (.aload_n 0, 1) := dk_42 (dk_at dksX5_law_1 14 rfl rfl)
theorem dX5_law_39 : decode cX5_law 39 = .ok (.getfield 76, 3) := dk_180 0 76 (dk_at dksX5_law_1 15 rfl rfl)
theorem dX5_law_42 : decode cX5_law 42 = .ok (.iload_n 3, 1) := dk_29 (dk_at dksX5_law_1 18 rfl rfl)
theorem dX5_law_43 : decode cX5_law 43 = .ok (.iaload, 1) := dk_46 (dk_at dksX5_law_1 19 rfl rfl)
theorem dX5_law_44 : decode cX5_law 44 = .ok (.iload_n 1, 1) := dk_27 (dk_at dksX5_law_1 20 rfl rfl)
theorem dX5_law_45 : decode cX5_law 45 = .ok (.iadd, 1) := dk_96 (dk_at dksX5_law_1 21 rfl rfl)
theorem dX5_law_46 : decode cX5_law 46 = .ok (.goto 4, 3) := dk_167 0 4 (dk_at dksX5_law_2 0 rfl rfl)
theorem dX5_law_49 : decode cX5_law 49 = .ok (.iconst 0, 1) := dk_3 (dk_at dksX5_law_2 3 rfl rfl)
theorem dX5_law_50 : decode cX5_law 50 = .ok (.istore 4, 2) := dk_54 4 (dk_at dksX5_law_2 4 rfl rfl)
theorem dX5_law_52 : decode cX5_law 52 = .ok (.iload_n 2, 1) := dk_28 (dk_at dksX5_law_2 6 rfl rfl)
theorem dX5_law_53 : decode cX5_law 53 = .ok (.iload 4, 2) := dk_21 4 (dk_at dksX5_law_2 7 rfl rfl)
theorem dX5_law_55 : decode cX5_law 55 = .ok (.aload_n 0, 1) := dk_42 (dk_at dksX5_law_2 9 rfl rfl)
theorem dX5_law_56 : decode cX5_law 56 = .ok (.getfield 85, 3) := dk_180 0 85 (dk_at dksX5_law_2 10 rfl rfl)
theorem dX5_law_59 : decode cX5_law 59 = .ok (.bipush 16, 2) := dk_16 16 (dk_at dksX5_law_2 13 rfl rfl)
theorem dX5_law_61 : decode cX5_law 61 = .ok (.iload_n 3, 1) := dk_29 (dk_at dksX5_law_2 15 rfl rfl)
theorem dX5_law_62 : decode cX5_law 62 = .ok (.iadd, 1) := dk_96 (dk_at dksX5_law_2 16 rfl rfl)
theorem dX5_law_63 : decode cX5_law 63 = .ok (.iaload, 1) := dk_46 (dk_at dksX5_law_2 17 rfl rfl)
theorem dX5_law_64 : decode cX5_law 64 = .ok (.iadd, 1) := dk_96 (dk_at dksX5_law_2 18 rfl rfl)
theorem dX5_law_65 : decode cX5_law 65 = .ok (.aload_n 0, 1) := dk_42 (dk_at dksX5_law_2 19 rfl rfl)
theorem dX5_law_66 : decode cX5_law 66 = .ok (.getfield 85, 3) := dk_180 0 85 (dk_at dksX5_law_2 20 rfl rfl)
theorem dX5_law_69 : decode cX5_law 69 = .ok (.bipush 8, 2) := dk_16 8 (dk_at dksX5_law_3 0 rfl rfl)
theorem dX5_law_71 : decode cX5_law 71 = .ok (.iload_n 3, 1) := dk_29 (dk_at dksX5_law_3 2 rfl rfl)
theorem dX5_law_72 : decode cX5_law 72 = .ok (.iadd, 1) := dk_96 (dk_at dksX5_law_3 3 rfl rfl)
theorem dX5_law_73 : decode cX5_law 73 = .ok (.iaload, 1) := dk_46 (dk_at dksX5_law_3 4 rfl rfl)
theorem dX5_law_74 : decode cX5_law 74 = .ok (.if_icmp .le 7, 3) := dk_164 0 7 (dk_at dksX5_law_3 5 rfl rfl)
theorem dX5_law_77 : decode cX5_law 77 = .ok (.iconst 1, 1) := dk_4 (dk_at dksX5_law_3 8 rfl rfl)
theorem dX5_law_78 : decode cX5_law 78 = .ok (.goto 4, 3) := dk_167 0 4 (dk_at dksX5_law_3 9 rfl rfl)
theorem dX5_law_81 : decode cX5_law 81 = .ok (.iconst 0, 1) := dk_3 (dk_at dksX5_law_3 12 rfl rfl)
theorem dX5_law_82 : decode cX5_law 82 = .ok (.invokestatic 304, 3) := dk_184 1 48 (dk_at dksX5_law_3 13 rfl rfl)
theorem dX5_law_85 : decode cX5_law 85 = .ok (.iadd, 1) := dk_96 (dk_at dksX5_law_3 16 rfl rfl)
theorem dX5_law_86 : decode cX5_law 86 = .ok (.istore_n 2, 1) := dk_61 (dk_at dksX5_law_3 17 rfl rfl)
theorem dX5_law_87 : decode cX5_law 87 = .ok (.iinc 3 1, 3) := dk_132 3 1 (dk_at dksX5_law_3 18 rfl rfl)
theorem dX5_law_90 : decode cX5_law 90 = .ok (.goto (-71), 3) := dk_167 255 185 (dk_at dksX5_law_3 21 rfl rfl)
theorem dX5_law_93 : decode cX5_law 93 = .ok (.iload_n 2, 1) := dk_28 (dk_at dksX5_law_4 0 rfl rfl)
theorem dX5_law_94 : decode cX5_law 94 = .ok (.ireturn, 1) := dk_172 (dk_at dksX5_law_4 1 rfl rfl)
abbrev cX5_stride : ByteArray := prog_17_method_108_code
def yX5_stride : MethodName := ⟨RX5, "stride", "(II)I"⟩
def dkwX5_stride_3 : List UInt8 := [164, 0, 6, 21, 4, 62, 132, 4, 1, 167, 255, 203, 29, 172]
abbrev dktX5_stride_3 : List UInt8 := dkwX5_stride_3 ++ []
def dkwX5_stride_2 : List UInt8 := [29, 155, 0, 26, 42, 21, 4, 2, 28, 182, 1, 148, 29, 104, 42, 29, 2, 28, 182, 1, 148, 21, 4, 104]
abbrev dktX5_stride_2 : List UInt8 := dkwX5_stride_2 ++ dktX5_stride_3
def dkwX5_stride_1 : List UInt8 := [62, 4, 54, 4, 21, 4, 42, 180, 0, 82, 163, 0, 50, 21, 4, 42, 180, 0, 88, 27, 46, 163, 0, 39]
abbrev dktX5_stride_1 : List UInt8 := dkwX5_stride_1 ++ dktX5_stride_2
def dkwX5_stride_0 : List UInt8 := [42, 27, 182, 1, 126, 153, 0, 12, 28, 3, 4, 184, 1, 112, 154, 0, 5, 2, 172, 42, 182, 1, 138, 2]
abbrev dktX5_stride_0 : List UInt8 := dkwX5_stride_0 ++ dktX5_stride_1
theorem dksX5_stride_0 : cX5_stride.data.toList.drop 0 = dktX5_stride_0 := by decide +kernel
theorem dksX5_stride_1 : cX5_stride.data.toList.drop 24 = dktX5_stride_1 := dk_seg dksX5_stride_0 24 rfl rfl
theorem dksX5_stride_2 : cX5_stride.data.toList.drop 48 = dktX5_stride_2 := dk_seg dksX5_stride_1 24 rfl rfl
theorem dksX5_stride_3 : cX5_stride.data.toList.drop 72 = dktX5_stride_3 := dk_seg dksX5_stride_2 24 rfl rfl
theorem dX5_stride_0 : decode cX5_stride 0 = .ok (.aload_n 0, 1) := dk_42 (dk_at dksX5_stride_0 0 rfl rfl)
theorem dX5_stride_1 : decode cX5_stride 1 = .ok (.iload_n 1, 1) := dk_27 (dk_at dksX5_stride_0 1 rfl rfl)
theorem dX5_stride_2 : decode cX5_stride 2 = .ok (.invokevirtual 382, 3) := dk_182 1 126 (dk_at dksX5_stride_0 2 rfl rfl)
theorem dX5_stride_5 : decode cX5_stride 5 = .ok (.ifCond .eq 12, 3) := dk_153 0 12 (dk_at dksX5_stride_0 5 rfl rfl)
theorem dX5_stride_8 : decode cX5_stride 8 = .ok (.iload_n 2, 1) := dk_28 (dk_at dksX5_stride_0 8 rfl rfl)
theorem dX5_stride_9 : decode cX5_stride 9 = .ok (.iconst 0, 1) := dk_3 (dk_at dksX5_stride_0 9 rfl rfl)
theorem dX5_stride_10 : decode cX5_stride 10 = .ok (.iconst 1, 1) := dk_4 (dk_at dksX5_stride_0 10 rfl rfl)
theorem dX5_stride_11 : decode cX5_stride 11 = .ok (.invokestatic 368, 3) := dk_184 1 112 (dk_at dksX5_stride_0 11 rfl rfl)
theorem dX5_stride_14 : decode cX5_stride 14 = .ok (.ifCond .ne 5, 3) := dk_154 0 5 (dk_at dksX5_stride_0 14 rfl rfl)
theorem dX5_stride_17 : decode cX5_stride 17 = .ok (.iconst (-1), 1) := dk_2 (dk_at dksX5_stride_0 17 rfl rfl)
theorem dX5_stride_18 : decode cX5_stride 18 = .ok (.ireturn, 1) := dk_172 (dk_at dksX5_stride_0 18 rfl rfl)
theorem dX5_stride_19 : decode cX5_stride 19 = .ok (.aload_n 0, 1) := dk_42 (dk_at dksX5_stride_0 19 rfl rfl)
theorem dX5_stride_20 : decode cX5_stride 20 = .ok (.invokevirtual 394, 3) := dk_182 1 138 (dk_at dksX5_stride_0 20 rfl rfl)
theorem dX5_stride_23 : decode cX5_stride 23 = .ok (.iconst (-1), 1) := dk_2 (dk_at dksX5_stride_0 23 rfl rfl)
theorem dX5_stride_24 : decode cX5_stride 24 = .ok (.istore_n 3, 1) := dk_62 (dk_at dksX5_stride_1 0 rfl rfl)
theorem dX5_stride_25 : decode cX5_stride 25 = .ok (.iconst 1, 1) := dk_4 (dk_at dksX5_stride_1 1 rfl rfl)
theorem dX5_stride_26 : decode cX5_stride 26 = .ok (.istore 4, 2) := dk_54 4 (dk_at dksX5_stride_1 2 rfl rfl)
theorem dX5_stride_28 : decode cX5_stride 28 = .ok (.iload 4, 2) := dk_21 4 (dk_at dksX5_stride_1 4 rfl rfl)
theorem dX5_stride_30 : decode cX5_stride 30 = .ok (.aload_n 0, 1) := dk_42 (dk_at dksX5_stride_1 6 rfl rfl)
theorem dX5_stride_31 : decode cX5_stride 31 = .ok (.getfield 82, 3) := dk_180 0 82 (dk_at dksX5_stride_1 7 rfl rfl)
theorem dX5_stride_34 : decode cX5_stride 34 = .ok (.if_icmp .gt 50, 3) := dk_163 0 50 (dk_at dksX5_stride_1 10 rfl rfl)
theorem dX5_stride_37 : decode cX5_stride 37 = .ok (.iload 4, 2) := dk_21 4 (dk_at dksX5_stride_1 13 rfl rfl)
theorem dX5_stride_39 : decode cX5_stride 39 = .ok (.aload_n 0, 1) := dk_42 (dk_at dksX5_stride_1 15 rfl rfl)
theorem dX5_stride_40 : decode cX5_stride 40 = .ok (.getfield 88, 3) := dk_180 0 88 (dk_at dksX5_stride_1 16 rfl rfl)
theorem dX5_stride_43 : decode cX5_stride 43 = .ok (.iload_n 1, 1) := dk_27 (dk_at dksX5_stride_1 19 rfl rfl)
theorem dX5_stride_44 : decode cX5_stride 44 = .ok (.iaload, 1) := dk_46 (dk_at dksX5_stride_1 20 rfl rfl)
theorem dX5_stride_45 : decode cX5_stride 45 = .ok (.if_icmp .gt 39, 3) := dk_163 0 39 (dk_at dksX5_stride_1 21 rfl rfl)
theorem dX5_stride_48 : decode cX5_stride 48 = .ok (.iload_n 3, 1) := dk_29 (dk_at dksX5_stride_2 0 rfl rfl)
theorem dX5_stride_49 : decode cX5_stride 49 = .ok (.ifCond .lt 26, 3) := dk_155 0 26 (dk_at dksX5_stride_2 1 rfl rfl)
theorem dX5_stride_52 : decode cX5_stride 52 = .ok (.aload_n 0, 1) := dk_42 (dk_at dksX5_stride_2 4 rfl rfl)
theorem dX5_stride_53 : decode cX5_stride 53 = .ok (.iload 4, 2) := dk_21 4 (dk_at dksX5_stride_2 5 rfl rfl)
theorem dX5_stride_55 : decode cX5_stride 55 = .ok (.iconst (-1), 1) := dk_2 (dk_at dksX5_stride_2 7 rfl rfl)
theorem dX5_stride_56 : decode cX5_stride 56 = .ok (.iload_n 2, 1) := dk_28 (dk_at dksX5_stride_2 8 rfl rfl)
theorem dX5_stride_57 : decode cX5_stride 57 = .ok (.invokevirtual 404, 3) := dk_182 1 148 (dk_at dksX5_stride_2 9 rfl rfl)
theorem dX5_stride_60 : decode cX5_stride 60 = .ok (.iload_n 3, 1) := dk_29 (dk_at dksX5_stride_2 12 rfl rfl)
theorem dX5_stride_61 : decode cX5_stride 61 = .ok (.imul, 1) := dk_104 (dk_at dksX5_stride_2 13 rfl rfl)
theorem dX5_stride_62 : decode cX5_stride 62 = .ok (.aload_n 0, 1) := dk_42 (dk_at dksX5_stride_2 14 rfl rfl)
theorem dX5_stride_63 : decode cX5_stride 63 = .ok (.iload_n 3, 1) := dk_29 (dk_at dksX5_stride_2 15 rfl rfl)
theorem dX5_stride_64 : decode cX5_stride 64 = .ok (.iconst (-1), 1) := dk_2 (dk_at dksX5_stride_2 16 rfl rfl)
theorem dX5_stride_65 : decode cX5_stride 65 = .ok (.iload_n 2, 1) := dk_28 (dk_at dksX5_stride_2 17 rfl rfl)
theorem dX5_stride_66 : decode cX5_stride 66 = .ok (.invokevirtual 404, 3) := dk_182 1 148 (dk_at dksX5_stride_2 18 rfl rfl)
theorem dX5_stride_69 : decode cX5_stride 69 = .ok (.iload 4, 2) := dk_21 4 (dk_at dksX5_stride_2 21 rfl rfl)
theorem dX5_stride_71 : decode cX5_stride 71 = .ok (.imul, 1) := dk_104 (dk_at dksX5_stride_2 23 rfl rfl)
theorem dX5_stride_72 : decode cX5_stride 72 = .ok (.if_icmp .le 6, 3) := dk_164 0 6 (dk_at dksX5_stride_3 0 rfl rfl)
theorem dX5_stride_75 : decode cX5_stride 75 = .ok (.iload 4, 2) := dk_21 4 (dk_at dksX5_stride_3 3 rfl rfl)
theorem dX5_stride_77 : decode cX5_stride 77 = .ok (.istore_n 3, 1) := dk_62 (dk_at dksX5_stride_3 5 rfl rfl)
theorem dX5_stride_78 : decode cX5_stride 78 = .ok (.iinc 4 1, 3) := dk_132 4 1 (dk_at dksX5_stride_3 6 rfl rfl)
theorem dX5_stride_81 : decode cX5_stride 81 = .ok (.goto (-53), 3) := dk_167 255 203 (dk_at dksX5_stride_3 9 rfl rfl)
theorem dX5_stride_84 : decode cX5_stride 84 = .ok (.iload_n 3, 1) := dk_29 (dk_at dksX5_stride_3 12 rfl rfl)
theorem dX5_stride_85 : decode cX5_stride 85 = .ok (.ireturn, 1) := dk_172 (dk_at dksX5_stride_3 13 rfl rfl)
abbrev cX5_team : ByteArray := prog_17_method_109_code
def yX5_team : MethodName := ⟨RX5, "team", "(II)I"⟩
def dkwX5_team_5 : List UInt8 := [29, 156, 0, 7, 2, 167, 0, 15, 28, 154, 0, 10, 29, 184, 1, 223, 167, 0, 4, 29, 172]
abbrev dktX5_team_5 : List UInt8 := dkwX5_team_5 ++ []
def dkwX5_team_4 : List UInt8 := [155, 0, 15, 21, 4, 184, 1, 223, 29, 184, 1, 223, 162, 0, 6, 21, 4, 62, 132, 4, 1, 167, 255, 169]
abbrev dktX5_team_4 : List UInt8 := dkwX5_team_4 ++ dktX5_team_5
def dkwX5_team_3 : List UInt8 := [21, 6, 46, 167, 0, 4, 3, 96, 54, 5, 132, 6, 1, 167, 255, 217, 21, 5, 27, 161, 0, 22, 29]
abbrev dktX5_team_3 : List UInt8 := dkwX5_team_3 ++ dktX5_team_4
def dkwX5_team_2 : List UInt8 := [180, 1, 94, 162, 0, 36, 21, 5, 21, 4, 21, 6, 122, 4, 126, 4, 160, 0, 13, 42, 180, 0, 85]
abbrev dktX5_team_2 : List UInt8 := dkwX5_team_2 ++ dktX5_team_3
def dkwX5_team_1 : List UInt8 := [3, 54, 4, 21, 4, 4, 42, 180, 1, 94, 120, 162, 0, 82, 3, 54, 5, 3, 54, 6, 21, 6, 42]
abbrev dktX5_team_1 : List UInt8 := dkwX5_team_1 ++ dktX5_team_2
def dkwX5_team_0 : List UInt8 := [27, 3, 17, 1, 144, 184, 1, 112, 153, 0, 12, 28, 3, 4, 184, 1, 112, 154, 0, 5, 2, 172, 2, 62]
abbrev dktX5_team_0 : List UInt8 := dkwX5_team_0 ++ dktX5_team_1
theorem dksX5_team_0 : cX5_team.data.toList.drop 0 = dktX5_team_0 := by decide +kernel
theorem dksX5_team_1 : cX5_team.data.toList.drop 24 = dktX5_team_1 := dk_seg dksX5_team_0 24 rfl rfl
theorem dksX5_team_2 : cX5_team.data.toList.drop 47 = dktX5_team_2 := dk_seg dksX5_team_1 23 rfl rfl
theorem dksX5_team_3 : cX5_team.data.toList.drop 70 = dktX5_team_3 := dk_seg dksX5_team_2 23 rfl rfl
theorem dksX5_team_4 : cX5_team.data.toList.drop 93 = dktX5_team_4 := dk_seg dksX5_team_3 23 rfl rfl
theorem dksX5_team_5 : cX5_team.data.toList.drop 117 = dktX5_team_5 := dk_seg dksX5_team_4 24 rfl rfl
theorem dX5_team_0 : decode cX5_team 0 = .ok (.iload_n 1, 1) := dk_27 (dk_at dksX5_team_0 0 rfl rfl)
theorem dX5_team_1 : decode cX5_team 1 = .ok (.iconst 0, 1) := dk_3 (dk_at dksX5_team_0 1 rfl rfl)
theorem dX5_team_2 : decode cX5_team 2 = .ok (.sipush 400, 3) := dk_17 1 144 (dk_at dksX5_team_0 2 rfl rfl)
theorem dX5_team_5 : decode cX5_team 5 = .ok (.invokestatic 368, 3) := dk_184 1 112 (dk_at dksX5_team_0 5 rfl rfl)
theorem dX5_team_8 : decode cX5_team 8 = .ok (.ifCond .eq 12, 3) := dk_153 0 12 (dk_at dksX5_team_0 8 rfl rfl)
theorem dX5_team_11 : decode cX5_team 11 = .ok (.iload_n 2, 1) := dk_28 (dk_at dksX5_team_0 11 rfl rfl)
theorem dX5_team_12 : decode cX5_team 12 = .ok (.iconst 0, 1) := dk_3 (dk_at dksX5_team_0 12 rfl rfl)
theorem dX5_team_13 : decode cX5_team 13 = .ok (.iconst 1, 1) := dk_4 (dk_at dksX5_team_0 13 rfl rfl)
theorem dX5_team_14 : decode cX5_team 14 = .ok (.invokestatic 368, 3) := dk_184 1 112 (dk_at dksX5_team_0 14 rfl rfl)
theorem dX5_team_17 : decode cX5_team 17 = .ok (.ifCond .ne 5, 3) := dk_154 0 5 (dk_at dksX5_team_0 17 rfl rfl)
theorem dX5_team_20 : decode cX5_team 20 = .ok (.iconst (-1), 1) := dk_2 (dk_at dksX5_team_0 20 rfl rfl)
theorem dX5_team_21 : decode cX5_team 21 = .ok (.ireturn, 1) := dk_172 (dk_at dksX5_team_0 21 rfl rfl)
theorem dX5_team_22 : decode cX5_team 22 = .ok (.iconst (-1), 1) := dk_2 (dk_at dksX5_team_0 22 rfl rfl)
theorem dX5_team_23 : decode cX5_team 23 = .ok (.istore_n 3, 1) := dk_62 (dk_at dksX5_team_0 23 rfl rfl)
theorem dX5_team_24 : decode cX5_team 24 = .ok (.iconst 0, 1) := dk_3 (dk_at dksX5_team_1 0 rfl rfl)
theorem dX5_team_25 : decode cX5_team 25 = .ok (.istore 4, 2) := dk_54 4 (dk_at dksX5_team_1 1 rfl rfl)
theorem dX5_team_27 : decode cX5_team 27 = .ok (.iload 4, 2) := dk_21 4 (dk_at dksX5_team_1 3 rfl rfl)
theorem dX5_team_29 : decode cX5_team 29 = .ok (.iconst 1, 1) := dk_4 (dk_at dksX5_team_1 5 rfl rfl)
theorem dX5_team_30 : decode cX5_team 30 = .ok (.aload_n 0, 1) := dk_42 (dk_at dksX5_team_1 6 rfl rfl)
theorem dX5_team_31 : decode cX5_team 31 = .ok (.getfield 350, 3) := dk_180 1 94 (dk_at dksX5_team_1 7 rfl rfl)
theorem dX5_team_34 : decode cX5_team 34 = .ok (.ishl, 1) := dk_120 (dk_at dksX5_team_1 10 rfl rfl)
theorem dX5_team_35 : decode cX5_team 35 = .ok (.if_icmp .ge 82, 3) := dk_162 0 82 (dk_at dksX5_team_1 11 rfl rfl)
theorem dX5_team_38 : decode cX5_team 38 = .ok (.iconst 0, 1) := dk_3 (dk_at dksX5_team_1 14 rfl rfl)
theorem dX5_team_39 : decode cX5_team 39 = .ok (.istore 5, 2) := dk_54 5 (dk_at dksX5_team_1 15 rfl rfl)
theorem dX5_team_41 : decode cX5_team 41 = .ok (.iconst 0, 1) := dk_3 (dk_at dksX5_team_1 17 rfl rfl)
theorem dX5_team_42 : decode cX5_team 42 = .ok (.istore 6, 2) := dk_54 6 (dk_at dksX5_team_1 18 rfl rfl)
theorem dX5_team_44 : decode cX5_team 44 = .ok (.iload 6, 2) := dk_21 6 (dk_at dksX5_team_1 20 rfl rfl)
theorem dX5_team_46 : decode cX5_team 46 = .ok (.aload_n 0, 1) := dk_42 (dk_at dksX5_team_1 22 rfl rfl)
theorem dX5_team_47 : decode cX5_team 47 = .ok (.getfield 350, 3) := dk_180 1 94 (dk_at dksX5_team_2 0 rfl rfl)
theorem dX5_team_50 : decode cX5_team 50 = .ok (.if_icmp .ge 36, 3) := dk_162 0 36 (dk_at dksX5_team_2 3 rfl rfl)
theorem dX5_team_53 : decode cX5_team 53 = .ok (.iload 5, 2) := dk_21 5 (dk_at dksX5_team_2 6 rfl rfl)
theorem dX5_team_55 : decode cX5_team 55 = .ok (.iload 4, 2) := dk_21 4 (dk_at dksX5_team_2 8 rfl rfl)
theorem dX5_team_57 : decode cX5_team 57 = .ok (.iload 6, 2) := dk_21 6 (dk_at dksX5_team_2 10 rfl rfl)
theorem dX5_team_59 : decode cX5_team 59 = .ok (.ishr, 1) := dk_122 (dk_at dksX5_team_2 12 rfl rfl)
theorem dX5_team_60 : decode cX5_team 60 = .ok (.iconst 1, 1) := dk_4 (dk_at dksX5_team_2 13 rfl rfl)
theorem dX5_team_61 : decode cX5_team 61 = .ok (.iand, 1) := dk_126 (dk_at dksX5_team_2 14 rfl rfl)
theorem dX5_team_62 : decode cX5_team 62 = .ok (.iconst 1, 1) := dk_4 (dk_at dksX5_team_2 15 rfl rfl)
theorem dX5_team_63 : decode cX5_team 63 = .ok (.if_icmp .ne 13, 3) := dk_160 0 13 (dk_at dksX5_team_2 16 rfl rfl)
theorem dX5_team_66 : decode cX5_team 66 = .ok (.aload_n 0, 1) := dk_42 (dk_at dksX5_team_2 19 rfl rfl)
theorem dX5_team_67 : decode cX5_team 67 = .ok (.getfield 85, 3) := dk_180 0 85 (dk_at dksX5_team_2 20 rfl rfl)
theorem dX5_team_70 : decode cX5_team 70 = .ok (.iload 6, 2) := dk_21 6 (dk_at dksX5_team_3 0 rfl rfl)
theorem dX5_team_72 : decode cX5_team 72 = .ok (.iaload, 1) := dk_46 (dk_at dksX5_team_3 2 rfl rfl)
theorem dX5_team_73 : decode cX5_team 73 = .ok (.goto 4, 3) := dk_167 0 4 (dk_at dksX5_team_3 3 rfl rfl)
theorem dX5_team_76 : decode cX5_team 76 = .ok (.iconst 0, 1) := dk_3 (dk_at dksX5_team_3 6 rfl rfl)
theorem dX5_team_77 : decode cX5_team 77 = .ok (.iadd, 1) := dk_96 (dk_at dksX5_team_3 7 rfl rfl)
theorem dX5_team_78 : decode cX5_team 78 = .ok (.istore 5, 2) := dk_54 5 (dk_at dksX5_team_3 8 rfl rfl)
theorem dX5_team_80 : decode cX5_team 80 = .ok (.iinc 6 1, 3) := dk_132 6 1 (dk_at dksX5_team_3 10 rfl rfl)
theorem dX5_team_83 : decode cX5_team 83 = .ok (.goto (-39), 3) := dk_167 255 217 (dk_at dksX5_team_3 13 rfl rfl)
theorem dX5_team_86 : decode cX5_team 86 = .ok (.iload 5, 2) := dk_21 5 (dk_at dksX5_team_3 16 rfl rfl)
theorem dX5_team_88 : decode cX5_team 88 = .ok (.iload_n 1, 1) := dk_27 (dk_at dksX5_team_3 18 rfl rfl)
theorem dX5_team_89 : decode cX5_team 89 = .ok (.if_icmp .lt 22, 3) := dk_161 0 22 (dk_at dksX5_team_3 19 rfl rfl)
theorem dX5_team_92 : decode cX5_team 92 = .ok (.iload_n 3, 1) := dk_29 (dk_at dksX5_team_3 22 rfl rfl)
theorem dX5_team_93 : decode cX5_team 93 = .ok (.ifCond .lt 15, 3) := dk_155 0 15 (dk_at dksX5_team_4 0 rfl rfl)
theorem dX5_team_96 : decode cX5_team 96 = .ok (.iload 4, 2) := dk_21 4 (dk_at dksX5_team_4 3 rfl rfl)
theorem dX5_team_98 : decode cX5_team 98 = .ok (.invokestatic 479, 3) := dk_184 1 223 (dk_at dksX5_team_4 5 rfl rfl)
theorem dX5_team_101 : decode cX5_team 101 = .ok (.iload_n 3, 1) := dk_29 (dk_at dksX5_team_4 8 rfl rfl)
theorem dX5_team_102 : decode cX5_team 102 = .ok (.invokestatic 479, 3) := dk_184 1 223 (dk_at dksX5_team_4 9 rfl rfl)
theorem dX5_team_105 : decode cX5_team 105 = .ok (.if_icmp .ge 6, 3) := dk_162 0 6 (dk_at dksX5_team_4 12 rfl rfl)
theorem dX5_team_108 : decode cX5_team 108 = .ok (.iload 4, 2) := dk_21 4 (dk_at dksX5_team_4 15 rfl rfl)
theorem dX5_team_110 : decode cX5_team 110 = .ok (.istore_n 3, 1) := dk_62 (dk_at dksX5_team_4 17 rfl rfl)
theorem dX5_team_111 : decode cX5_team 111 = .ok (.iinc 4 1, 3) := dk_132 4 1 (dk_at dksX5_team_4 18 rfl rfl)
theorem dX5_team_114 : decode cX5_team 114 = .ok (.goto (-87), 3) := dk_167 255 169 (dk_at dksX5_team_4 21 rfl rfl)
theorem dX5_team_117 : decode cX5_team 117 = .ok (.iload_n 3, 1) := dk_29 (dk_at dksX5_team_5 0 rfl rfl)
theorem dX5_team_118 : decode cX5_team 118 = .ok (.ifCond .ge 7, 3) := dk_156 0 7 (dk_at dksX5_team_5 1 rfl rfl)
theorem dX5_team_121 : decode cX5_team 121 = .ok (.iconst (-1), 1) := dk_2 (dk_at dksX5_team_5 4 rfl rfl)
theorem dX5_team_122 : decode cX5_team 122 = .ok (.goto 15, 3) := dk_167 0 15 (dk_at dksX5_team_5 5 rfl rfl)
theorem dX5_team_125 : decode cX5_team 125 = .ok (.iload_n 2, 1) := dk_28 (dk_at dksX5_team_5 8 rfl rfl)
theorem dX5_team_126 : decode cX5_team 126 = .ok (.ifCond .ne 10, 3) := dk_154 0 10 (dk_at dksX5_team_5 9 rfl rfl)
theorem dX5_team_129 : decode cX5_team 129 = .ok (.iload_n 3, 1) := dk_29 (dk_at dksX5_team_5 12 rfl rfl)
theorem dX5_team_130 : decode cX5_team 130 = .ok (.invokestatic 479, 3) := dk_184 1 223 (dk_at dksX5_team_5 13 rfl rfl)
theorem dX5_team_133 : decode cX5_team 133 = .ok (.goto 4, 3) := dk_167 0 4 (dk_at dksX5_team_5 16 rfl rfl)
theorem dX5_team_136 : decode cX5_team 136 = .ok (.iload_n 3, 1) := dk_29 (dk_at dksX5_team_5 19 rfl rfl)
theorem dX5_team_137 : decode cX5_team 137 = .ok (.ireturn, 1) := dk_172 (dk_at dksX5_team_5 20 rfl rfl)
abbrev cX5_ladder : ByteArray := prog_17_method_110_code
def yX5_ladder : MethodName := ⟨RX5, "ladder", "(I)I"⟩
def dkwX5_ladder_5 : List UInt8 := [132, 3, 255, 167, 255, 161, 42, 180, 0, 115, 3, 46, 172]
abbrev dktX5_ladder_5 : List UInt8 := dkwX5_ladder_5 ++ []
def dkwX5_ladder_4 : List UInt8 := [180, 0, 115, 29, 46, 164, 0, 11, 42, 180, 0, 115, 29, 21, 5, 79, 132, 4, 1, 167, 255, 197]
abbrev dktX5_ladder_4 : List UInt8 := dkwX5_ladder_4 ++ dktX5_ladder_5
def dkwX5_ladder_3 : List UInt8 := [21, 4, 2, 3, 182, 1, 148, 42, 180, 0, 115, 29, 21, 4, 96, 46, 96, 54, 5, 21, 5, 42]
abbrev dktX5_ladder_3 : List UInt8 := dkwX5_ladder_3 ++ dktX5_ladder_4
def dkwX5_ladder_2 : List UInt8 := [3, 79, 4, 54, 4, 21, 4, 42, 180, 0, 82, 163, 0, 56, 29, 21, 4, 96, 28, 163, 0, 48, 42]
abbrev dktX5_ladder_2 : List UInt8 := dkwX5_ladder_2 ++ dktX5_ladder_3
def dkwX5_ladder_1 : List UInt8 := [155, 0, 97, 42, 180, 0, 88, 16, 24, 42, 180, 0, 85, 16, 24, 46, 29, 96, 79, 42, 180, 0, 115, 29]
abbrev dktX5_ladder_1 : List UInt8 := dkwX5_ladder_1 ++ dktX5_ladder_2
def dkwX5_ladder_0 : List UInt8 := [42, 27, 182, 1, 126, 154, 0, 5, 2, 172, 42, 182, 1, 138, 42, 180, 0, 88, 27, 46, 61, 28, 62, 29]
abbrev dktX5_ladder_0 : List UInt8 := dkwX5_ladder_0 ++ dktX5_ladder_1
theorem dksX5_ladder_0 : cX5_ladder.data.toList.drop 0 = dktX5_ladder_0 := by decide +kernel
theorem dksX5_ladder_1 : cX5_ladder.data.toList.drop 24 = dktX5_ladder_1 := dk_seg dksX5_ladder_0 24 rfl rfl
theorem dksX5_ladder_2 : cX5_ladder.data.toList.drop 48 = dktX5_ladder_2 := dk_seg dksX5_ladder_1 24 rfl rfl
theorem dksX5_ladder_3 : cX5_ladder.data.toList.drop 71 = dktX5_ladder_3 := dk_seg dksX5_ladder_2 23 rfl rfl
theorem dksX5_ladder_4 : cX5_ladder.data.toList.drop 93 = dktX5_ladder_4 := dk_seg dksX5_ladder_3 22 rfl rfl
theorem dksX5_ladder_5 : cX5_ladder.data.toList.drop 115 = dktX5_ladder_5 := dk_seg dksX5_ladder_4 22 rfl rfl
theorem dX5_ladder_0 : decode cX5_ladder 0 = .ok (.aload_n 0, 1) := dk_42 (dk_at dksX5_ladder_0 0 rfl rfl)
theorem dX5_ladder_1 : decode cX5_ladder 1 = .ok (.iload_n 1, 1) := dk_27 (dk_at dksX5_ladder_0 1 rfl rfl)
theorem dX5_ladder_2 : decode cX5_ladder 2 = .ok (.invokevirtual 382, 3) := dk_182 1 126 (dk_at dksX5_ladder_0 2 rfl rfl)
theorem dX5_ladder_5 : decode cX5_ladder 5 = .ok (.ifCond .ne 5, 3) := dk_154 0 5 (dk_at dksX5_ladder_0 5 rfl rfl)
theorem dX5_ladder_8 : decode cX5_ladder 8 = .ok (.iconst (-1), 1) := dk_2 (dk_at dksX5_ladder_0 8 rfl rfl)
theorem dX5_ladder_9 : decode cX5_ladder 9 = .ok (.ireturn, 1) := dk_172 (dk_at dksX5_ladder_0 9 rfl rfl)
theorem dX5_ladder_10 : decode cX5_ladder 10 = .ok (.aload_n 0, 1) := dk_42 (dk_at dksX5_ladder_0 10 rfl rfl)
theorem dX5_ladder_11 : decode cX5_ladder 11 = .ok (.invokevirtual 394, 3) := dk_182 1 138 (dk_at dksX5_ladder_0 11 rfl rfl)
theorem dX5_ladder_14 : decode cX5_ladder 14 = .ok (.aload_n 0, 1) := dk_42 (dk_at dksX5_ladder_0 14 rfl rfl)
theorem dX5_ladder_15 : decode cX5_ladder 15 = .ok (.getfield 88, 3) := dk_180 0 88 (dk_at dksX5_ladder_0 15 rfl rfl)
theorem dX5_ladder_18 : decode cX5_ladder 18 = .ok (.iload_n 1, 1) := dk_27 (dk_at dksX5_ladder_0 18 rfl rfl)
theorem dX5_ladder_19 : decode cX5_ladder 19 = .ok (.iaload, 1) := dk_46 (dk_at dksX5_ladder_0 19 rfl rfl)
theorem dX5_ladder_20 : decode cX5_ladder 20 = .ok (.istore_n 2, 1) := dk_61 (dk_at dksX5_ladder_0 20 rfl rfl)
theorem dX5_ladder_21 : decode cX5_ladder 21 = .ok (.iload_n 2, 1) := dk_28 (dk_at dksX5_ladder_0 21 rfl rfl)
theorem dX5_ladder_22 : decode cX5_ladder 22 = .ok (.istore_n 3, 1) := dk_62 (dk_at dksX5_ladder_0 22 rfl rfl)
theorem dX5_ladder_23 : decode cX5_ladder 23 = .ok (.iload_n 3, 1) := dk_29 (dk_at dksX5_ladder_0 23 rfl rfl)
theorem dX5_ladder_24 : decode cX5_ladder 24 = .ok (.ifCond .lt 97, 3) := dk_155 0 97 (dk_at dksX5_ladder_1 0 rfl rfl)
theorem dX5_ladder_27 : decode cX5_ladder 27 = .ok (.aload_n 0, 1) := dk_42 (dk_at dksX5_ladder_1 3 rfl rfl)
theorem dX5_ladder_28 : decode cX5_ladder 28 = .ok (.getfield 88, 3) := dk_180 0 88 (dk_at dksX5_ladder_1 4 rfl rfl)
theorem dX5_ladder_31 : decode cX5_ladder 31 = .ok (.bipush 24, 2) := dk_16 24 (dk_at dksX5_ladder_1 7 rfl rfl)
theorem dX5_ladder_33 : decode cX5_ladder 33 = .ok (.aload_n 0, 1) := dk_42 (dk_at dksX5_ladder_1 9 rfl rfl)
theorem dX5_ladder_34 : decode cX5_ladder 34 = .ok (.getfield 85, 3) := dk_180 0 85 (dk_at dksX5_ladder_1 10 rfl rfl)
theorem dX5_ladder_37 : decode cX5_ladder 37 = .ok (.bipush 24, 2) := dk_16 24 (dk_at dksX5_ladder_1 13 rfl rfl)
theorem dX5_ladder_39 : decode cX5_ladder 39 = .ok (.iaload, 1) := dk_46 (dk_at dksX5_ladder_1 15 rfl rfl)
theorem dX5_ladder_40 : decode cX5_ladder 40 = .ok (.iload_n 3, 1) := dk_29 (dk_at dksX5_ladder_1 16 rfl rfl)
theorem dX5_ladder_41 : decode cX5_ladder 41 = .ok (.iadd, 1) := dk_96 (dk_at dksX5_ladder_1 17 rfl rfl)
theorem dX5_ladder_42 : decode cX5_ladder 42 = .ok (.iastore, 1) := dk_79 (dk_at dksX5_ladder_1 18 rfl rfl)
theorem dX5_ladder_43 : decode cX5_ladder 43 = .ok (.aload_n 0, 1) := dk_42 (dk_at dksX5_ladder_1 19 rfl rfl)
theorem dX5_ladder_44 : decode cX5_ladder 44 = .ok (.getfield 115, 3) := dk_180 0 115 (dk_at dksX5_ladder_1 20 rfl rfl)
theorem dX5_ladder_47 : decode cX5_ladder 47 = .ok (.iload_n 3, 1) := dk_29 (dk_at dksX5_ladder_1 23 rfl rfl)
theorem dX5_ladder_48 : decode cX5_ladder 48 = .ok (.iconst 0, 1) := dk_3 (dk_at dksX5_ladder_2 0 rfl rfl)
theorem dX5_ladder_49 : decode cX5_ladder 49 = .ok (.iastore, 1) := dk_79 (dk_at dksX5_ladder_2 1 rfl rfl)
theorem dX5_ladder_50 : decode cX5_ladder 50 = .ok (.iconst 1, 1) := dk_4 (dk_at dksX5_ladder_2 2 rfl rfl)
theorem dX5_ladder_51 : decode cX5_ladder 51 = .ok (.istore 4, 2) := dk_54 4 (dk_at dksX5_ladder_2 3 rfl rfl)
theorem dX5_ladder_53 : decode cX5_ladder 53 = .ok (.iload 4, 2) := dk_21 4 (dk_at dksX5_ladder_2 5 rfl rfl)
theorem dX5_ladder_55 : decode cX5_ladder 55 = .ok (.aload_n 0, 1) := dk_42 (dk_at dksX5_ladder_2 7 rfl rfl)
theorem dX5_ladder_56 : decode cX5_ladder 56 = .ok (.getfield 82, 3) := dk_180 0 82 (dk_at dksX5_ladder_2 8 rfl rfl)
theorem dX5_ladder_59 : decode cX5_ladder 59 = .ok (.if_icmp .gt 56, 3) := dk_163 0 56 (dk_at dksX5_ladder_2 11 rfl rfl)
theorem dX5_ladder_62 : decode cX5_ladder 62 = .ok (.iload_n 3, 1) := dk_29 (dk_at dksX5_ladder_2 14 rfl rfl)
theorem dX5_ladder_63 : decode cX5_ladder 63 = .ok (.iload 4, 2) := dk_21 4 (dk_at dksX5_ladder_2 15 rfl rfl)
theorem dX5_ladder_65 : decode cX5_ladder 65 = .ok (.iadd, 1) := dk_96 (dk_at dksX5_ladder_2 17 rfl rfl)
theorem dX5_ladder_66 : decode cX5_ladder 66 = .ok (.iload_n 2, 1) := dk_28 (dk_at dksX5_ladder_2 18 rfl rfl)
theorem dX5_ladder_67 : decode cX5_ladder 67 = .ok (.if_icmp .gt 48, 3) := dk_163 0 48 (dk_at dksX5_ladder_2 19 rfl rfl)
theorem dX5_ladder_70 : decode cX5_ladder 70 = .ok (.aload_n 0, 1) := dk_42 (dk_at dksX5_ladder_2 22 rfl rfl)
theorem dX5_ladder_71 : decode cX5_ladder 71 = .ok (.iload 4, 2) := dk_21 4 (dk_at dksX5_ladder_3 0 rfl rfl)
theorem dX5_ladder_73 : decode cX5_ladder 73 = .ok (.iconst (-1), 1) := dk_2 (dk_at dksX5_ladder_3 2 rfl rfl)
theorem dX5_ladder_74 : decode cX5_ladder 74 = .ok (.iconst 0, 1) := dk_3 (dk_at dksX5_ladder_3 3 rfl rfl)
theorem dX5_ladder_75 : decode cX5_ladder 75 = .ok (.invokevirtual 404, 3) := dk_182 1 148 (dk_at dksX5_ladder_3 4 rfl rfl)
theorem dX5_ladder_78 : decode cX5_ladder 78 = .ok (.aload_n 0, 1) := dk_42 (dk_at dksX5_ladder_3 7 rfl rfl)
theorem dX5_ladder_79 : decode cX5_ladder 79 = .ok (.getfield 115, 3) := dk_180 0 115 (dk_at dksX5_ladder_3 8 rfl rfl)
theorem dX5_ladder_82 : decode cX5_ladder 82 = .ok (.iload_n 3, 1) := dk_29 (dk_at dksX5_ladder_3 11 rfl rfl)
theorem dX5_ladder_83 : decode cX5_ladder 83 = .ok (.iload 4, 2) := dk_21 4 (dk_at dksX5_ladder_3 12 rfl rfl)
theorem dX5_ladder_85 : decode cX5_ladder 85 = .ok (.iadd, 1) := dk_96 (dk_at dksX5_ladder_3 14 rfl rfl)
theorem dX5_ladder_86 : decode cX5_ladder 86 = .ok (.iaload, 1) := dk_46 (dk_at dksX5_ladder_3 15 rfl rfl)
theorem dX5_ladder_87 : decode cX5_ladder 87 = .ok (.iadd, 1) := dk_96 (dk_at dksX5_ladder_3 16 rfl rfl)
theorem dX5_ladder_88 : decode cX5_ladder 88 = .ok (.istore 5, 2) := dk_54 5 (dk_at dksX5_ladder_3 17 rfl rfl)
theorem dX5_ladder_90 : decode cX5_ladder 90 = .ok (.iload 5, 2) := dk_21 5 (dk_at dksX5_ladder_3 19 rfl rfl)
theorem dX5_ladder_92 : decode cX5_ladder 92 = .ok (.aload_n 0, 1) := dk_42 (dk_at dksX5_ladder_3 21 rfl rfl)
theorem dX5_ladder_93 : decode cX5_ladder 93 = .ok (.getfield 115, 3) := dk_180 0 115 (dk_at dksX5_ladder_4 0 rfl rfl)
theorem dX5_ladder_96 : decode cX5_ladder 96 = .ok (.iload_n 3, 1) := dk_29 (dk_at dksX5_ladder_4 3 rfl rfl)
theorem dX5_ladder_97 : decode cX5_ladder 97 = .ok (.iaload, 1) := dk_46 (dk_at dksX5_ladder_4 4 rfl rfl)
theorem dX5_ladder_98 : decode cX5_ladder 98 = .ok (.if_icmp .le 11, 3) := dk_164 0 11 (dk_at dksX5_ladder_4 5 rfl rfl)
theorem dX5_ladder_101 : decode cX5_ladder 101 = .ok (.aload_n 0, 1) := dk_42 (dk_at dksX5_ladder_4 8 rfl rfl)
theorem dX5_ladder_102 : decode cX5_ladder 102 = .ok (.getfield 115, 3) := dk_180 0 115 (dk_at dksX5_ladder_4 9 rfl rfl)
theorem dX5_ladder_105 : decode cX5_ladder 105 = .ok (.iload_n 3, 1) := dk_29 (dk_at dksX5_ladder_4 12 rfl rfl)
theorem dX5_ladder_106 : decode cX5_ladder 106 = .ok (.iload 5, 2) := dk_21 5 (dk_at dksX5_ladder_4 13 rfl rfl)
theorem dX5_ladder_108 : decode cX5_ladder 108 = .ok (.iastore, 1) := dk_79 (dk_at dksX5_ladder_4 15 rfl rfl)
theorem dX5_ladder_109 : decode cX5_ladder 109 = .ok (.iinc 4 1, 3) := dk_132 4 1 (dk_at dksX5_ladder_4 16 rfl rfl)
theorem dX5_ladder_112 : decode cX5_ladder 112 = .ok (.goto (-59), 3) := dk_167 255 197 (dk_at dksX5_ladder_4 19 rfl rfl)
theorem dX5_ladder_115 : decode cX5_ladder 115 = .ok (.iinc 3 (-1), 3) := dk_132 3 255 (dk_at dksX5_ladder_5 0 rfl rfl)
theorem dX5_ladder_118 : decode cX5_ladder 118 = .ok (.goto (-95), 3) := dk_167 255 161 (dk_at dksX5_ladder_5 3 rfl rfl)
theorem dX5_ladder_121 : decode cX5_ladder 121 = .ok (.aload_n 0, 1) := dk_42 (dk_at dksX5_ladder_5 6 rfl rfl)
theorem dX5_ladder_122 : decode cX5_ladder 122 = .ok (.getfield 115, 3) := dk_180 0 115 (dk_at dksX5_ladder_5 7 rfl rfl)
theorem dX5_ladder_125 : decode cX5_ladder 125 = .ok (.iconst 0, 1) := dk_3 (dk_at dksX5_ladder_5 10 rfl rfl)
theorem dX5_ladder_126 : decode cX5_ladder 126 = .ok (.iaload, 1) := dk_46 (dk_at dksX5_ladder_5 11 rfl rfl)
theorem dX5_ladder_127 : decode cX5_ladder 127 = .ok (.ireturn, 1) := dk_172 (dk_at dksX5_ladder_5 12 rfl rfl)
abbrev cX5_lies : ByteArray := prog_17_method_111_code
def yX5_lies : MethodName := ⟨RX5, "lies", "(I)I"⟩
def dkwX5_lies_1 : List UInt8 := [16, 254, 172]
abbrev dktX5_lies_1 : List UInt8 := dkwX5_lies_1 ++ []
def dkwX5_lies_0 : List UInt8 := [27, 3, 42, 180, 1, 109, 4, 100, 184, 1, 112, 153, 0, 12, 42, 180, 0, 97, 27, 46, 167, 0, 5]
abbrev dktX5_lies_0 : List UInt8 := dkwX5_lies_0 ++ dktX5_lies_1
theorem dksX5_lies_0 : cX5_lies.data.toList.drop 0 = dktX5_lies_0 := by decide +kernel
theorem dksX5_lies_1 : cX5_lies.data.toList.drop 23 = dktX5_lies_1 := dk_seg dksX5_lies_0 23 rfl rfl
theorem dX5_lies_0 : decode cX5_lies 0 = .ok (.iload_n 1, 1) := dk_27 (dk_at dksX5_lies_0 0 rfl rfl)
theorem dX5_lies_1 : decode cX5_lies 1 = .ok (.iconst 0, 1) := dk_3 (dk_at dksX5_lies_0 1 rfl rfl)
theorem dX5_lies_2 : decode cX5_lies 2 = .ok (.aload_n 0, 1) := dk_42 (dk_at dksX5_lies_0 2 rfl rfl)
theorem dX5_lies_3 : decode cX5_lies 3 = .ok (.getfield 365, 3) := dk_180 1 109 (dk_at dksX5_lies_0 3 rfl rfl)
theorem dX5_lies_6 : decode cX5_lies 6 = .ok (.iconst 1, 1) := dk_4 (dk_at dksX5_lies_0 6 rfl rfl)
theorem dX5_lies_7 : decode cX5_lies 7 = .ok (.isub, 1) := dk_100 (dk_at dksX5_lies_0 7 rfl rfl)
theorem dX5_lies_8 : decode cX5_lies 8 = .ok (.invokestatic 368, 3) := dk_184 1 112 (dk_at dksX5_lies_0 8 rfl rfl)
theorem dX5_lies_11 : decode cX5_lies 11 = .ok (.ifCond .eq 12, 3) := dk_153 0 12 (dk_at dksX5_lies_0 11 rfl rfl)
theorem dX5_lies_14 : decode cX5_lies 14 = .ok (.aload_n 0, 1) := dk_42 (dk_at dksX5_lies_0 14 rfl rfl)
theorem dX5_lies_15 : decode cX5_lies 15 = .ok (.getfield 97, 3) := dk_180 0 97 (dk_at dksX5_lies_0 15 rfl rfl)
theorem dX5_lies_18 : decode cX5_lies 18 = .ok (.iload_n 1, 1) := dk_27 (dk_at dksX5_lies_0 18 rfl rfl)
theorem dX5_lies_19 : decode cX5_lies 19 = .ok (.iaload, 1) := dk_46 (dk_at dksX5_lies_0 19 rfl rfl)
theorem dX5_lies_20 : decode cX5_lies 20 = .ok (.goto 5, 3) := dk_167 0 5 (dk_at dksX5_lies_0 20 rfl rfl)
theorem dX5_lies_23 : decode cX5_lies 23 = .ok (.bipush (-2), 2) := dk_16 254 (dk_at dksX5_lies_1 0 rfl rfl)
theorem dX5_lies_25 : decode cX5_lies 25 = .ok (.ireturn, 1) := dk_172 (dk_at dksX5_lies_1 2 rfl rfl)
abbrev cX5_chalk : ByteArray := prog_17_method_113_code
def yX5_chalk : MethodName := ⟨RX5, "chalk", "(IZ)I"⟩
def dkwX5_chalk_0 : List UInt8 := [27, 3, 42, 180, 0, 82, 184, 1, 112, 153, 0, 13, 42, 3, 27, 28, 182, 1, 232, 167, 0, 4, 2, 172]
abbrev dktX5_chalk_0 : List UInt8 := dkwX5_chalk_0 ++ []
theorem dksX5_chalk_0 : cX5_chalk.data.toList.drop 0 = dktX5_chalk_0 := by decide +kernel
theorem dX5_chalk_0 : decode cX5_chalk 0 = .ok (.iload_n 1, 1) := dk_27 (dk_at dksX5_chalk_0 0 rfl rfl)
theorem dX5_chalk_1 : decode cX5_chalk 1 = .ok (.iconst 0, 1) := dk_3 (dk_at dksX5_chalk_0 1 rfl rfl)
theorem dX5_chalk_2 : decode cX5_chalk 2 = .ok (.aload_n 0, 1) := dk_42 (dk_at dksX5_chalk_0 2 rfl rfl)
theorem dX5_chalk_3 : decode cX5_chalk 3 = .ok (.getfield 82, 3) := dk_180 0 82 (dk_at dksX5_chalk_0 3 rfl rfl)
theorem dX5_chalk_6 : decode cX5_chalk 6 = .ok (.invokestatic 368, 3) := dk_184 1 112 (dk_at dksX5_chalk_0 6 rfl rfl)
theorem dX5_chalk_9 : decode cX5_chalk 9 = .ok (.ifCond .eq 13, 3) := dk_153 0 13 (dk_at dksX5_chalk_0 9 rfl rfl)
theorem dX5_chalk_12 : decode cX5_chalk 12 = .ok (.aload_n 0, 1) := dk_42 (dk_at dksX5_chalk_0 12 rfl rfl)
theorem dX5_chalk_13 : decode cX5_chalk 13 = .ok (.iconst 0, 1) := dk_3 (dk_at dksX5_chalk_0 13 rfl rfl)
theorem dX5_chalk_14 : decode cX5_chalk 14 = .ok (.iload_n 1, 1) := dk_27 (dk_at dksX5_chalk_0 14 rfl rfl)
theorem dX5_chalk_15 : decode cX5_chalk 15 = .ok (.iload_n 2, 1) := dk_28 (dk_at dksX5_chalk_0 15 rfl rfl)
theorem dX5_chalk_16 : decode cX5_chalk 16 = .ok (.invokevirtual 488, 3) := dk_182 1 232 (dk_at dksX5_chalk_0 16 rfl rfl)
theorem dX5_chalk_19 : decode cX5_chalk 19 = .ok (.goto 4, 3) := dk_167 0 4 (dk_at dksX5_chalk_0 19 rfl rfl)
theorem dX5_chalk_22 : decode cX5_chalk 22 = .ok (.iconst (-1), 1) := dk_2 (dk_at dksX5_chalk_0 22 rfl rfl)
theorem dX5_chalk_23 : decode cX5_chalk 23 = .ok (.ireturn, 1) := dk_172 (dk_at dksX5_chalk_0 23 rfl rfl)
abbrev cX5_mark : ByteArray := prog_17_method_112_code
def yX5_mark : MethodName := ⟨RX5, "mark", "(IIZ)I"⟩
def dkwX5_mark_3 : List UInt8 := [96, 181, 1, 106, 42, 180, 1, 106, 4, 100, 172]
abbrev dktX5_mark_3 : List UInt8 := dkwX5_mark_3 ++ []
def dkwX5_mark_2 : List UInt8 := [180, 1, 106, 42, 180, 1, 229, 79, 42, 180, 0, 127, 42, 180, 1, 106, 2, 79, 42, 89, 180, 1, 106, 4]
abbrev dktX5_mark_2 : List UInt8 := dkwX5_mark_2 ++ dktX5_mark_3
def dkwX5_mark_1 : List UInt8 := [180, 0, 121, 42, 180, 1, 106, 28, 79, 42, 180, 0, 130, 42, 180, 1, 106, 29, 84, 42, 180, 0, 124, 42]
abbrev dktX5_mark_1 : List UInt8 := dkwX5_mark_1 ++ dktX5_mark_2
def dkwX5_mark_0 : List UInt8 := [42, 180, 1, 106, 16, 30, 160, 0, 5, 2, 172, 42, 180, 0, 118, 42, 180, 1, 106, 27, 79, 42]
abbrev dktX5_mark_0 : List UInt8 := dkwX5_mark_0 ++ dktX5_mark_1
theorem dksX5_mark_0 : cX5_mark.data.toList.drop 0 = dktX5_mark_0 := by decide +kernel
theorem dksX5_mark_1 : cX5_mark.data.toList.drop 22 = dktX5_mark_1 := dk_seg dksX5_mark_0 22 rfl rfl
theorem dksX5_mark_2 : cX5_mark.data.toList.drop 46 = dktX5_mark_2 := dk_seg dksX5_mark_1 24 rfl rfl
theorem dksX5_mark_3 : cX5_mark.data.toList.drop 70 = dktX5_mark_3 := dk_seg dksX5_mark_2 24 rfl rfl
theorem dX5_mark_0 : decode cX5_mark 0 = .ok (.aload_n 0, 1) := dk_42 (dk_at dksX5_mark_0 0 rfl rfl)
theorem dX5_mark_1 : decode cX5_mark 1 = .ok (.getfield 362, 3) := dk_180 1 106 (dk_at dksX5_mark_0 1 rfl rfl)
theorem dX5_mark_4 : decode cX5_mark 4 = .ok (.bipush 30, 2) := dk_16 30 (dk_at dksX5_mark_0 4 rfl rfl)
theorem dX5_mark_6 : decode cX5_mark 6 = .ok (.if_icmp .ne 5, 3) := dk_160 0 5 (dk_at dksX5_mark_0 6 rfl rfl)
theorem dX5_mark_9 : decode cX5_mark 9 = .ok (.iconst (-1), 1) := dk_2 (dk_at dksX5_mark_0 9 rfl rfl)
theorem dX5_mark_10 : decode cX5_mark 10 = .ok (.ireturn, 1) := dk_172 (dk_at dksX5_mark_0 10 rfl rfl)
theorem dX5_mark_11 : decode cX5_mark 11 = .ok (.aload_n 0, 1) := dk_42 (dk_at dksX5_mark_0 11 rfl rfl)
theorem dX5_mark_12 : decode cX5_mark 12 = .ok (.getfield 118, 3) := dk_180 0 118 (dk_at dksX5_mark_0 12 rfl rfl)
theorem dX5_mark_15 : decode cX5_mark 15 = .ok (.aload_n 0, 1) := dk_42 (dk_at dksX5_mark_0 15 rfl rfl)
theorem dX5_mark_16 : decode cX5_mark 16 = .ok (.getfield 362, 3) := dk_180 1 106 (dk_at dksX5_mark_0 16 rfl rfl)
theorem dX5_mark_19 : decode cX5_mark 19 = .ok (.iload_n 1, 1) := dk_27 (dk_at dksX5_mark_0 19 rfl rfl)
theorem dX5_mark_20 : decode cX5_mark 20 = .ok (.iastore, 1) := dk_79 (dk_at dksX5_mark_0 20 rfl rfl)
theorem dX5_mark_21 : decode cX5_mark 21 = .ok (.aload_n 0, 1) := dk_42 (dk_at dksX5_mark_0 21 rfl rfl)
theorem dX5_mark_22 : decode cX5_mark 22 = .ok (.getfield 121, 3) := dk_180 0 121 (dk_at dksX5_mark_1 0 rfl rfl)
theorem dX5_mark_25 : decode cX5_mark 25 = .ok (.aload_n 0, 1) := dk_42 (dk_at dksX5_mark_1 3 rfl rfl)
theorem dX5_mark_26 : decode cX5_mark 26 = .ok (.getfield 362, 3) := dk_180 1 106 (dk_at dksX5_mark_1 4 rfl rfl)
theorem dX5_mark_29 : decode cX5_mark 29 = .ok (.iload_n 2, 1) := dk_28 (dk_at dksX5_mark_1 7 rfl rfl)
theorem dX5_mark_30 : decode cX5_mark 30 = .ok (.iastore, 1) := dk_79 (dk_at dksX5_mark_1 8 rfl rfl)
theorem dX5_mark_31 : decode cX5_mark 31 = .ok (.aload_n 0, 1) := dk_42 (dk_at dksX5_mark_1 9 rfl rfl)
theorem dX5_mark_32 : decode cX5_mark 32 = .ok (.getfield 130, 3) := dk_180 0 130 (dk_at dksX5_mark_1 10 rfl rfl)
theorem dX5_mark_35 : decode cX5_mark 35 = .ok (.aload_n 0, 1) := dk_42 (dk_at dksX5_mark_1 13 rfl rfl)
theorem dX5_mark_36 : decode cX5_mark 36 = .ok (.getfield 362, 3) := dk_180 1 106 (dk_at dksX5_mark_1 14 rfl rfl)
theorem dX5_mark_39 : decode cX5_mark 39 = .ok (.iload_n 3, 1) := dk_29 (dk_at dksX5_mark_1 17 rfl rfl)
theorem dX5_mark_40 : decode cX5_mark 40 = .ok (.bastore, 1) := dk_84 (dk_at dksX5_mark_1 18 rfl rfl)
theorem dX5_mark_41 : decode cX5_mark 41 = .ok (.aload_n 0, 1) := dk_42 (dk_at dksX5_mark_1 19 rfl rfl)
theorem dX5_mark_42 : decode cX5_mark 42 = .ok (.getfield 124, 3) := dk_180 0 124 (dk_at dksX5_mark_1 20 rfl rfl)
theorem dX5_mark_45 : decode cX5_mark 45 = .ok (.aload_n 0, 1) := dk_42 (dk_at dksX5_mark_1 23 rfl rfl)
theorem dX5_mark_46 : decode cX5_mark 46 = .ok (.getfield 362, 3) := dk_180 1 106 (dk_at dksX5_mark_2 0 rfl rfl)
theorem dX5_mark_49 : decode cX5_mark 49 = .ok (.aload_n 0, 1) := dk_42 (dk_at dksX5_mark_2 3 rfl rfl)
theorem dX5_mark_50 : decode cX5_mark 50 = .ok (.getfield 485, 3) := dk_180 1 229 (dk_at dksX5_mark_2 4 rfl rfl)
theorem dX5_mark_53 : decode cX5_mark 53 = .ok (.iastore, 1) := dk_79 (dk_at dksX5_mark_2 7 rfl rfl)
theorem dX5_mark_54 : decode cX5_mark 54 = .ok (.aload_n 0, 1) := dk_42 (dk_at dksX5_mark_2 8 rfl rfl)
theorem dX5_mark_55 : decode cX5_mark 55 = .ok (.getfield 127, 3) := dk_180 0 127 (dk_at dksX5_mark_2 9 rfl rfl)
theorem dX5_mark_58 : decode cX5_mark 58 = .ok (.aload_n 0, 1) := dk_42 (dk_at dksX5_mark_2 12 rfl rfl)
theorem dX5_mark_59 : decode cX5_mark 59 = .ok (.getfield 362, 3) := dk_180 1 106 (dk_at dksX5_mark_2 13 rfl rfl)
theorem dX5_mark_62 : decode cX5_mark 62 = .ok (.iconst (-1), 1) := dk_2 (dk_at dksX5_mark_2 16 rfl rfl)
theorem dX5_mark_63 : decode cX5_mark 63 = .ok (.iastore, 1) := dk_79 (dk_at dksX5_mark_2 17 rfl rfl)
theorem dX5_mark_64 : decode cX5_mark 64 = .ok (.aload_n 0, 1) := dk_42 (dk_at dksX5_mark_2 18 rfl rfl)
theorem dX5_mark_65 : decode cX5_mark 65 = .ok (.dup, 1) := dk_89 (dk_at dksX5_mark_2 19 rfl rfl)
theorem dX5_mark_66 : decode cX5_mark 66 = .ok (.getfield 362, 3) := dk_180 1 106 (dk_at dksX5_mark_2 20 rfl rfl)
theorem dX5_mark_69 : decode cX5_mark 69 = .ok (.iconst 1, 1) := dk_4 (dk_at dksX5_mark_2 23 rfl rfl)
theorem dX5_mark_70 : decode cX5_mark 70 = .ok (.iadd, 1) := dk_96 (dk_at dksX5_mark_3 0 rfl rfl)
theorem dX5_mark_71 : decode cX5_mark 71 = .ok (.putfield 362, 3) := dk_181 1 106 (dk_at dksX5_mark_3 1 rfl rfl)
theorem dX5_mark_74 : decode cX5_mark 74 = .ok (.aload_n 0, 1) := dk_42 (dk_at dksX5_mark_3 4 rfl rfl)
theorem dX5_mark_75 : decode cX5_mark 75 = .ok (.getfield 362, 3) := dk_180 1 106 (dk_at dksX5_mark_3 5 rfl rfl)
theorem dX5_mark_78 : decode cX5_mark 78 = .ok (.iconst 1, 1) := dk_4 (dk_at dksX5_mark_3 8 rfl rfl)
theorem dX5_mark_79 : decode cX5_mark 79 = .ok (.isub, 1) := dk_100 (dk_at dksX5_mark_3 9 rfl rfl)
theorem dX5_mark_80 : decode cX5_mark 80 = .ok (.ireturn, 1) := dk_172 (dk_at dksX5_mark_3 10 rfl rfl)
abbrev cX5_tread : ByteArray := prog_17_method_114_code
def yX5_tread : MethodName := ⟨RX5, "tread", "(IZ)I"⟩
def dkwX5_tread_0 : List UInt8 := [27, 3, 16, 9, 184, 1, 112, 153, 0, 13, 42, 4, 27, 28, 182, 1, 232, 167, 0, 4, 2, 172]
abbrev dktX5_tread_0 : List UInt8 := dkwX5_tread_0 ++ []
theorem dksX5_tread_0 : cX5_tread.data.toList.drop 0 = dktX5_tread_0 := by decide +kernel
theorem dX5_tread_0 : decode cX5_tread 0 = .ok (.iload_n 1, 1) := dk_27 (dk_at dksX5_tread_0 0 rfl rfl)
theorem dX5_tread_1 : decode cX5_tread 1 = .ok (.iconst 0, 1) := dk_3 (dk_at dksX5_tread_0 1 rfl rfl)
theorem dX5_tread_2 : decode cX5_tread 2 = .ok (.bipush 9, 2) := dk_16 9 (dk_at dksX5_tread_0 2 rfl rfl)
theorem dX5_tread_4 : decode cX5_tread 4 = .ok (.invokestatic 368, 3) := dk_184 1 112 (dk_at dksX5_tread_0 4 rfl rfl)
theorem dX5_tread_7 : decode cX5_tread 7 = .ok (.ifCond .eq 13, 3) := dk_153 0 13 (dk_at dksX5_tread_0 7 rfl rfl)
theorem dX5_tread_10 : decode cX5_tread 10 = .ok (.aload_n 0, 1) := dk_42 (dk_at dksX5_tread_0 10 rfl rfl)
theorem dX5_tread_11 : decode cX5_tread 11 = .ok (.iconst 1, 1) := dk_4 (dk_at dksX5_tread_0 11 rfl rfl)
theorem dX5_tread_12 : decode cX5_tread 12 = .ok (.iload_n 1, 1) := dk_27 (dk_at dksX5_tread_0 12 rfl rfl)
theorem dX5_tread_13 : decode cX5_tread 13 = .ok (.iload_n 2, 1) := dk_28 (dk_at dksX5_tread_0 13 rfl rfl)
theorem dX5_tread_14 : decode cX5_tread 14 = .ok (.invokevirtual 488, 3) := dk_182 1 232 (dk_at dksX5_tread_0 14 rfl rfl)
theorem dX5_tread_17 : decode cX5_tread 17 = .ok (.goto 4, 3) := dk_167 0 4 (dk_at dksX5_tread_0 17 rfl rfl)
theorem dX5_tread_20 : decode cX5_tread 20 = .ok (.iconst (-1), 1) := dk_2 (dk_at dksX5_tread_0 20 rfl rfl)
theorem dX5_tread_21 : decode cX5_tread 21 = .ok (.ireturn, 1) := dk_172 (dk_at dksX5_tread_0 21 rfl rfl)
abbrev cX5_untell : ByteArray := prog_17_method_115_code
def yX5_untell : MethodName := ⟨RX5, "untell", "(I)Z"⟩
def dkwX5_untell_1 : List UInt8 := [172, 42, 180, 0, 127, 27, 42, 180, 1, 229, 79, 4, 172]
abbrev dktX5_untell_1 : List UInt8 := dkwX5_untell_1 ++ []
def dkwX5_untell_0 : List UInt8 := [27, 3, 42, 180, 1, 106, 4, 100, 184, 1, 112, 153, 0, 12, 42, 180, 0, 127, 27, 46, 155, 0, 5, 3]
abbrev dktX5_untell_0 : List UInt8 := dkwX5_untell_0 ++ dktX5_untell_1
theorem dksX5_untell_0 : cX5_untell.data.toList.drop 0 = dktX5_untell_0 := by decide +kernel
theorem dksX5_untell_1 : cX5_untell.data.toList.drop 24 = dktX5_untell_1 := dk_seg dksX5_untell_0 24 rfl rfl
theorem dX5_untell_0 : decode cX5_untell 0 = .ok (.iload_n 1, 1) := dk_27 (dk_at dksX5_untell_0 0 rfl rfl)
theorem dX5_untell_1 : decode cX5_untell 1 = .ok (.iconst 0, 1) := dk_3 (dk_at dksX5_untell_0 1 rfl rfl)
theorem dX5_untell_2 : decode cX5_untell 2 = .ok (.aload_n 0, 1) := dk_42 (dk_at dksX5_untell_0 2 rfl rfl)
theorem dX5_untell_3 : decode cX5_untell 3 = .ok (.getfield 362, 3) := dk_180 1 106 (dk_at dksX5_untell_0 3 rfl rfl)
theorem dX5_untell_6 : decode cX5_untell 6 = .ok (.iconst 1, 1) := dk_4 (dk_at dksX5_untell_0 6 rfl rfl)
theorem dX5_untell_7 : decode cX5_untell 7 = .ok (.isub, 1) := dk_100 (dk_at dksX5_untell_0 7 rfl rfl)
theorem dX5_untell_8 : decode cX5_untell 8 = .ok (.invokestatic 368, 3) := dk_184 1 112 (dk_at dksX5_untell_0 8 rfl rfl)
theorem dX5_untell_11 : decode cX5_untell 11 = .ok (.ifCond .eq 12, 3) := dk_153 0 12 (dk_at dksX5_untell_0 11 rfl rfl)
theorem dX5_untell_14 : decode cX5_untell 14 = .ok (.aload_n 0, 1) := dk_42 (dk_at dksX5_untell_0 14 rfl rfl)
theorem dX5_untell_15 : decode cX5_untell 15 = .ok (.getfield 127, 3) := dk_180 0 127 (dk_at dksX5_untell_0 15 rfl rfl)
theorem dX5_untell_18 : decode cX5_untell 18 = .ok (.iload_n 1, 1) := dk_27 (dk_at dksX5_untell_0 18 rfl rfl)
theorem dX5_untell_19 : decode cX5_untell 19 = .ok (.iaload, 1) := dk_46 (dk_at dksX5_untell_0 19 rfl rfl)
theorem dX5_untell_20 : decode cX5_untell 20 = .ok (.ifCond .lt 5, 3) := dk_155 0 5 (dk_at dksX5_untell_0 20 rfl rfl)
theorem dX5_untell_23 : decode cX5_untell 23 = .ok (.iconst 0, 1) := dk_3 (dk_at dksX5_untell_0 23 rfl rfl)
theorem dX5_untell_24 : decode cX5_untell 24 = .ok (.ireturn, 1) := dk_172 (dk_at dksX5_untell_1 0 rfl rfl)
theorem dX5_untell_25 : decode cX5_untell 25 = .ok (.aload_n 0, 1) := dk_42 (dk_at dksX5_untell_1 1 rfl rfl)
theorem dX5_untell_26 : decode cX5_untell 26 = .ok (.getfield 127, 3) := dk_180 0 127 (dk_at dksX5_untell_1 2 rfl rfl)
theorem dX5_untell_29 : decode cX5_untell 29 = .ok (.iload_n 1, 1) := dk_27 (dk_at dksX5_untell_1 5 rfl rfl)
theorem dX5_untell_30 : decode cX5_untell 30 = .ok (.aload_n 0, 1) := dk_42 (dk_at dksX5_untell_1 6 rfl rfl)
theorem dX5_untell_31 : decode cX5_untell 31 = .ok (.getfield 485, 3) := dk_180 1 229 (dk_at dksX5_untell_1 7 rfl rfl)
theorem dX5_untell_34 : decode cX5_untell 34 = .ok (.iastore, 1) := dk_79 (dk_at dksX5_untell_1 10 rfl rfl)
theorem dX5_untell_35 : decode cX5_untell 35 = .ok (.iconst 1, 1) := dk_4 (dk_at dksX5_untell_1 11 rfl rfl)
theorem dX5_untell_36 : decode cX5_untell 36 = .ok (.ireturn, 1) := dk_172 (dk_at dksX5_untell_1 12 rfl rfl)
abbrev cX5_later : ByteArray := prog_17_method_116_code
def yX5_later : MethodName := ⟨RX5, "later", "(I)I"⟩
def dkwX5_later_1 : List UInt8 := [172, 42, 89, 180, 1, 229, 27, 96, 181, 1, 229, 42, 180, 1, 229, 172]
abbrev dktX5_later_1 : List UInt8 := dkwX5_later_1 ++ []
def dkwX5_later_0 : List UInt8 := [27, 155, 0, 22, 27, 17, 3, 232, 163, 0, 15, 42, 180, 1, 229, 27, 96, 19, 1, 236, 164, 0, 5, 2]
abbrev dktX5_later_0 : List UInt8 := dkwX5_later_0 ++ dktX5_later_1
theorem dksX5_later_0 : cX5_later.data.toList.drop 0 = dktX5_later_0 := by decide +kernel
theorem dksX5_later_1 : cX5_later.data.toList.drop 24 = dktX5_later_1 := dk_seg dksX5_later_0 24 rfl rfl
theorem dX5_later_0 : decode cX5_later 0 = .ok (.iload_n 1, 1) := dk_27 (dk_at dksX5_later_0 0 rfl rfl)
theorem dX5_later_1 : decode cX5_later 1 = .ok (.ifCond .lt 22, 3) := dk_155 0 22 (dk_at dksX5_later_0 1 rfl rfl)
theorem dX5_later_4 : decode cX5_later 4 = .ok (.iload_n 1, 1) := dk_27 (dk_at dksX5_later_0 4 rfl rfl)
theorem dX5_later_5 : decode cX5_later 5 = .ok (.sipush 1000, 3) := dk_17 3 232 (dk_at dksX5_later_0 5 rfl rfl)
theorem dX5_later_8 : decode cX5_later 8 = .ok (.if_icmp .gt 15, 3) := dk_163 0 15 (dk_at dksX5_later_0 8 rfl rfl)
theorem dX5_later_11 : decode cX5_later 11 = .ok (.aload_n 0, 1) := dk_42 (dk_at dksX5_later_0 11 rfl rfl)
theorem dX5_later_12 : decode cX5_later 12 = .ok (.getfield 485, 3) := dk_180 1 229 (dk_at dksX5_later_0 12 rfl rfl)
theorem dX5_later_15 : decode cX5_later 15 = .ok (.iload_n 1, 1) := dk_27 (dk_at dksX5_later_0 15 rfl rfl)
theorem dX5_later_16 : decode cX5_later 16 = .ok (.iadd, 1) := dk_96 (dk_at dksX5_later_0 16 rfl rfl)
theorem dX5_later_17 : decode cX5_later 17 = .ok (.ldc_w 492, 3) := dk_19 1 236 (dk_at dksX5_later_0 17 rfl rfl)
theorem dX5_later_20 : decode cX5_later 20 = .ok (.if_icmp .le 5, 3) := dk_164 0 5 (dk_at dksX5_later_0 20 rfl rfl)
theorem dX5_later_23 : decode cX5_later 23 = .ok (.iconst (-1), 1) := dk_2 (dk_at dksX5_later_0 23 rfl rfl)
theorem dX5_later_24 : decode cX5_later 24 = .ok (.ireturn, 1) := dk_172 (dk_at dksX5_later_1 0 rfl rfl)
theorem dX5_later_25 : decode cX5_later 25 = .ok (.aload_n 0, 1) := dk_42 (dk_at dksX5_later_1 1 rfl rfl)
theorem dX5_later_26 : decode cX5_later 26 = .ok (.dup, 1) := dk_89 (dk_at dksX5_later_1 2 rfl rfl)
theorem dX5_later_27 : decode cX5_later 27 = .ok (.getfield 485, 3) := dk_180 1 229 (dk_at dksX5_later_1 3 rfl rfl)
theorem dX5_later_30 : decode cX5_later 30 = .ok (.iload_n 1, 1) := dk_27 (dk_at dksX5_later_1 6 rfl rfl)
theorem dX5_later_31 : decode cX5_later 31 = .ok (.iadd, 1) := dk_96 (dk_at dksX5_later_1 7 rfl rfl)
theorem dX5_later_32 : decode cX5_later 32 = .ok (.putfield 485, 3) := dk_181 1 229 (dk_at dksX5_later_1 8 rfl rfl)
theorem dX5_later_35 : decode cX5_later 35 = .ok (.aload_n 0, 1) := dk_42 (dk_at dksX5_later_1 11 rfl rfl)
theorem dX5_later_36 : decode cX5_later 36 = .ok (.getfield 485, 3) := dk_180 1 229 (dk_at dksX5_later_1 12 rfl rfl)
theorem dX5_later_39 : decode cX5_later 39 = .ok (.ireturn, 1) := dk_172 (dk_at dksX5_later_1 15 rfl rfl)
abbrev cX5_runs : ByteArray := prog_17_method_119_code
def yX5_runs : MethodName := ⟨RX5, "runs", "(I)I"⟩
def dkwX5_runs_1 : List UInt8 := [167, 255, 236, 28, 172]
abbrev dktX5_runs_1 : List UInt8 := dkwX5_runs_1 ++ []
def dkwX5_runs_0 : List UInt8 := [3, 61, 3, 62, 29, 42, 180, 1, 94, 162, 0, 18, 28, 42, 29, 27, 182, 1, 240, 96, 61, 132, 3, 1]
abbrev dktX5_runs_0 : List UInt8 := dkwX5_runs_0 ++ dktX5_runs_1
theorem dksX5_runs_0 : cX5_runs.data.toList.drop 0 = dktX5_runs_0 := by decide +kernel
theorem dksX5_runs_1 : cX5_runs.data.toList.drop 24 = dktX5_runs_1 := dk_seg dksX5_runs_0 24 rfl rfl
theorem dX5_runs_0 : decode cX5_runs 0 = .ok (.iconst 0, 1) := dk_3 (dk_at dksX5_runs_0 0 rfl rfl)
theorem dX5_runs_1 : decode cX5_runs 1 = .ok (.istore_n 2, 1) := dk_61 (dk_at dksX5_runs_0 1 rfl rfl)
theorem dX5_runs_2 : decode cX5_runs 2 = .ok (.iconst 0, 1) := dk_3 (dk_at dksX5_runs_0 2 rfl rfl)
theorem dX5_runs_3 : decode cX5_runs 3 = .ok (.istore_n 3, 1) := dk_62 (dk_at dksX5_runs_0 3 rfl rfl)
theorem dX5_runs_4 : decode cX5_runs 4 = .ok (.iload_n 3, 1) := dk_29 (dk_at dksX5_runs_0 4 rfl rfl)
theorem dX5_runs_5 : decode cX5_runs 5 = .ok (.aload_n 0, 1) := dk_42 (dk_at dksX5_runs_0 5 rfl rfl)
theorem dX5_runs_6 : decode cX5_runs 6 = .ok (.getfield 350, 3) := dk_180 1 94 (dk_at dksX5_runs_0 6 rfl rfl)
theorem dX5_runs_9 : decode cX5_runs 9 = .ok (.if_icmp .ge 18, 3) := dk_162 0 18 (dk_at dksX5_runs_0 9 rfl rfl)
theorem dX5_runs_12 : decode cX5_runs 12 = .ok (.iload_n 2, 1) := dk_28 (dk_at dksX5_runs_0 12 rfl rfl)
theorem dX5_runs_13 : decode cX5_runs 13 = .ok (.aload_n 0, 1) := dk_42 (dk_at dksX5_runs_0 13 rfl rfl)
theorem dX5_runs_14 : decode cX5_runs 14 = .ok (.iload_n 3, 1) := dk_29 (dk_at dksX5_runs_0 14 rfl rfl)
theorem dX5_runs_15 : decode cX5_runs 15 = .ok (.iload_n 1, 1) := dk_27 (dk_at dksX5_runs_0 15 rfl rfl)
theorem dX5_runs_16 : decode cX5_runs 16 = .ok (.invokevirtual 496, 3) := dk_182 1 240 (dk_at dksX5_runs_0 16 rfl rfl)
theorem dX5_runs_19 : decode cX5_runs 19 = .ok (.iadd, 1) := dk_96 (dk_at dksX5_runs_0 19 rfl rfl)
theorem dX5_runs_20 : decode cX5_runs 20 = .ok (.istore_n 2, 1) := dk_61 (dk_at dksX5_runs_0 20 rfl rfl)
theorem dX5_runs_21 : decode cX5_runs 21 = .ok (.iinc 3 1, 3) := dk_132 3 1 (dk_at dksX5_runs_0 21 rfl rfl)
theorem dX5_runs_24 : decode cX5_runs 24 = .ok (.goto (-20), 3) := dk_167 255 236 (dk_at dksX5_runs_1 0 rfl rfl)
theorem dX5_runs_27 : decode cX5_runs 27 = .ok (.iload_n 2, 1) := dk_28 (dk_at dksX5_runs_1 3 rfl rfl)
theorem dX5_runs_28 : decode cX5_runs 28 = .ok (.ireturn, 1) := dk_172 (dk_at dksX5_runs_1 4 rfl rfl)
abbrev cX5_runsOf : ByteArray := prog_17_method_118_code
def yX5_runsOf : MethodName := ⟨RX5, "runsOf", "(II)I"⟩
def dkwX5_runsOf_2 : List UInt8 := [132, 5, 1, 167, 255, 228, 132, 4, 1, 167, 255, 207, 29, 172]
abbrev dktX5_runsOf_2 : List UInt8 := dkwX5_runsOf_2 ++ []
def dkwX5_runsOf_1 : List UInt8 := [180, 0, 82, 163, 0, 25, 29, 42, 27, 21, 4, 21, 5, 28, 182, 1, 237, 184, 1, 48, 96, 62]
abbrev dktX5_runsOf_1 : List UInt8 := dkwX5_runsOf_1 ++ dktX5_runsOf_2
def dkwX5_runsOf_0 : List UInt8 := [3, 62, 3, 54, 4, 21, 4, 42, 180, 0, 82, 162, 0, 46, 21, 4, 4, 96, 54, 5, 21, 5, 42]
abbrev dktX5_runsOf_0 : List UInt8 := dkwX5_runsOf_0 ++ dktX5_runsOf_1
theorem dksX5_runsOf_0 : cX5_runsOf.data.toList.drop 0 = dktX5_runsOf_0 := by decide +kernel
theorem dksX5_runsOf_1 : cX5_runsOf.data.toList.drop 23 = dktX5_runsOf_1 := dk_seg dksX5_runsOf_0 23 rfl rfl
theorem dksX5_runsOf_2 : cX5_runsOf.data.toList.drop 45 = dktX5_runsOf_2 := dk_seg dksX5_runsOf_1 22 rfl rfl
theorem dX5_runsOf_0 : decode cX5_runsOf 0 = .ok (.iconst 0, 1) := dk_3 (dk_at dksX5_runsOf_0 0 rfl rfl)
theorem dX5_runsOf_1 : decode cX5_runsOf 1 = .ok (.istore_n 3, 1) := dk_62 (dk_at dksX5_runsOf_0 1 rfl rfl)
theorem dX5_runsOf_2 : decode cX5_runsOf 2 = .ok (.iconst 0, 1) := dk_3 (dk_at dksX5_runsOf_0 2 rfl rfl)
theorem dX5_runsOf_3 : decode cX5_runsOf 3 = .ok (.istore 4, 2) := dk_54 4 (dk_at dksX5_runsOf_0 3 rfl rfl)
theorem dX5_runsOf_5 : decode cX5_runsOf 5 = .ok (.iload 4, 2) := dk_21 4 (dk_at dksX5_runsOf_0 5 rfl rfl)
theorem dX5_runsOf_7 : decode cX5_runsOf 7 = .ok (.aload_n 0, 1) := dk_42 (dk_at dksX5_runsOf_0 7 rfl rfl)
theorem dX5_runsOf_8 : decode cX5_runsOf 8 = .ok (.getfield 82, 3) := dk_180 0 82 (dk_at dksX5_runsOf_0 8 rfl rfl)
theorem dX5_runsOf_11 : decode cX5_runsOf 11 = .ok (.if_icmp .ge 46, 3) := dk_162 0 46 (dk_at dksX5_runsOf_0 11 rfl rfl)
theorem dX5_runsOf_14 : decode cX5_runsOf 14 = .ok (.iload 4, 2) := dk_21 4 (dk_at dksX5_runsOf_0 14 rfl rfl)
theorem dX5_runsOf_16 : decode cX5_runsOf 16 = .ok (.iconst 1, 1) := dk_4 (dk_at dksX5_runsOf_0 16 rfl rfl)
theorem dX5_runsOf_17 : decode cX5_runsOf 17 = .ok (.iadd, 1) := dk_96 (dk_at dksX5_runsOf_0 17 rfl rfl)
theorem dX5_runsOf_18 : decode cX5_runsOf 18 = .ok (.istore 5, 2) := dk_54 5 (dk_at dksX5_runsOf_0 18 rfl rfl)
theorem dX5_runsOf_20 : decode cX5_runsOf 20 = .ok (.iload 5, 2) := dk_21 5 (dk_at dksX5_runsOf_0 20 rfl rfl)
theorem dX5_runsOf_22 : decode cX5_runsOf 22 = .ok (.aload_n 0, 1) := dk_42 (dk_at dksX5_runsOf_0 22 rfl rfl)
theorem dX5_runsOf_23 : decode cX5_runsOf 23 = .ok (.getfield 82, 3) := dk_180 0 82 (dk_at dksX5_runsOf_1 0 rfl rfl)
theorem dX5_runsOf_26 : decode cX5_runsOf 26 = .ok (.if_icmp .gt 25, 3) := dk_163 0 25 (dk_at dksX5_runsOf_1 3 rfl rfl)
theorem dX5_runsOf_29 : decode cX5_runsOf 29 = .ok (.iload_n 3, 1) := dk_29 (dk_at dksX5_runsOf_1 6 rfl rfl)
theorem dX5_runsOf_30 : decode cX5_runsOf 30 = .ok (.aload_n 0, 1) := dk_42 (dk_at dksX5_runsOf_1 7 rfl rfl)
theorem dX5_runsOf_31 : decode cX5_runsOf 31 = .ok (.iload_n 1, 1) := dk_27 (dk_at dksX5_runsOf_1 8 rfl rfl)
theorem dX5_runsOf_32 : decode cX5_runsOf 32 = .ok (.iload 4, 2) := dk_21 4 (dk_at dksX5_runsOf_1 9 rfl rfl)
theorem dX5_runsOf_34 : decode cX5_runsOf 34 = .ok (.iload 5, 2) := dk_21 5 (dk_at dksX5_runsOf_1 11 rfl rfl)
theorem dX5_runsOf_36 : decode cX5_runsOf 36 = .ok (.iload_n 2, 1) := dk_28 (dk_at dksX5_runsOf_1 13 rfl rfl)
theorem dX5_runsOf_37 : decode cX5_runsOf 37 = .ok (.invokevirtual 493, 3) := dk_182 1 237 (dk_at dksX5_runsOf_1 14 rfl rfl)
theorem dX5_runsOf_40 : decode cX5_runsOf 40 = .ok (.invokestatic 304, 3) := dk_184 1 48 (dk_at dksX5_runsOf_1 17 rfl rfl)
theorem dX5_runsOf_43 : decode cX5_runsOf 43 = .ok (.iadd, 1) := dk_96 (dk_at dksX5_runsOf_1 20 rfl rfl)
theorem dX5_runsOf_44 : decode cX5_runsOf 44 = .ok (.istore_n 3, 1) := dk_62 (dk_at dksX5_runsOf_1 21 rfl rfl)
theorem dX5_runsOf_45 : decode cX5_runsOf 45 = .ok (.iinc 5 1, 3) := dk_132 5 1 (dk_at dksX5_runsOf_2 0 rfl rfl)
theorem dX5_runsOf_48 : decode cX5_runsOf 48 = .ok (.goto (-28), 3) := dk_167 255 228 (dk_at dksX5_runsOf_2 3 rfl rfl)
theorem dX5_runsOf_51 : decode cX5_runsOf 51 = .ok (.iinc 4 1, 3) := dk_132 4 1 (dk_at dksX5_runsOf_2 6 rfl rfl)
theorem dX5_runsOf_54 : decode cX5_runsOf 54 = .ok (.goto (-49), 3) := dk_167 255 207 (dk_at dksX5_runsOf_2 9 rfl rfl)
theorem dX5_runsOf_57 : decode cX5_runsOf 57 = .ok (.iload_n 3, 1) := dk_29 (dk_at dksX5_runsOf_2 12 rfl rfl)
theorem dX5_runsOf_58 : decode cX5_runsOf 58 = .ok (.ireturn, 1) := dk_172 (dk_at dksX5_runsOf_2 13 rfl rfl)
abbrev cX5_isRun : ByteArray := prog_17_method_117_code
def yX5_isRun : MethodName := ⟨RX5, "isRun", "(IIII)Z"⟩
def dkwX5_isRun_6 : List UInt8 := [54, 5, 132, 6, 1, 167, 255, 135, 21, 5, 172]
abbrev dktX5_isRun_6 : List UInt8 := dkwX5_isRun_6 ++ []
def dkwX5_isRun_5 : List UInt8 := [167, 0, 4, 3, 54, 7, 21, 7, 42, 180, 0, 130, 21, 6, 51, 160, 0, 7, 4, 167, 0, 4, 3]
abbrev dktX5_isRun_5 : List UInt8 := dkwX5_isRun_5 ++ dktX5_isRun_6
def dkwX5_isRun_4 : List UInt8 := [184, 1, 112, 167, 0, 24, 42, 180, 0, 73, 27, 46, 42, 180, 0, 121, 21, 6, 46, 161, 0, 7, 4]
abbrev dktX5_isRun_4 : List UInt8 := dkwX5_isRun_4 ++ dktX5_isRun_5
def dkwX5_isRun_3 : List UInt8 := [167, 0, 70, 42, 180, 0, 118, 21, 6, 46, 154, 0, 18, 42, 180, 0, 121, 21, 6, 46, 28, 29]
abbrev dktX5_isRun_3 : List UInt8 := dkwX5_isRun_3 ++ dktX5_isRun_4
def dkwX5_isRun_2 : List UInt8 := [42, 180, 0, 127, 21, 6, 46, 155, 0, 18, 42, 180, 0, 127, 21, 6, 46, 21, 4, 163, 0, 6]
abbrev dktX5_isRun_2 : List UInt8 := dkwX5_isRun_2 ++ dktX5_isRun_3
def dkwX5_isRun_1 : List UInt8 := [42, 180, 1, 106, 162, 0, 118, 21, 5, 153, 0, 113, 42, 180, 0, 124, 21, 6, 46, 21, 4, 163, 0, 95]
abbrev dktX5_isRun_1 : List UInt8 := dkwX5_isRun_1 ++ dktX5_isRun_2
def dkwX5_isRun_0 : List UInt8 := [29, 28, 100, 42, 180, 0, 70, 27, 46, 163, 0, 7, 4, 167, 0, 4, 3, 54, 5, 3, 54, 6, 21, 6]
abbrev dktX5_isRun_0 : List UInt8 := dkwX5_isRun_0 ++ dktX5_isRun_1
theorem dksX5_isRun_0 : cX5_isRun.data.toList.drop 0 = dktX5_isRun_0 := by decide +kernel
theorem dksX5_isRun_1 : cX5_isRun.data.toList.drop 24 = dktX5_isRun_1 := dk_seg dksX5_isRun_0 24 rfl rfl
theorem dksX5_isRun_2 : cX5_isRun.data.toList.drop 48 = dktX5_isRun_2 := dk_seg dksX5_isRun_1 24 rfl rfl
theorem dksX5_isRun_3 : cX5_isRun.data.toList.drop 70 = dktX5_isRun_3 := dk_seg dksX5_isRun_2 22 rfl rfl
theorem dksX5_isRun_4 : cX5_isRun.data.toList.drop 92 = dktX5_isRun_4 := dk_seg dksX5_isRun_3 22 rfl rfl
theorem dksX5_isRun_5 : cX5_isRun.data.toList.drop 115 = dktX5_isRun_5 := dk_seg dksX5_isRun_4 23 rfl rfl
theorem dksX5_isRun_6 : cX5_isRun.data.toList.drop 138 = dktX5_isRun_6 := dk_seg dksX5_isRun_5 23 rfl rfl
theorem dX5_isRun_0 : decode cX5_isRun 0 = .ok (.iload_n 3, 1) := dk_29 (dk_at dksX5_isRun_0 0 rfl rfl)
theorem dX5_isRun_1 : decode cX5_isRun 1 = .ok (.iload_n 2, 1) := dk_28 (dk_at dksX5_isRun_0 1 rfl rfl)
theorem dX5_isRun_2 : decode cX5_isRun 2 = .ok (.isub, 1) := dk_100 (dk_at dksX5_isRun_0 2 rfl rfl)
theorem dX5_isRun_3 : decode cX5_isRun 3 = .ok (.aload_n 0, 1) := dk_42 (dk_at dksX5_isRun_0 3 rfl rfl)
theorem dX5_isRun_4 : decode cX5_isRun 4 = .ok (.getfield 70, 3) := dk_180 0 70 (dk_at dksX5_isRun_0 4 rfl rfl)
theorem dX5_isRun_7 : decode cX5_isRun 7 = .ok (.iload_n 1, 1) := dk_27 (dk_at dksX5_isRun_0 7 rfl rfl)
theorem dX5_isRun_8 : decode cX5_isRun 8 = .ok (.iaload, 1) := dk_46 (dk_at dksX5_isRun_0 8 rfl rfl)
theorem dX5_isRun_9 : decode cX5_isRun 9 = .ok (.if_icmp .gt 7, 3) := dk_163 0 7 (dk_at dksX5_isRun_0 9 rfl rfl)
theorem dX5_isRun_12 : decode cX5_isRun 12 = .ok (.iconst 1, 1) := dk_4 (dk_at dksX5_isRun_0 12 rfl rfl)
theorem dX5_isRun_13 : decode cX5_isRun 13 = .ok (.goto 4, 3) := dk_167 0 4 (dk_at dksX5_isRun_0 13 rfl rfl)
theorem dX5_isRun_16 : decode cX5_isRun 16 = .ok (.iconst 0, 1) := dk_3 (dk_at dksX5_isRun_0 16 rfl rfl)
theorem dX5_isRun_17 : decode cX5_isRun 17 = .ok (.istore 5, 2) := dk_54 5 (dk_at dksX5_isRun_0 17 rfl rfl)
theorem dX5_isRun_19 : decode cX5_isRun 19 = .ok (.iconst 0, 1) := dk_3 (dk_at dksX5_isRun_0 19 rfl rfl)
theorem dX5_isRun_20 : decode cX5_isRun 20 = .ok (.istore 6, 2) := dk_54 6 (dk_at dksX5_isRun_0 20 rfl rfl)
theorem dX5_isRun_22 : decode cX5_isRun 22 = .ok (.iload 6, 2) := dk_21 6 (dk_at dksX5_isRun_0 22 rfl rfl)
theorem dX5_isRun_24 : decode cX5_isRun 24 = .ok (.aload_n 0, 1) := dk_42 (dk_at dksX5_isRun_1 0 rfl rfl)
theorem dX5_isRun_25 : decode cX5_isRun 25 = .ok (.getfield 362, 3) := dk_180 1 106 (dk_at dksX5_isRun_1 1 rfl rfl)
theorem dX5_isRun_28 : decode cX5_isRun 28 = .ok (.if_icmp .ge 118, 3) := dk_162 0 118 (dk_at dksX5_isRun_1 4 rfl rfl)
theorem dX5_isRun_31 : decode cX5_isRun 31 = .ok (.iload 5, 2) := dk_21 5 (dk_at dksX5_isRun_1 7 rfl rfl)
theorem dX5_isRun_33 : decode cX5_isRun 33 = .ok (.ifCond .eq 113, 3) := dk_153 0 113 (dk_at dksX5_isRun_1 9 rfl rfl)
theorem dX5_isRun_36 : decode cX5_isRun 36 = .ok (.aload_n 0, 1) := dk_42 (dk_at dksX5_isRun_1 12 rfl rfl)
theorem dX5_isRun_37 : decode cX5_isRun 37 = .ok (.getfield 124, 3) := dk_180 0 124 (dk_at dksX5_isRun_1 13 rfl rfl)
theorem dX5_isRun_40 : decode cX5_isRun 40 = .ok (.iload 6, 2) := dk_21 6 (dk_at dksX5_isRun_1 16 rfl rfl)
theorem dX5_isRun_42 : decode cX5_isRun 42 = .ok (.iaload, 1) := dk_46 (dk_at dksX5_isRun_1 18 rfl rfl)
theorem dX5_isRun_43 : decode cX5_isRun 43 = .ok (.iload 4, 2) := dk_21 4 (dk_at dksX5_isRun_1 19 rfl rfl)
theorem dX5_isRun_45 : decode cX5_isRun 45 = .ok (.if_icmp .gt 95, 3) := dk_163 0 95 (dk_at dksX5_isRun_1 21 rfl rfl)
theorem dX5_isRun_48 : decode cX5_isRun 48 = .ok (.aload_n 0, 1) := dk_42 (dk_at dksX5_isRun_2 0 rfl rfl)
theorem dX5_isRun_49 : decode cX5_isRun 49 = .ok (.getfield 127, 3) := dk_180 0 127 (dk_at dksX5_isRun_2 1 rfl rfl)
theorem dX5_isRun_52 : decode cX5_isRun 52 = .ok (.iload 6, 2) := dk_21 6 (dk_at dksX5_isRun_2 4 rfl rfl)
theorem dX5_isRun_54 : decode cX5_isRun 54 = .ok (.iaload, 1) := dk_46 (dk_at dksX5_isRun_2 6 rfl rfl)
theorem dX5_isRun_55 : decode cX5_isRun 55 = .ok (.ifCond .lt 18, 3) := dk_155 0 18 (dk_at dksX5_isRun_2 7 rfl rfl)
theorem dX5_isRun_58 : decode cX5_isRun 58 = .ok (.aload_n 0, 1) := dk_42 (dk_at dksX5_isRun_2 10 rfl rfl)
theorem dX5_isRun_59 : decode cX5_isRun 59 = .ok (.getfield 127, 3) := dk_180 0 127 (dk_at dksX5_isRun_2 11 rfl rfl)
theorem dX5_isRun_62 : decode cX5_isRun 62 = .ok (.iload 6, 2) := dk_21 6 (dk_at dksX5_isRun_2 14 rfl rfl)
theorem dX5_isRun_64 : decode cX5_isRun 64 = .ok (.iaload, 1) := dk_46 (dk_at dksX5_isRun_2 16 rfl rfl)
theorem dX5_isRun_65 : decode cX5_isRun 65 = .ok (.iload 4, 2) := dk_21 4 (dk_at dksX5_isRun_2 17 rfl rfl)
theorem dX5_isRun_67 : decode cX5_isRun 67 = .ok (.if_icmp .gt 6, 3) := dk_163 0 6 (dk_at dksX5_isRun_2 19 rfl rfl)
theorem dX5_isRun_70 : decode cX5_isRun 70 = .ok (.goto 70, 3) := dk_167 0 70 (dk_at dksX5_isRun_3 0 rfl rfl)
theorem dX5_isRun_73 : decode cX5_isRun 73 = .ok (.aload_n 0, 1) := dk_42 (dk_at dksX5_isRun_3 3 rfl rfl)
theorem dX5_isRun_74 : decode cX5_isRun 74 = .ok (.getfield 118, 3) := dk_180 0 118 (dk_at dksX5_isRun_3 4 rfl rfl)
theorem dX5_isRun_77 : decode cX5_isRun 77 = .ok (.iload 6, 2) := dk_21 6 (dk_at dksX5_isRun_3 7 rfl rfl)
theorem dX5_isRun_79 : decode cX5_isRun 79 = .ok (.iaload, 1) := dk_46 (dk_at dksX5_isRun_3 9 rfl rfl)
theorem dX5_isRun_80 : decode cX5_isRun 80 = .ok (.ifCond .ne 18, 3) := dk_154 0 18 (dk_at dksX5_isRun_3 10 rfl rfl)
theorem dX5_isRun_83 : decode cX5_isRun 83 = .ok (.aload_n 0, 1) := dk_42 (dk_at dksX5_isRun_3 13 rfl rfl)
theorem dX5_isRun_84 : decode cX5_isRun 84 = .ok (.getfield 121, 3) := dk_180 0 121 (dk_at dksX5_isRun_3 14 rfl rfl)
theorem dX5_isRun_87 : decode cX5_isRun 87 = .ok (.iload 6, 2) := dk_21 6 (dk_at dksX5_isRun_3 17 rfl rfl)
theorem dX5_isRun_89 : decode cX5_isRun 89 = .ok (.iaload, 1) := dk_46 (dk_at dksX5_isRun_3 19 rfl rfl)
theorem dX5_isRun_90 : decode cX5_isRun 90 = .ok (.iload_n 2, 1) := dk_28 (dk_at dksX5_isRun_3 20 rfl rfl)
theorem dX5_isRun_91 : decode cX5_isRun 91 = .ok (.iload_n 3, 1) := dk_29 (dk_at dksX5_isRun_3 21 rfl rfl)
theorem dX5_isRun_92 : decode cX5_isRun 92 = .ok (.invokestatic 368, 3) := dk_184 1 112 (dk_at dksX5_isRun_4 0 rfl rfl)
theorem dX5_isRun_95 : decode cX5_isRun 95 = .ok (.goto 24, 3) := dk_167 0 24 (dk_at dksX5_isRun_4 3 rfl rfl)
theorem dX5_isRun_98 : decode cX5_isRun 98 = .ok (.aload_n 0, 1) := dk_42 (dk_at dksX5_isRun_4 6 rfl rfl)
theorem dX5_isRun_99 : decode cX5_isRun 99 = .ok (.getfield 73, 3) := dk_180 0 73 (dk_at dksX5_isRun_4 7 rfl rfl)
theorem dX5_isRun_102 : decode cX5_isRun 102 = .ok (.iload_n 1, 1) := dk_27 (dk_at dksX5_isRun_4 10 rfl rfl)
theorem dX5_isRun_103 : decode cX5_isRun 103 = .ok (.iaload, 1) := dk_46 (dk_at dksX5_isRun_4 11 rfl rfl)
theorem dX5_isRun_104 : decode cX5_isRun 104 = .ok (.aload_n 0, 1) := dk_42 (dk_at dksX5_isRun_4 12 rfl rfl)
theorem dX5_isRun_105 : decode cX5_isRun 105 = .ok (.getfield 121, 3) := dk_180 0 121 (dk_at dksX5_isRun_4 13 rfl rfl)
theorem dX5_isRun_108 : decode cX5_isRun 108 = .ok (.iload 6, 2) := dk_21 6 (dk_at dksX5_isRun_4 16 rfl rfl)
theorem dX5_isRun_110 : decode cX5_isRun 110 = .ok (.iaload, 1) := dk_46 (dk_at dksX5_isRun_4 18 rfl rfl)
theorem dX5_isRun_111 : decode cX5_isRun 111 = .ok (.if_icmp .lt 7, 3) := dk_161 0 7 (dk_at dksX5_isRun_4 19 rfl rfl)
theorem dX5_isRun_114 : decode cX5_isRun 114 = .ok (.iconst 1, 1) := dk_4 (dk_at dksX5_isRun_4 22 rfl rfl)
theorem dX5_isRun_115 : decode cX5_isRun 115 = .ok (.goto 4, 3) := dk_167 0 4 (dk_at dksX5_isRun_5 0 rfl rfl)
theorem dX5_isRun_118 : decode cX5_isRun 118 = .ok (.iconst 0, 1) := dk_3 (dk_at dksX5_isRun_5 3 rfl rfl)
theorem dX5_isRun_119 : decode cX5_isRun 119 = .ok (.istore 7, 2) := dk_54 7 (dk_at dksX5_isRun_5 4 rfl rfl)
theorem dX5_isRun_121 : decode cX5_isRun 121 = .ok (.iload 7, 2) := dk_21 7 (dk_at dksX5_isRun_5 6 rfl rfl)
theorem dX5_isRun_123 : decode cX5_isRun 123 = .ok (.aload_n 0, 1) := dk_42 (dk_at dksX5_isRun_5 8 rfl rfl)
theorem dX5_isRun_124 : decode cX5_isRun 124 = .ok (.getfield 130, 3) := dk_180 0 130 (dk_at dksX5_isRun_5 9 rfl rfl)
theorem dX5_isRun_127 : decode cX5_isRun 127 = .ok (.iload 6, 2) := dk_21 6 (dk_at dksX5_isRun_5 12 rfl rfl)
theorem dX5_isRun_129 : decode cX5_isRun 129 = .ok (.baload, 1) := dk_51 (dk_at dksX5_isRun_5 14 rfl rfl)
theorem dX5_isRun_130 : decode cX5_isRun 130 = .ok (.if_icmp .ne 7, 3) := dk_160 0 7 (dk_at dksX5_isRun_5 15 rfl rfl)
theorem dX5_isRun_133 : decode cX5_isRun 133 = .ok (.iconst 1, 1) := dk_4 (dk_at dksX5_isRun_5 18 rfl rfl)
theorem dX5_isRun_134 : decode cX5_isRun 134 = .ok (.goto 4, 3) := dk_167 0 4 (dk_at dksX5_isRun_5 19 rfl rfl)
theorem dX5_isRun_137 : decode cX5_isRun 137 = .ok (.iconst 0, 1) := dk_3 (dk_at dksX5_isRun_5 22 rfl rfl)
theorem dX5_isRun_138 : decode cX5_isRun 138 = .ok (.istore 5, 2) := dk_54 5 (dk_at dksX5_isRun_6 0 rfl rfl)
theorem dX5_isRun_140 : decode cX5_isRun 140 = .ok (.iinc 6 1, 3) := dk_132 6 1 (dk_at dksX5_isRun_6 2 rfl rfl)
theorem dX5_isRun_143 : decode cX5_isRun 143 = .ok (.goto (-121), 3) := dk_167 255 135 (dk_at dksX5_isRun_6 5 rfl rfl)
theorem dX5_isRun_146 : decode cX5_isRun 146 = .ok (.iload 5, 2) := dk_21 5 (dk_at dksX5_isRun_6 8 rfl rfl)
theorem dX5_isRun_148 : decode cX5_isRun 148 = .ok (.ireturn, 1) := dk_172 (dk_at dksX5_isRun_6 10 rfl rfl)
abbrev cX5_who : ByteArray := prog_17_method_120_code
def yX5_who : MethodName := ⟨RX5, "who", "(I)I"⟩
def dkwX5_who_1 : List UInt8 := [167, 0, 4, 3, 184, 1, 48, 29, 120, 128, 61, 132, 3, 1, 167, 255, 223, 28, 172]
abbrev dktX5_who_1 : List UInt8 := dkwX5_who_1 ++ []
def dkwX5_who_0 : List UInt8 := [3, 61, 3, 62, 29, 42, 180, 1, 94, 162, 0, 31, 28, 42, 29, 27, 182, 1, 240, 158, 0, 7, 4]
abbrev dktX5_who_0 : List UInt8 := dkwX5_who_0 ++ dktX5_who_1
theorem dksX5_who_0 : cX5_who.data.toList.drop 0 = dktX5_who_0 := by decide +kernel
theorem dksX5_who_1 : cX5_who.data.toList.drop 23 = dktX5_who_1 := dk_seg dksX5_who_0 23 rfl rfl
theorem dX5_who_0 : decode cX5_who 0 = .ok (.iconst 0, 1) := dk_3 (dk_at dksX5_who_0 0 rfl rfl)
theorem dX5_who_1 : decode cX5_who 1 = .ok (.istore_n 2, 1) := dk_61 (dk_at dksX5_who_0 1 rfl rfl)
theorem dX5_who_2 : decode cX5_who 2 = .ok (.iconst 0, 1) := dk_3 (dk_at dksX5_who_0 2 rfl rfl)
theorem dX5_who_3 : decode cX5_who 3 = .ok (.istore_n 3, 1) := dk_62 (dk_at dksX5_who_0 3 rfl rfl)
theorem dX5_who_4 : decode cX5_who 4 = .ok (.iload_n 3, 1) := dk_29 (dk_at dksX5_who_0 4 rfl rfl)
theorem dX5_who_5 : decode cX5_who 5 = .ok (.aload_n 0, 1) := dk_42 (dk_at dksX5_who_0 5 rfl rfl)
theorem dX5_who_6 : decode cX5_who 6 = .ok (.getfield 350, 3) := dk_180 1 94 (dk_at dksX5_who_0 6 rfl rfl)
theorem dX5_who_9 : decode cX5_who 9 = .ok (.if_icmp .ge 31, 3) := dk_162 0 31 (dk_at dksX5_who_0 9 rfl rfl)
theorem dX5_who_12 : decode cX5_who 12 = .ok (.iload_n 2, 1) := dk_28 (dk_at dksX5_who_0 12 rfl rfl)
theorem dX5_who_13 : decode cX5_who 13 = .ok (.aload_n 0, 1) := dk_42 (dk_at dksX5_who_0 13 rfl rfl)
theorem dX5_who_14 : decode cX5_who 14 = .ok (.iload_n 3, 1) := dk_29 (dk_at dksX5_who_0 14 rfl rfl)
theorem dX5_who_15 : decode cX5_who 15 = .ok (.iload_n 1, 1) := dk_27 (dk_at dksX5_who_0 15 rfl rfl)
theorem dX5_who_16 : decode cX5_who 16 = .ok (.invokevirtual 496, 3) := dk_182 1 240 (dk_at dksX5_who_0 16 rfl rfl)
theorem dX5_who_19 : decode cX5_who 19 = .ok (.ifCond .le 7, 3) := dk_158 0 7 (dk_at dksX5_who_0 19 rfl rfl)
theorem dX5_who_22 : decode cX5_who 22 = .ok (.iconst 1, 1) := dk_4 (dk_at dksX5_who_0 22 rfl rfl)
theorem dX5_who_23 : decode cX5_who 23 = .ok (.goto 4, 3) := dk_167 0 4 (dk_at dksX5_who_1 0 rfl rfl)
theorem dX5_who_26 : decode cX5_who 26 = .ok (.iconst 0, 1) := dk_3 (dk_at dksX5_who_1 3 rfl rfl)
theorem dX5_who_27 : decode cX5_who 27 = .ok (.invokestatic 304, 3) := dk_184 1 48 (dk_at dksX5_who_1 4 rfl rfl)
theorem dX5_who_30 : decode cX5_who 30 = .ok (.iload_n 3, 1) := dk_29 (dk_at dksX5_who_1 7 rfl rfl)
theorem dX5_who_31 : decode cX5_who 31 = .ok (.ishl, 1) := dk_120 (dk_at dksX5_who_1 8 rfl rfl)
theorem dX5_who_32 : decode cX5_who 32 = .ok (.ior, 1) := dk_128 (dk_at dksX5_who_1 9 rfl rfl)
theorem dX5_who_33 : decode cX5_who 33 = .ok (.istore_n 2, 1) := dk_61 (dk_at dksX5_who_1 10 rfl rfl)
theorem dX5_who_34 : decode cX5_who 34 = .ok (.iinc 3 1, 3) := dk_132 3 1 (dk_at dksX5_who_1 11 rfl rfl)
theorem dX5_who_37 : decode cX5_who 37 = .ok (.goto (-33), 3) := dk_167 255 223 (dk_at dksX5_who_1 14 rfl rfl)
theorem dX5_who_40 : decode cX5_who 40 = .ok (.iload_n 2, 1) := dk_28 (dk_at dksX5_who_1 17 rfl rfl)
theorem dX5_who_41 : decode cX5_who 41 = .ok (.ireturn, 1) := dk_172 (dk_at dksX5_who_1 18 rfl rfl)
abbrev cX5_ask : ByteArray := prog_17_method_121_code
def yX5_ask : MethodName := ⟨RX5, "ask", "(II)I"⟩
def dkwX5_ask_10 : List UInt8 := [27, 154, 0, 8, 21, 4, 167, 0, 5, 21, 5, 172]
abbrev dktX5_ask_10 : List UInt8 := dkwX5_ask_10 ++ []
def dkwX5_ask_9 : List UInt8 := [21, 7, 21, 5, 161, 0, 6, 167, 0, 11, 21, 6, 54, 4, 21, 7, 54, 5, 132, 6, 1, 167, 255, 186]
abbrev dktX5_ask_9 : List UInt8 := dkwX5_ask_9 ++ dktX5_ask_10
def dkwX5_ask_8 : List UInt8 := [164, 0, 13, 42, 180, 0, 133, 21, 6, 46, 167, 0, 12, 29, 42, 180, 0, 133, 21, 6, 46, 100, 54, 7]
abbrev dktX5_ask_8 : List UInt8 := dkwX5_ask_8 ++ dktX5_ask_9
def dkwX5_ask_7 : List UInt8 := [180, 0, 82, 163, 0, 67, 42, 180, 0, 133, 21, 6, 46, 29, 42, 180, 0, 133, 21, 6, 46, 100]
abbrev dktX5_ask_7 : List UInt8 := dkwX5_ask_7 ++ dktX5_ask_8
def dkwX5_ask_6 : List UInt8 := [153, 0, 7, 29, 154, 0, 5, 2, 172, 2, 54, 4, 29, 4, 96, 54, 5, 3, 54, 6, 21, 6, 42]
abbrev dktX5_ask_6 : List UInt8 := dkwX5_ask_6 ++ dktX5_ask_7
def dkwX5_ask_5 : List UInt8 := [132, 6, 1, 167, 255, 196, 132, 5, 1, 167, 255, 175, 132, 4, 1, 167, 255, 157, 27, 3, 4, 184, 1, 112]
abbrev dktX5_ask_5 : List UInt8 := dkwX5_ask_5 ++ dktX5_ask_6
def dkwX5_ask_4 : List UInt8 := [21, 6, 163, 0, 20, 42, 180, 0, 133, 21, 7, 92, 46, 4, 96, 79, 132, 7, 1, 167, 255, 235]
abbrev dktX5_ask_4 : List UInt8 := dkwX5_ask_4 ++ dktX5_ask_5
def dkwX5_ask_3 : List UInt8 := [21, 5, 21, 6, 28, 182, 1, 237, 154, 0, 6, 167, 0, 34, 132, 3, 1, 21, 5, 54, 7, 21, 7]
abbrev dktX5_ask_3 : List UInt8 := dkwX5_ask_3 ++ dktX5_ask_4
def dkwX5_ask_2 : List UInt8 := [180, 0, 82, 162, 0, 78, 21, 5, 4, 96, 54, 6, 21, 6, 42, 180, 0, 82, 163, 0, 57, 42, 21, 4]
abbrev dktX5_ask_2 : List UInt8 := dkwX5_ask_2 ++ dktX5_ask_3
def dkwX5_ask_1 : List UInt8 := [132, 4, 1, 167, 255, 236, 3, 54, 4, 21, 4, 42, 180, 1, 94, 162, 0, 96, 3, 54, 5, 21, 5, 42]
abbrev dktX5_ask_1 : List UInt8 := dkwX5_ask_1 ++ dktX5_ask_2
def dkwX5_ask_0 : List UInt8 := [3, 62, 3, 54, 4, 21, 4, 42, 180, 0, 82, 163, 0, 17, 42, 180, 0, 133, 21, 4, 3, 79]
abbrev dktX5_ask_0 : List UInt8 := dkwX5_ask_0 ++ dktX5_ask_1
theorem dksX5_ask_0 : cX5_ask.data.toList.drop 0 = dktX5_ask_0 := by decide +kernel
theorem dksX5_ask_1 : cX5_ask.data.toList.drop 22 = dktX5_ask_1 := dk_seg dksX5_ask_0 22 rfl rfl
theorem dksX5_ask_2 : cX5_ask.data.toList.drop 46 = dktX5_ask_2 := dk_seg dksX5_ask_1 24 rfl rfl
theorem dksX5_ask_3 : cX5_ask.data.toList.drop 70 = dktX5_ask_3 := dk_seg dksX5_ask_2 24 rfl rfl
theorem dksX5_ask_4 : cX5_ask.data.toList.drop 93 = dktX5_ask_4 := dk_seg dksX5_ask_3 23 rfl rfl
theorem dksX5_ask_5 : cX5_ask.data.toList.drop 115 = dktX5_ask_5 := dk_seg dksX5_ask_4 22 rfl rfl
theorem dksX5_ask_6 : cX5_ask.data.toList.drop 139 = dktX5_ask_6 := dk_seg dksX5_ask_5 24 rfl rfl
theorem dksX5_ask_7 : cX5_ask.data.toList.drop 162 = dktX5_ask_7 := dk_seg dksX5_ask_6 23 rfl rfl
theorem dksX5_ask_8 : cX5_ask.data.toList.drop 184 = dktX5_ask_8 := dk_seg dksX5_ask_7 22 rfl rfl
theorem dksX5_ask_9 : cX5_ask.data.toList.drop 208 = dktX5_ask_9 := dk_seg dksX5_ask_8 24 rfl rfl
theorem dksX5_ask_10 : cX5_ask.data.toList.drop 232 = dktX5_ask_10 := dk_seg dksX5_ask_9 24 rfl rfl
theorem dX5_ask_0 : decode cX5_ask 0 = .ok (.iconst 0, 1) := dk_3 (dk_at dksX5_ask_0 0 rfl rfl)
theorem dX5_ask_1 : decode cX5_ask 1 = .ok (.istore_n 3, 1) := dk_62 (dk_at dksX5_ask_0 1 rfl rfl)
theorem dX5_ask_2 : decode cX5_ask 2 = .ok (.iconst 0, 1) := dk_3 (dk_at dksX5_ask_0 2 rfl rfl)
theorem dX5_ask_3 : decode cX5_ask 3 = .ok (.istore 4, 2) := dk_54 4 (dk_at dksX5_ask_0 3 rfl rfl)
theorem dX5_ask_5 : decode cX5_ask 5 = .ok (.iload 4, 2) := dk_21 4 (dk_at dksX5_ask_0 5 rfl rfl)
theorem dX5_ask_7 : decode cX5_ask 7 = .ok (.aload_n 0, 1) := dk_42 (dk_at dksX5_ask_0 7 rfl rfl)
theorem dX5_ask_8 : decode cX5_ask 8 = .ok (.getfield 82, 3) := dk_180 0 82 (dk_at dksX5_ask_0 8 rfl rfl)
theorem dX5_ask_11 : decode cX5_ask 11 = .ok (.if_icmp .gt 17, 3) := dk_163 0 17 (dk_at dksX5_ask_0 11 rfl rfl)
theorem dX5_ask_14 : decode cX5_ask 14 = .ok (.aload_n 0, 1) := dk_42 (dk_at dksX5_ask_0 14 rfl rfl)
theorem dX5_ask_15 : decode cX5_ask 15 = .ok (.getfield 133, 3) := dk_180 0 133 (dk_at dksX5_ask_0 15 rfl rfl)
theorem dX5_ask_18 : decode cX5_ask 18 = .ok (.iload 4, 2) := dk_21 4 (dk_at dksX5_ask_0 18 rfl rfl)
theorem dX5_ask_20 : decode cX5_ask 20 = .ok (.iconst 0, 1) := dk_3 (dk_at dksX5_ask_0 20 rfl rfl)
theorem dX5_ask_21 : decode cX5_ask 21 = .ok (.iastore, 1) := dk_79 (dk_at dksX5_ask_0 21 rfl rfl)
theorem dX5_ask_22 : decode cX5_ask 22 = .ok (.iinc 4 1, 3) := dk_132 4 1 (dk_at dksX5_ask_1 0 rfl rfl)
theorem dX5_ask_25 : decode cX5_ask 25 = .ok (.goto (-20), 3) := dk_167 255 236 (dk_at dksX5_ask_1 3 rfl rfl)
theorem dX5_ask_28 : decode cX5_ask 28 = .ok (.iconst 0, 1) := dk_3 (dk_at dksX5_ask_1 6 rfl rfl)
theorem dX5_ask_29 : decode cX5_ask 29 = .ok (.istore 4, 2) := dk_54 4 (dk_at dksX5_ask_1 7 rfl rfl)
theorem dX5_ask_31 : decode cX5_ask 31 = .ok (.iload 4, 2) := dk_21 4 (dk_at dksX5_ask_1 9 rfl rfl)
theorem dX5_ask_33 : decode cX5_ask 33 = .ok (.aload_n 0, 1) := dk_42 (dk_at dksX5_ask_1 11 rfl rfl)
theorem dX5_ask_34 : decode cX5_ask 34 = .ok (.getfield 350, 3) := dk_180 1 94 (dk_at dksX5_ask_1 12 rfl rfl)
theorem dX5_ask_37 : decode cX5_ask 37 = .ok (.if_icmp .ge 96, 3) := dk_162 0 96 (dk_at dksX5_ask_1 15 rfl rfl)
theorem dX5_ask_40 : decode cX5_ask 40 = .ok (.iconst 0, 1) := dk_3 (dk_at dksX5_ask_1 18 rfl rfl)
theorem dX5_ask_41 : decode cX5_ask 41 = .ok (.istore 5, 2) := dk_54 5 (dk_at dksX5_ask_1 19 rfl rfl)
theorem dX5_ask_43 : decode cX5_ask 43 = .ok (.iload 5, 2) := dk_21 5 (dk_at dksX5_ask_1 21 rfl rfl)
theorem dX5_ask_45 : decode cX5_ask 45 = .ok (.aload_n 0, 1) := dk_42 (dk_at dksX5_ask_1 23 rfl rfl)
theorem dX5_ask_46 : decode cX5_ask 46 = .ok (.getfield 82, 3) := dk_180 0 82 (dk_at dksX5_ask_2 0 rfl rfl)
theorem dX5_ask_49 : decode cX5_ask 49 = .ok (.if_icmp .ge 78, 3) := dk_162 0 78 (dk_at dksX5_ask_2 3 rfl rfl)
theorem dX5_ask_52 : decode cX5_ask 52 = .ok (.iload 5, 2) := dk_21 5 (dk_at dksX5_ask_2 6 rfl rfl)
theorem dX5_ask_54 : decode cX5_ask 54 = .ok (.iconst 1, 1) := dk_4 (dk_at dksX5_ask_2 8 rfl rfl)
theorem dX5_ask_55 : decode cX5_ask 55 = .ok (.iadd, 1) := dk_96 (dk_at dksX5_ask_2 9 rfl rfl)
theorem dX5_ask_56 : decode cX5_ask 56 = .ok (.istore 6, 2) := dk_54 6 (dk_at dksX5_ask_2 10 rfl rfl)
theorem dX5_ask_58 : decode cX5_ask 58 = .ok (.iload 6, 2) := dk_21 6 (dk_at dksX5_ask_2 12 rfl rfl)
theorem dX5_ask_60 : decode cX5_ask 60 = .ok (.aload_n 0, 1) := dk_42 (dk_at dksX5_ask_2 14 rfl rfl)
theorem dX5_ask_61 : decode cX5_ask 61 = .ok (.getfield 82, 3) := dk_180 0 82 (dk_at dksX5_ask_2 15 rfl rfl)
theorem dX5_ask_64 : decode cX5_ask 64 = .ok (.if_icmp .gt 57, 3) := dk_163 0 57 (dk_at dksX5_ask_2 18 rfl rfl)
theorem dX5_ask_67 : decode cX5_ask 67 = .ok (.aload_n 0, 1) := dk_42 (dk_at dksX5_ask_2 21 rfl rfl)
theorem dX5_ask_68 : decode cX5_ask 68 = .ok (.iload 4, 2) := dk_21 4 (dk_at dksX5_ask_2 22 rfl rfl)
theorem dX5_ask_70 : decode cX5_ask 70 = .ok (.iload 5, 2) := dk_21 5 (dk_at dksX5_ask_3 0 rfl rfl)
theorem dX5_ask_72 : decode cX5_ask 72 = .ok (.iload 6, 2) := dk_21 6 (dk_at dksX5_ask_3 2 rfl rfl)
theorem dX5_ask_74 : decode cX5_ask 74 = .ok (.iload_n 2, 1) := dk_28 (dk_at dksX5_ask_3 4 rfl rfl)
theorem dX5_ask_75 : decode cX5_ask 75 = .ok (.invokevirtual 493, 3) := dk_182 1 237 (dk_at dksX5_ask_3 5 rfl rfl)
theorem dX5_ask_78 : decode cX5_ask 78 = .ok (.ifCond .ne 6, 3) := dk_154 0 6 (dk_at dksX5_ask_3 8 rfl rfl)
theorem dX5_ask_81 : decode cX5_ask 81 = .ok (.goto 34, 3) := dk_167 0 34 (dk_at dksX5_ask_3 11 rfl rfl)
theorem dX5_ask_84 : decode cX5_ask 84 = .ok (.iinc 3 1, 3) := dk_132 3 1 (dk_at dksX5_ask_3 14 rfl rfl)
theorem dX5_ask_87 : decode cX5_ask 87 = .ok (.iload 5, 2) := dk_21 5 (dk_at dksX5_ask_3 17 rfl rfl)
theorem dX5_ask_89 : decode cX5_ask 89 = .ok (.istore 7, 2) := dk_54 7 (dk_at dksX5_ask_3 19 rfl rfl)
theorem dX5_ask_91 : decode cX5_ask 91 = .ok (.iload 7, 2) := dk_21 7 (dk_at dksX5_ask_3 21 rfl rfl)
theorem dX5_ask_93 : decode cX5_ask 93 = .ok (.iload 6, 2) := dk_21 6 (dk_at dksX5_ask_4 0 rfl rfl)
theorem dX5_ask_95 : decode cX5_ask 95 = .ok (.if_icmp .gt 20, 3) := dk_163 0 20 (dk_at dksX5_ask_4 2 rfl rfl)
theorem dX5_ask_98 : decode cX5_ask 98 = .ok (.aload_n 0, 1) := dk_42 (dk_at dksX5_ask_4 5 rfl rfl)
theorem dX5_ask_99 : decode cX5_ask 99 = .ok (.getfield 133, 3) := dk_180 0 133 (dk_at dksX5_ask_4 6 rfl rfl)
theorem dX5_ask_102 : decode cX5_ask 102 = .ok (.iload 7, 2) := dk_21 7 (dk_at dksX5_ask_4 9 rfl rfl)
theorem dX5_ask_104 : decode cX5_ask 104 = .ok (.dup2, 1) := dk_92 (dk_at dksX5_ask_4 11 rfl rfl)
theorem dX5_ask_105 : decode cX5_ask 105 = .ok (.iaload, 1) := dk_46 (dk_at dksX5_ask_4 12 rfl rfl)
theorem dX5_ask_106 : decode cX5_ask 106 = .ok (.iconst 1, 1) := dk_4 (dk_at dksX5_ask_4 13 rfl rfl)
theorem dX5_ask_107 : decode cX5_ask 107 = .ok (.iadd, 1) := dk_96 (dk_at dksX5_ask_4 14 rfl rfl)
theorem dX5_ask_108 : decode cX5_ask 108 = .ok (.iastore, 1) := dk_79 (dk_at dksX5_ask_4 15 rfl rfl)
theorem dX5_ask_109 : decode cX5_ask 109 = .ok (.iinc 7 1, 3) := dk_132 7 1 (dk_at dksX5_ask_4 16 rfl rfl)
theorem dX5_ask_112 : decode cX5_ask 112 = .ok (.goto (-21), 3) := dk_167 255 235 (dk_at dksX5_ask_4 19 rfl rfl)
theorem dX5_ask_115 : decode cX5_ask 115 = .ok (.iinc 6 1, 3) := dk_132 6 1 (dk_at dksX5_ask_5 0 rfl rfl)
theorem dX5_ask_118 : decode cX5_ask 118 = .ok (.goto (-60), 3) := dk_167 255 196 (dk_at dksX5_ask_5 3 rfl rfl)
theorem dX5_ask_121 : decode cX5_ask 121 = .ok (.iinc 5 1, 3) := dk_132 5 1 (dk_at dksX5_ask_5 6 rfl rfl)
theorem dX5_ask_124 : decode cX5_ask 124 = .ok (.goto (-81), 3) := dk_167 255 175 (dk_at dksX5_ask_5 9 rfl rfl)
theorem dX5_ask_127 : decode cX5_ask 127 = .ok (.iinc 4 1, 3) := dk_132 4 1 (dk_at dksX5_ask_5 12 rfl rfl)
theorem dX5_ask_130 : decode cX5_ask 130 = .ok (.goto (-99), 3) := dk_167 255 157 (dk_at dksX5_ask_5 15 rfl rfl)
theorem dX5_ask_133 : decode cX5_ask 133 = .ok (.iload_n 1, 1) := dk_27 (dk_at dksX5_ask_5 18 rfl rfl)
theorem dX5_ask_134 : decode cX5_ask 134 = .ok (.iconst 0, 1) := dk_3 (dk_at dksX5_ask_5 19 rfl rfl)
theorem dX5_ask_135 : decode cX5_ask 135 = .ok (.iconst 1, 1) := dk_4 (dk_at dksX5_ask_5 20 rfl rfl)
theorem dX5_ask_136 : decode cX5_ask 136 = .ok (.invokestatic 368, 3) := dk_184 1 112 (dk_at dksX5_ask_5 21 rfl rfl)
theorem dX5_ask_139 : decode cX5_ask 139 = .ok (.ifCond .eq 7, 3) := dk_153 0 7 (dk_at dksX5_ask_6 0 rfl rfl)
theorem dX5_ask_142 : decode cX5_ask 142 = .ok (.iload_n 3, 1) := dk_29 (dk_at dksX5_ask_6 3 rfl rfl)
theorem dX5_ask_143 : decode cX5_ask 143 = .ok (.ifCond .ne 5, 3) := dk_154 0 5 (dk_at dksX5_ask_6 4 rfl rfl)
theorem dX5_ask_146 : decode cX5_ask 146 = .ok (.iconst (-1), 1) := dk_2 (dk_at dksX5_ask_6 7 rfl rfl)
theorem dX5_ask_147 : decode cX5_ask 147 = .ok (.ireturn, 1) := dk_172 (dk_at dksX5_ask_6 8 rfl rfl)
theorem dX5_ask_148 : decode cX5_ask 148 = .ok (.iconst (-1), 1) := dk_2 (dk_at dksX5_ask_6 9 rfl rfl)
theorem dX5_ask_149 : decode cX5_ask 149 = .ok (.istore 4, 2) := dk_54 4 (dk_at dksX5_ask_6 10 rfl rfl)
theorem dX5_ask_151 : decode cX5_ask 151 = .ok (.iload_n 3, 1) := dk_29 (dk_at dksX5_ask_6 12 rfl rfl)
theorem dX5_ask_152 : decode cX5_ask 152 = .ok (.iconst 1, 1) := dk_4 (dk_at dksX5_ask_6 13 rfl rfl)
theorem dX5_ask_153 : decode cX5_ask 153 = .ok (.iadd, 1) := dk_96 (dk_at dksX5_ask_6 14 rfl rfl)
theorem dX5_ask_154 : decode cX5_ask 154 = .ok (.istore 5, 2) := dk_54 5 (dk_at dksX5_ask_6 15 rfl rfl)
theorem dX5_ask_156 : decode cX5_ask 156 = .ok (.iconst 0, 1) := dk_3 (dk_at dksX5_ask_6 17 rfl rfl)
theorem dX5_ask_157 : decode cX5_ask 157 = .ok (.istore 6, 2) := dk_54 6 (dk_at dksX5_ask_6 18 rfl rfl)
theorem dX5_ask_159 : decode cX5_ask 159 = .ok (.iload 6, 2) := dk_21 6 (dk_at dksX5_ask_6 20 rfl rfl)
theorem dX5_ask_161 : decode cX5_ask 161 = .ok (.aload_n 0, 1) := dk_42 (dk_at dksX5_ask_6 22 rfl rfl)
theorem dX5_ask_162 : decode cX5_ask 162 = .ok (.getfield 82, 3) := dk_180 0 82 (dk_at dksX5_ask_7 0 rfl rfl)
theorem dX5_ask_165 : decode cX5_ask 165 = .ok (.if_icmp .gt 67, 3) := dk_163 0 67 (dk_at dksX5_ask_7 3 rfl rfl)
theorem dX5_ask_168 : decode cX5_ask 168 = .ok (.aload_n 0, 1) := dk_42 (dk_at dksX5_ask_7 6 rfl rfl)
theorem dX5_ask_169 : decode cX5_ask 169 = .ok (.getfield 133, 3) := dk_180 0 133 (dk_at dksX5_ask_7 7 rfl rfl)
theorem dX5_ask_172 : decode cX5_ask 172 = .ok (.iload 6, 2) := dk_21 6 (dk_at dksX5_ask_7 10 rfl rfl)
theorem dX5_ask_174 : decode cX5_ask 174 = .ok (.iaload, 1) := dk_46 (dk_at dksX5_ask_7 12 rfl rfl)
theorem dX5_ask_175 : decode cX5_ask 175 = .ok (.iload_n 3, 1) := dk_29 (dk_at dksX5_ask_7 13 rfl rfl)
theorem dX5_ask_176 : decode cX5_ask 176 = .ok (.aload_n 0, 1) := dk_42 (dk_at dksX5_ask_7 14 rfl rfl)
theorem dX5_ask_177 : decode cX5_ask 177 = .ok (.getfield 133, 3) := dk_180 0 133 (dk_at dksX5_ask_7 15 rfl rfl)
theorem dX5_ask_180 : decode cX5_ask 180 = .ok (.iload 6, 2) := dk_21 6 (dk_at dksX5_ask_7 18 rfl rfl)
theorem dX5_ask_182 : decode cX5_ask 182 = .ok (.iaload, 1) := dk_46 (dk_at dksX5_ask_7 20 rfl rfl)
theorem dX5_ask_183 : decode cX5_ask 183 = .ok (.isub, 1) := dk_100 (dk_at dksX5_ask_7 21 rfl rfl)
theorem dX5_ask_184 : decode cX5_ask 184 = .ok (.if_icmp .le 13, 3) := dk_164 0 13 (dk_at dksX5_ask_8 0 rfl rfl)
theorem dX5_ask_187 : decode cX5_ask 187 = .ok (.aload_n 0, 1) := dk_42 (dk_at dksX5_ask_8 3 rfl rfl)
theorem dX5_ask_188 : decode cX5_ask 188 = .ok (.getfield 133, 3) := dk_180 0 133 (dk_at dksX5_ask_8 4 rfl rfl)
theorem dX5_ask_191 : decode cX5_ask 191 = .ok (.iload 6, 2) := dk_21 6 (dk_at dksX5_ask_8 7 rfl rfl)
theorem dX5_ask_193 : decode cX5_ask 193 = .ok (.iaload, 1) := dk_46 (dk_at dksX5_ask_8 9 rfl rfl)
theorem dX5_ask_194 : decode cX5_ask 194 = .ok (.goto 12, 3) := dk_167 0 12 (dk_at dksX5_ask_8 10 rfl rfl)
theorem dX5_ask_197 : decode cX5_ask 197 = .ok (.iload_n 3, 1) := dk_29 (dk_at dksX5_ask_8 13 rfl rfl)
theorem dX5_ask_198 : decode cX5_ask 198 = .ok (.aload_n 0, 1) := dk_42 (dk_at dksX5_ask_8 14 rfl rfl)
theorem dX5_ask_199 : decode cX5_ask 199 = .ok (.getfield 133, 3) := dk_180 0 133 (dk_at dksX5_ask_8 15 rfl rfl)
theorem dX5_ask_202 : decode cX5_ask 202 = .ok (.iload 6, 2) := dk_21 6 (dk_at dksX5_ask_8 18 rfl rfl)
theorem dX5_ask_204 : decode cX5_ask 204 = .ok (.iaload, 1) := dk_46 (dk_at dksX5_ask_8 20 rfl rfl)
theorem dX5_ask_205 : decode cX5_ask 205 = .ok (.isub, 1) := dk_100 (dk_at dksX5_ask_8 21 rfl rfl)
theorem dX5_ask_206 : decode cX5_ask 206 = .ok (.istore 7, 2) := dk_54 7 (dk_at dksX5_ask_8 22 rfl rfl)
theorem dX5_ask_208 : decode cX5_ask 208 = .ok (.iload 7, 2) := dk_21 7 (dk_at dksX5_ask_9 0 rfl rfl)
theorem dX5_ask_210 : decode cX5_ask 210 = .ok (.iload 5, 2) := dk_21 5 (dk_at dksX5_ask_9 2 rfl rfl)
theorem dX5_ask_212 : decode cX5_ask 212 = .ok (.if_icmp .lt 6, 3) := dk_161 0 6 (dk_at dksX5_ask_9 4 rfl rfl)
theorem dX5_ask_215 : decode cX5_ask 215 = .ok (.goto 11, 3) := dk_167 0 11 (dk_at dksX5_ask_9 7 rfl rfl)
theorem dX5_ask_218 : decode cX5_ask 218 = .ok (.iload 6, 2) := dk_21 6 (dk_at dksX5_ask_9 10 rfl rfl)
theorem dX5_ask_220 : decode cX5_ask 220 = .ok (.istore 4, 2) := dk_54 4 (dk_at dksX5_ask_9 12 rfl rfl)
theorem dX5_ask_222 : decode cX5_ask 222 = .ok (.iload 7, 2) := dk_21 7 (dk_at dksX5_ask_9 14 rfl rfl)
theorem dX5_ask_224 : decode cX5_ask 224 = .ok (.istore 5, 2) := dk_54 5 (dk_at dksX5_ask_9 16 rfl rfl)
theorem dX5_ask_226 : decode cX5_ask 226 = .ok (.iinc 6 1, 3) := dk_132 6 1 (dk_at dksX5_ask_9 18 rfl rfl)
theorem dX5_ask_229 : decode cX5_ask 229 = .ok (.goto (-70), 3) := dk_167 255 186 (dk_at dksX5_ask_9 21 rfl rfl)
theorem dX5_ask_232 : decode cX5_ask 232 = .ok (.iload_n 1, 1) := dk_27 (dk_at dksX5_ask_10 0 rfl rfl)
theorem dX5_ask_233 : decode cX5_ask 233 = .ok (.ifCond .ne 8, 3) := dk_154 0 8 (dk_at dksX5_ask_10 1 rfl rfl)
theorem dX5_ask_236 : decode cX5_ask 236 = .ok (.iload 4, 2) := dk_21 4 (dk_at dksX5_ask_10 4 rfl rfl)
theorem dX5_ask_238 : decode cX5_ask 238 = .ok (.goto 5, 3) := dk_167 0 5 (dk_at dksX5_ask_10 6 rfl rfl)
theorem dX5_ask_241 : decode cX5_ask 241 = .ok (.iload 5, 2) := dk_21 5 (dk_at dksX5_ask_10 9 rfl rfl)
theorem dX5_ask_243 : decode cX5_ask 243 = .ok (.ireturn, 1) := dk_172 (dk_at dksX5_ask_10 11 rfl rfl)
abbrev cX5_image : ByteArray := prog_17_method_123_code
def yX5_image : MethodName := ⟨RX5, "image", "(I)I"⟩
def dkwX5_image_2 : List UInt8 := [180, 0, 85, 16, 26, 46, 172]
abbrev dktX5_image_2 : List UInt8 := dkwX5_image_2 ++ []
def dkwX5_image_1 : List UInt8 := [42, 180, 0, 139, 16, 28, 27, 104, 28, 96, 42, 180, 0, 85, 28, 46, 79, 132, 2, 1, 167, 255, 230, 42]
abbrev dktX5_image_1 : List UInt8 := dkwX5_image_1 ++ dktX5_image_2
def dkwX5_image_0 : List UInt8 := [27, 184, 1, 243, 154, 0, 5, 2, 172, 42, 180, 0, 136, 27, 4, 84, 3, 61, 28, 16, 28, 162, 0, 26]
abbrev dktX5_image_0 : List UInt8 := dkwX5_image_0 ++ dktX5_image_1
theorem dksX5_image_0 : cX5_image.data.toList.drop 0 = dktX5_image_0 := by decide +kernel
theorem dksX5_image_1 : cX5_image.data.toList.drop 24 = dktX5_image_1 := dk_seg dksX5_image_0 24 rfl rfl
theorem dksX5_image_2 : cX5_image.data.toList.drop 48 = dktX5_image_2 := dk_seg dksX5_image_1 24 rfl rfl
theorem dX5_image_0 : decode cX5_image 0 = .ok (.iload_n 1, 1) := dk_27 (dk_at dksX5_image_0 0 rfl rfl)
theorem dX5_image_1 : decode cX5_image 1 = .ok (.invokestatic 499, 3) := dk_184 1 243 (dk_at dksX5_image_0 1 rfl rfl)
theorem dX5_image_4 : decode cX5_image 4 = .ok (.ifCond .ne 5, 3) := dk_154 0 5 (dk_at dksX5_image_0 4 rfl rfl)
theorem dX5_image_7 : decode cX5_image 7 = .ok (.iconst (-1), 1) := dk_2 (dk_at dksX5_image_0 7 rfl rfl)
theorem dX5_image_8 : decode cX5_image 8 = .ok (.ireturn, 1) := dk_172 (dk_at dksX5_image_0 8 rfl rfl)
theorem dX5_image_9 : decode cX5_image 9 = .ok (.aload_n 0, 1) := dk_42 (dk_at dksX5_image_0 9 rfl rfl)
theorem dX5_image_10 : decode cX5_image 10 = .ok (.getfield 136, 3) := dk_180 0 136 (dk_at dksX5_image_0 10 rfl rfl)
theorem dX5_image_13 : decode cX5_image 13 = .ok (.iload_n 1, 1) := dk_27 (dk_at dksX5_image_0 13 rfl rfl)
theorem dX5_image_14 : decode cX5_image 14 = .ok (.iconst 1, 1) := dk_4 (dk_at dksX5_image_0 14 rfl rfl)
theorem dX5_image_15 : decode cX5_image 15 = .ok (.bastore, 1) := dk_84 (dk_at dksX5_image_0 15 rfl rfl)
theorem dX5_image_16 : decode cX5_image 16 = .ok (.iconst 0, 1) := dk_3 (dk_at dksX5_image_0 16 rfl rfl)
theorem dX5_image_17 : decode cX5_image 17 = .ok (.istore_n 2, 1) := dk_61 (dk_at dksX5_image_0 17 rfl rfl)
theorem dX5_image_18 : decode cX5_image 18 = .ok (.iload_n 2, 1) := dk_28 (dk_at dksX5_image_0 18 rfl rfl)
theorem dX5_image_19 : decode cX5_image 19 = .ok (.bipush 28, 2) := dk_16 28 (dk_at dksX5_image_0 19 rfl rfl)
theorem dX5_image_21 : decode cX5_image 21 = .ok (.if_icmp .ge 26, 3) := dk_162 0 26 (dk_at dksX5_image_0 21 rfl rfl)
theorem dX5_image_24 : decode cX5_image 24 = .ok (.aload_n 0, 1) := dk_42 (dk_at dksX5_image_1 0 rfl rfl)
theorem dX5_image_25 : decode cX5_image 25 = .ok (.getfield 139, 3) := dk_180 0 139 (dk_at dksX5_image_1 1 rfl rfl)
theorem dX5_image_28 : decode cX5_image 28 = .ok (.bipush 28, 2) := dk_16 28 (dk_at dksX5_image_1 4 rfl rfl)
theorem dX5_image_30 : decode cX5_image 30 = .ok (.iload_n 1, 1) := dk_27 (dk_at dksX5_image_1 6 rfl rfl)
theorem dX5_image_31 : decode cX5_image 31 = .ok (.imul, 1) := dk_104 (dk_at dksX5_image_1 7 rfl rfl)
theorem dX5_image_32 : decode cX5_image 32 = .ok (.iload_n 2, 1) := dk_28 (dk_at dksX5_image_1 8 rfl rfl)
theorem dX5_image_33 : decode cX5_image 33 = .ok (.iadd, 1) := dk_96 (dk_at dksX5_image_1 9 rfl rfl)
theorem dX5_image_34 : decode cX5_image 34 = .ok (.aload_n 0, 1) := dk_42 (dk_at dksX5_image_1 10 rfl rfl)
theorem dX5_image_35 : decode cX5_image 35 = .ok (.getfield 85, 3) := dk_180 0 85 (dk_at dksX5_image_1 11 rfl rfl)
theorem dX5_image_38 : decode cX5_image 38 = .ok (.iload_n 2, 1) := dk_28 (dk_at dksX5_image_1 14 rfl rfl)
theorem dX5_image_39 : decode cX5_image 39 = .ok (.iaload, 1) := dk_46 (dk_at dksX5_image_1 15 rfl rfl)
theorem dX5_image_40 : decode cX5_image 40 = .ok (.iastore, 1) := dk_79 (dk_at dksX5_image_1 16 rfl rfl)
theorem dX5_image_41 : decode cX5_image 41 = .ok (.iinc 2 1, 3) := dk_132 2 1 (dk_at dksX5_image_1 17 rfl rfl)
theorem dX5_image_44 : decode cX5_image 44 = .ok (.goto (-26), 3) := dk_167 255 230 (dk_at dksX5_image_1 20 rfl rfl)
theorem dX5_image_47 : decode cX5_image 47 = .ok (.aload_n 0, 1) := dk_42 (dk_at dksX5_image_1 23 rfl rfl)
theorem dX5_image_48 : decode cX5_image 48 = .ok (.getfield 85, 3) := dk_180 0 85 (dk_at dksX5_image_2 0 rfl rfl)
theorem dX5_image_51 : decode cX5_image 51 = .ok (.bipush 26, 2) := dk_16 26 (dk_at dksX5_image_2 3 rfl rfl)
theorem dX5_image_53 : decode cX5_image 53 = .ok (.iaload, 1) := dk_46 (dk_at dksX5_image_2 5 rfl rfl)
theorem dX5_image_54 : decode cX5_image 54 = .ok (.ireturn, 1) := dk_172 (dk_at dksX5_image_2 6 rfl rfl)
abbrev cX5_isBox : ByteArray := prog_17_method_122_code
def yX5_isBox : MethodName := ⟨RX5, "isBox", "(I)Z"⟩
def dkwX5_isBox_0 : List UInt8 := [26, 155, 0, 12, 26, 6, 162, 0, 7, 4, 167, 0, 4, 3, 172]
abbrev dktX5_isBox_0 : List UInt8 := dkwX5_isBox_0 ++ []
theorem dksX5_isBox_0 : cX5_isBox.data.toList.drop 0 = dktX5_isBox_0 := by decide +kernel
theorem dX5_isBox_0 : decode cX5_isBox 0 = .ok (.iload_n 0, 1) := dk_26 (dk_at dksX5_isBox_0 0 rfl rfl)
theorem dX5_isBox_1 : decode cX5_isBox 1 = .ok (.ifCond .lt 12, 3) := dk_155 0 12 (dk_at dksX5_isBox_0 1 rfl rfl)
theorem dX5_isBox_4 : decode cX5_isBox 4 = .ok (.iload_n 0, 1) := dk_26 (dk_at dksX5_isBox_0 4 rfl rfl)
theorem dX5_isBox_5 : decode cX5_isBox 5 = .ok (.iconst 3, 1) := dk_6 (dk_at dksX5_isBox_0 5 rfl rfl)
theorem dX5_isBox_6 : decode cX5_isBox 6 = .ok (.if_icmp .ge 7, 3) := dk_162 0 7 (dk_at dksX5_isBox_0 6 rfl rfl)
theorem dX5_isBox_9 : decode cX5_isBox 9 = .ok (.iconst 1, 1) := dk_4 (dk_at dksX5_isBox_0 9 rfl rfl)
theorem dX5_isBox_10 : decode cX5_isBox 10 = .ok (.goto 4, 3) := dk_167 0 4 (dk_at dksX5_isBox_0 10 rfl rfl)
theorem dX5_isBox_13 : decode cX5_isBox 13 = .ok (.iconst 0, 1) := dk_3 (dk_at dksX5_isBox_0 13 rfl rfl)
theorem dX5_isBox_14 : decode cX5_isBox 14 = .ok (.ireturn, 1) := dk_172 (dk_at dksX5_isBox_0 14 rfl rfl)
abbrev cX5_back : ByteArray := prog_17_method_124_code
def yX5_back : MethodName := ⟨RX5, "back", "(I)I"⟩
def dkwX5_back_2 : List UInt8 := [167, 255, 230, 42, 3, 181, 1, 100, 42, 3, 181, 1, 103, 42, 180, 0, 85, 16, 26, 46, 172]
abbrev dktX5_back_2 : List UInt8 := dkwX5_back_2 ++ []
def dkwX5_back_1 : List UInt8 := [162, 0, 26, 42, 180, 0, 85, 28, 42, 180, 0, 139, 16, 28, 27, 104, 28, 96, 46, 79, 132, 2, 1]
abbrev dktX5_back_1 : List UInt8 := dkwX5_back_1 ++ dktX5_back_2
def dkwX5_back_0 : List UInt8 := [27, 184, 1, 243, 153, 0, 12, 42, 180, 0, 136, 27, 51, 154, 0, 5, 2, 172, 3, 61, 28, 16, 28]
abbrev dktX5_back_0 : List UInt8 := dkwX5_back_0 ++ dktX5_back_1
theorem dksX5_back_0 : cX5_back.data.toList.drop 0 = dktX5_back_0 := by decide +kernel
theorem dksX5_back_1 : cX5_back.data.toList.drop 23 = dktX5_back_1 := dk_seg dksX5_back_0 23 rfl rfl
theorem dksX5_back_2 : cX5_back.data.toList.drop 46 = dktX5_back_2 := dk_seg dksX5_back_1 23 rfl rfl
theorem dX5_back_0 : decode cX5_back 0 = .ok (.iload_n 1, 1) := dk_27 (dk_at dksX5_back_0 0 rfl rfl)
theorem dX5_back_1 : decode cX5_back 1 = .ok (.invokestatic 499, 3) := dk_184 1 243 (dk_at dksX5_back_0 1 rfl rfl)
theorem dX5_back_4 : decode cX5_back 4 = .ok (.ifCond .eq 12, 3) := dk_153 0 12 (dk_at dksX5_back_0 4 rfl rfl)
theorem dX5_back_7 : decode cX5_back 7 = .ok (.aload_n 0, 1) := dk_42 (dk_at dksX5_back_0 7 rfl rfl)
theorem dX5_back_8 : decode cX5_back 8 = .ok (.getfield 136, 3) := dk_180 0 136 (dk_at dksX5_back_0 8 rfl rfl)
theorem dX5_back_11 : decode cX5_back 11 = .ok (.iload_n 1, 1) := dk_27 (dk_at dksX5_back_0 11 rfl rfl)
theorem dX5_back_12 : decode cX5_back 12 = .ok (.baload, 1) := dk_51 (dk_at dksX5_back_0 12 rfl rfl)
theorem dX5_back_13 : decode cX5_back 13 = .ok (.ifCond .ne 5, 3) := dk_154 0 5 (dk_at dksX5_back_0 13 rfl rfl)
theorem dX5_back_16 : decode cX5_back 16 = .ok (.iconst (-1), 1) := dk_2 (dk_at dksX5_back_0 16 rfl rfl)
theorem dX5_back_17 : decode cX5_back 17 = .ok (.ireturn, 1) := dk_172 (dk_at dksX5_back_0 17 rfl rfl)
theorem dX5_back_18 : decode cX5_back 18 = .ok (.iconst 0, 1) := dk_3 (dk_at dksX5_back_0 18 rfl rfl)
theorem dX5_back_19 : decode cX5_back 19 = .ok (.istore_n 2, 1) := dk_61 (dk_at dksX5_back_0 19 rfl rfl)
theorem dX5_back_20 : decode cX5_back 20 = .ok (.iload_n 2, 1) := dk_28 (dk_at dksX5_back_0 20 rfl rfl)
theorem dX5_back_21 : decode cX5_back 21 = .ok (.bipush 28, 2) := dk_16 28 (dk_at dksX5_back_0 21 rfl rfl)
theorem dX5_back_23 : decode cX5_back 23 = .ok (.if_icmp .ge 26, 3) := dk_162 0 26 (dk_at dksX5_back_1 0 rfl rfl)
theorem dX5_back_26 : decode cX5_back 26 = .ok (.aload_n 0, 1) := dk_42 (dk_at dksX5_back_1 3 rfl rfl)
theorem dX5_back_27 : decode cX5_back 27 = .ok (.getfield 85, 3) := dk_180 0 85 (dk_at dksX5_back_1 4 rfl rfl)
theorem dX5_back_30 : decode cX5_back 30 = .ok (.iload_n 2, 1) := dk_28 (dk_at dksX5_back_1 7 rfl rfl)
theorem dX5_back_31 : decode cX5_back 31 = .ok (.aload_n 0, 1) := dk_42 (dk_at dksX5_back_1 8 rfl rfl)
theorem dX5_back_32 : decode cX5_back 32 = .ok (.getfield 139, 3) := dk_180 0 139 (dk_at dksX5_back_1 9 rfl rfl)
theorem dX5_back_35 : decode cX5_back 35 = .ok (.bipush 28, 2) := dk_16 28 (dk_at dksX5_back_1 12 rfl rfl)
theorem dX5_back_37 : decode cX5_back 37 = .ok (.iload_n 1, 1) := dk_27 (dk_at dksX5_back_1 14 rfl rfl)
theorem dX5_back_38 : decode cX5_back 38 = .ok (.imul, 1) := dk_104 (dk_at dksX5_back_1 15 rfl rfl)
theorem dX5_back_39 : decode cX5_back 39 = .ok (.iload_n 2, 1) := dk_28 (dk_at dksX5_back_1 16 rfl rfl)
theorem dX5_back_40 : decode cX5_back 40 = .ok (.iadd, 1) := dk_96 (dk_at dksX5_back_1 17 rfl rfl)
theorem dX5_back_41 : decode cX5_back 41 = .ok (.iaload, 1) := dk_46 (dk_at dksX5_back_1 18 rfl rfl)
theorem dX5_back_42 : decode cX5_back 42 = .ok (.iastore, 1) := dk_79 (dk_at dksX5_back_1 19 rfl rfl)
theorem dX5_back_43 : decode cX5_back 43 = .ok (.iinc 2 1, 3) := dk_132 2 1 (dk_at dksX5_back_1 20 rfl rfl)
theorem dX5_back_46 : decode cX5_back 46 = .ok (.goto (-26), 3) := dk_167 255 230 (dk_at dksX5_back_2 0 rfl rfl)
theorem dX5_back_49 : decode cX5_back 49 = .ok (.aload_n 0, 1) := dk_42 (dk_at dksX5_back_2 3 rfl rfl)
theorem dX5_back_50 : decode cX5_back 50 = .ok (.iconst 0, 1) := dk_3 (dk_at dksX5_back_2 4 rfl rfl)
theorem dX5_back_51 : decode cX5_back 51 = .ok (.putfield 356, 3) := dk_181 1 100 (dk_at dksX5_back_2 5 rfl rfl)
theorem dX5_back_54 : decode cX5_back 54 = .ok (.aload_n 0, 1) := dk_42 (dk_at dksX5_back_2 8 rfl rfl)
theorem dX5_back_55 : decode cX5_back 55 = .ok (.iconst 0, 1) := dk_3 (dk_at dksX5_back_2 9 rfl rfl)
theorem dX5_back_56 : decode cX5_back 56 = .ok (.putfield 359, 3) := dk_181 1 103 (dk_at dksX5_back_2 10 rfl rfl)
theorem dX5_back_59 : decode cX5_back 59 = .ok (.aload_n 0, 1) := dk_42 (dk_at dksX5_back_2 13 rfl rfl)
theorem dX5_back_60 : decode cX5_back 60 = .ok (.getfield 85, 3) := dk_180 0 85 (dk_at dksX5_back_2 14 rfl rfl)
theorem dX5_back_63 : decode cX5_back 63 = .ok (.bipush 26, 2) := dk_16 26 (dk_at dksX5_back_2 17 rfl rfl)
theorem dX5_back_65 : decode cX5_back 65 = .ok (.iaload, 1) := dk_46 (dk_at dksX5_back_2 19 rfl rfl)
theorem dX5_back_66 : decode cX5_back 66 = .ok (.ireturn, 1) := dk_172 (dk_at dksX5_back_2 20 rfl rfl)
abbrev cX5_about : ByteArray := prog_17_method_125_code
def yX5_about : MethodName := ⟨RX5, "about", "(I)I"⟩
def dkwX5_about_5 : List UInt8 := [42, 180, 1, 109, 172, 2, 172]
abbrev dktX5_about_5 : List UInt8 := dkwX5_about_5 ++ []
def dkwX5_about_4 : List UInt8 := [180, 1, 103, 172, 42, 180, 1, 106, 172, 42, 180, 1, 229, 172, 42, 180, 0, 142, 172, 42, 180, 1, 97, 172]
abbrev dktX5_about_4 : List UInt8 := dkwX5_about_4 ++ dktX5_about_5
def dkwX5_about_3 : List UInt8 := [46, 172, 42, 180, 0, 85, 16, 26, 46, 172, 42, 180, 0, 85, 16, 27, 46, 172, 42, 180, 1, 100, 172, 42]
abbrev dktX5_about_3 : List UInt8 := dkwX5_about_3 ++ dktX5_about_4
def dkwX5_about_2 : List UInt8 := [42, 180, 1, 94, 172, 42, 180, 0, 82, 172, 42, 180, 0, 85, 16, 25, 46, 172, 42, 180, 0, 85, 16, 24]
abbrev dktX5_about_2 : List UInt8 := dkwX5_about_2 ++ dktX5_about_3
def dkwX5_about_1 : List UInt8 := [170, 0, 0, 0, 0, 0, 144, 0, 0, 0, 0, 0, 0, 0, 12, 0, 0, 0, 67, 0, 0, 0, 72, 0, 0, 0, 77, 0, 0, 0, 85, 0, 0, 0, 93, 0, 0, 0, 101, 0, 0, 0, 109, 0, 0, 0, 114, 0, 0, 0, 119, 0, 0, 0, 124, 0, 0, 0, 129, 0, 0, 0, 134, 0, 0, 0, 139]
abbrev dktX5_about_1 : List UInt8 := dkwX5_about_1 ++ dktX5_about_2
def dkwX5_about_0 : List UInt8 := [27]
abbrev dktX5_about_0 : List UInt8 := dkwX5_about_0 ++ dktX5_about_1
theorem dksX5_about_0 : cX5_about.data.toList.drop 0 = dktX5_about_0 := by decide +kernel
theorem dksX5_about_1 : cX5_about.data.toList.drop 1 = dktX5_about_1 := dk_seg dksX5_about_0 1 rfl rfl
theorem dksX5_about_2 : cX5_about.data.toList.drop 68 = dktX5_about_2 := dk_seg dksX5_about_1 67 rfl rfl
theorem dksX5_about_3 : cX5_about.data.toList.drop 92 = dktX5_about_3 := dk_seg dksX5_about_2 24 rfl rfl
theorem dksX5_about_4 : cX5_about.data.toList.drop 116 = dktX5_about_4 := dk_seg dksX5_about_3 24 rfl rfl
theorem dksX5_about_5 : cX5_about.data.toList.drop 140 = dktX5_about_5 := dk_seg dksX5_about_4 24 rfl rfl
theorem dX5_about_0 : decode cX5_about 0 = .ok (.iload_n 1, 1) := dk_27 (dk_at dksX5_about_0 0 rfl rfl)
theorem dX5_about_1 : decode cX5_about 1 = .ok (.tableswitch 144 0 12 #[67, 72, 77, 85, 93, 101, 109, 114, 119, 124, 129, 134, 139], 67) := by decide +kernel
theorem dX5_about_68 : decode cX5_about 68 = .ok (.aload_n 0, 1) := dk_42 (dk_at dksX5_about_2 0 rfl rfl)
theorem dX5_about_69 : decode cX5_about 69 = .ok (.getfield 350, 3) := dk_180 1 94 (dk_at dksX5_about_2 1 rfl rfl)
theorem dX5_about_72 : decode cX5_about 72 = .ok (.ireturn, 1) := dk_172 (dk_at dksX5_about_2 4 rfl rfl)
theorem dX5_about_73 : decode cX5_about 73 = .ok (.aload_n 0, 1) := dk_42 (dk_at dksX5_about_2 5 rfl rfl)
theorem dX5_about_74 : decode cX5_about 74 = .ok (.getfield 82, 3) := dk_180 0 82 (dk_at dksX5_about_2 6 rfl rfl)
theorem dX5_about_77 : decode cX5_about 77 = .ok (.ireturn, 1) := dk_172 (dk_at dksX5_about_2 9 rfl rfl)
theorem dX5_about_78 : decode cX5_about 78 = .ok (.aload_n 0, 1) := dk_42 (dk_at dksX5_about_2 10 rfl rfl)
theorem dX5_about_79 : decode cX5_about 79 = .ok (.getfield 85, 3) := dk_180 0 85 (dk_at dksX5_about_2 11 rfl rfl)
theorem dX5_about_82 : decode cX5_about 82 = .ok (.bipush 25, 2) := dk_16 25 (dk_at dksX5_about_2 14 rfl rfl)
theorem dX5_about_84 : decode cX5_about 84 = .ok (.iaload, 1) := dk_46 (dk_at dksX5_about_2 16 rfl rfl)
theorem dX5_about_85 : decode cX5_about 85 = .ok (.ireturn, 1) := dk_172 (dk_at dksX5_about_2 17 rfl rfl)
theorem dX5_about_86 : decode cX5_about 86 = .ok (.aload_n 0, 1) := dk_42 (dk_at dksX5_about_2 18 rfl rfl)
theorem dX5_about_87 : decode cX5_about 87 = .ok (.getfield 85, 3) := dk_180 0 85 (dk_at dksX5_about_2 19 rfl rfl)
theorem dX5_about_90 : decode cX5_about 90 = .ok (.bipush 24, 2) := dk_16 24 (dk_at dksX5_about_2 22 rfl rfl)
theorem dX5_about_92 : decode cX5_about 92 = .ok (.iaload, 1) := dk_46 (dk_at dksX5_about_3 0 rfl rfl)
theorem dX5_about_93 : decode cX5_about 93 = .ok (.ireturn, 1) := dk_172 (dk_at dksX5_about_3 1 rfl rfl)
theorem dX5_about_94 : decode cX5_about 94 = .ok (.aload_n 0, 1) := dk_42 (dk_at dksX5_about_3 2 rfl rfl)
theorem dX5_about_95 : decode cX5_about 95 = .ok (.getfield 85, 3) := dk_180 0 85 (dk_at dksX5_about_3 3 rfl rfl)
theorem dX5_about_98 : decode cX5_about 98 = .ok (.bipush 26, 2) := dk_16 26 (dk_at dksX5_about_3 6 rfl rfl)
theorem dX5_about_100 : decode cX5_about 100 = .ok (.iaload, 1) := dk_46 (dk_at dksX5_about_3 8 rfl rfl)
theorem dX5_about_101 : decode cX5_about 101 = .ok (.ireturn, 1) := dk_172 (dk_at dksX5_about_3 9 rfl rfl)
theorem dX5_about_102 : decode cX5_about 102 = .ok (.aload_n 0, 1) := dk_42 (dk_at dksX5_about_3 10 rfl rfl)
theorem dX5_about_103 : decode cX5_about 103 = .ok (.getfield 85, 3) := dk_180 0 85 (dk_at dksX5_about_3 11 rfl rfl)
theorem dX5_about_106 : decode cX5_about 106 = .ok (.bipush 27, 2) := dk_16 27 (dk_at dksX5_about_3 14 rfl rfl)
theorem dX5_about_108 : decode cX5_about 108 = .ok (.iaload, 1) := dk_46 (dk_at dksX5_about_3 16 rfl rfl)
theorem dX5_about_109 : decode cX5_about 109 = .ok (.ireturn, 1) := dk_172 (dk_at dksX5_about_3 17 rfl rfl)
theorem dX5_about_110 : decode cX5_about 110 = .ok (.aload_n 0, 1) := dk_42 (dk_at dksX5_about_3 18 rfl rfl)
theorem dX5_about_111 : decode cX5_about 111 = .ok (.getfield 356, 3) := dk_180 1 100 (dk_at dksX5_about_3 19 rfl rfl)
theorem dX5_about_114 : decode cX5_about 114 = .ok (.ireturn, 1) := dk_172 (dk_at dksX5_about_3 22 rfl rfl)
theorem dX5_about_115 : decode cX5_about 115 = .ok (.aload_n 0, 1) := dk_42 (dk_at dksX5_about_3 23 rfl rfl)
theorem dX5_about_116 : decode cX5_about 116 = .ok (.getfield 359, 3) := dk_180 1 103 (dk_at dksX5_about_4 0 rfl rfl)
theorem dX5_about_119 : decode cX5_about 119 = .ok (.ireturn, 1) := dk_172 (dk_at dksX5_about_4 3 rfl rfl)
theorem dX5_about_120 : decode cX5_about 120 = .ok (.aload_n 0, 1) := dk_42 (dk_at dksX5_about_4 4 rfl rfl)
theorem dX5_about_121 : decode cX5_about 121 = .ok (.getfield 362, 3) := dk_180 1 106 (dk_at dksX5_about_4 5 rfl rfl)
theorem dX5_about_124 : decode cX5_about 124 = .ok (.ireturn, 1) := dk_172 (dk_at dksX5_about_4 8 rfl rfl)
theorem dX5_about_125 : decode cX5_about 125 = .ok (.aload_n 0, 1) := dk_42 (dk_at dksX5_about_4 9 rfl rfl)
theorem dX5_about_126 : decode cX5_about 126 = .ok (.getfield 485, 3) := dk_180 1 229 (dk_at dksX5_about_4 10 rfl rfl)
theorem dX5_about_129 : decode cX5_about 129 = .ok (.ireturn, 1) := dk_172 (dk_at dksX5_about_4 13 rfl rfl)
theorem dX5_about_130 : decode cX5_about 130 = .ok (.aload_n 0, 1) := dk_42 (dk_at dksX5_about_4 14 rfl rfl)
theorem dX5_about_131 : decode cX5_about 131 = .ok (.getfield 142, 3) := dk_180 0 142 (dk_at dksX5_about_4 15 rfl rfl)
theorem dX5_about_134 : decode cX5_about 134 = .ok (.ireturn, 1) := dk_172 (dk_at dksX5_about_4 18 rfl rfl)
theorem dX5_about_135 : decode cX5_about 135 = .ok (.aload_n 0, 1) := dk_42 (dk_at dksX5_about_4 19 rfl rfl)
theorem dX5_about_136 : decode cX5_about 136 = .ok (.getfield 353, 3) := dk_180 1 97 (dk_at dksX5_about_4 20 rfl rfl)
theorem dX5_about_139 : decode cX5_about 139 = .ok (.ireturn, 1) := dk_172 (dk_at dksX5_about_4 23 rfl rfl)
theorem dX5_about_140 : decode cX5_about 140 = .ok (.aload_n 0, 1) := dk_42 (dk_at dksX5_about_5 0 rfl rfl)
theorem dX5_about_141 : decode cX5_about 141 = .ok (.getfield 365, 3) := dk_180 1 109 (dk_at dksX5_about_5 1 rfl rfl)
theorem dX5_about_144 : decode cX5_about 144 = .ok (.ireturn, 1) := dk_172 (dk_at dksX5_about_5 4 rfl rfl)
theorem dX5_about_145 : decode cX5_about 145 = .ok (.iconst (-1), 1) := dk_2 (dk_at dksX5_about_5 5 rfl rfl)
theorem dX5_about_146 : decode cX5_about 146 = .ok (.ireturn, 1) := dk_172 (dk_at dksX5_about_5 6 rfl rfl)
theorem q130 : (Jvm.Cond.initialized "SoManyStairsModel") ∈ lw_all := lw_g (lw_at lw_m1 13 rfl) rfl
theorem q766 : (Jvm.Cond.selects "SoManyStairsModel" ({ cls := "java/lang/Object", name := "getClass", desc := "()Ljava/lang/Class;" } : Jvm.MethodName) ({ cls := "java/lang/Object", name := "getClass", desc := "()Ljava/lang/Class;" } : Jvm.MethodName)) ∈ lw_all := lw_g (lw_at lw_m3 169 rfl) rfl
theorem q1332 : (Jvm.Cond.instantiable "SoManyStairsModel" (69 : Nat)) ∈ lw_all := lw_g (lw_at lw_m6 15 rfl) rfl
theorem q1334 : (Jvm.Cond.instanceMethod ({ cls := "SoManyStairsModel", name := "<init>", desc := "()V" } : Jvm.MethodName)) ∈ lw_all := lw_g (lw_at lw_m6 17 rfl) rfl
theorem q1335 : (Jvm.Cond.code ({ cls := "SoManyStairsModel", name := "<init>", desc := "()V" } : Jvm.MethodName) prog_17_method_1_code (1 : Nat) (Option.none : Option Jvm.ClassFile.FieldType)) ∈ lw_all := lw_g (lw_at lw_m6 18 rfl) rfl
theorem q1336 : (Jvm.Cond.methodLink "SoManyStairsModel" (1 : Nat) ({ cls := "java/lang/Object", name := "<init>", desc := "()V" } : Jvm.MethodName)) ∈ lw_all := lw_g (lw_at lw_m6 19 rfl) rfl
theorem q1337 : (Jvm.Cond.fieldLink "SoManyStairsModel" (7 : Nat) "SoManyStairsModel" "tape" "[I") ∈ lw_all := lw_g (lw_at lw_m6 20 rfl) rfl
theorem q1338 : (Jvm.Cond.fieldLink "SoManyStairsModel" (142 : Nat) "SoManyStairsModel" "taped" "I") ∈ lw_all := lw_g (lw_at lw_m6 21 rfl) rfl
theorem q1339 : (Jvm.Cond.fieldLink "SoManyStairsModel" (182 : Nat) "SoManyStairsModel" "fault" "I") ∈ lw_all := lw_g (lw_at lw_m6 22 rfl) rfl
theorem q1340 : (Jvm.Cond.fieldLink "SoManyStairsModel" (13 : Nat) "SoManyStairsModel" "faultPlace" "I") ∈ lw_all := lw_g (lw_at lw_m6 23 rfl) rfl
theorem q1341 : (Jvm.Cond.fieldLink "SoManyStairsModel" (149 : Nat) "SoManyStairsModel" "at" "I") ∈ lw_all := lw_g (lw_at lw_m6 24 rfl) rfl
theorem q1342 : (Jvm.Cond.fieldLink "SoManyStairsModel" (152 : Nat) "SoManyStairsModel" "size" "I") ∈ lw_all := lw_g (lw_at lw_m6 25 rfl) rfl
theorem q1343 : (Jvm.Cond.fieldLink "SoManyStairsModel" (169 : Nat) "SoManyStairsModel" "sort" "I") ∈ lw_all := lw_g (lw_at lw_m6 26 rfl) rfl
theorem q1344 : (Jvm.Cond.fieldLink "SoManyStairsModel" (159 : Nat) "SoManyStairsModel" "place" "I") ∈ lw_all := lw_g (lw_at lw_m6 27 rfl) rfl
theorem q1345 : (Jvm.Cond.fieldLink "SoManyStairsModel" (166 : Nat) "SoManyStairsModel" "number" "I") ∈ lw_all := lw_g (lw_at lw_m6 28 rfl) rfl
theorem q1346 : (Jvm.Cond.fieldLink "SoManyStairsModel" (162 : Nat) "SoManyStairsModel" "word" "J") ∈ lw_all := lw_g (lw_at lw_m6 29 rfl) rfl
theorem q1347 : (Jvm.Cond.fieldLink "SoManyStairsModel" (17 : Nat) "SoManyStairsModel" "nName" "[J") ∈ lw_all := lw_g (lw_at lw_m6 30 rfl) rfl
theorem q1348 : (Jvm.Cond.fieldLink "SoManyStairsModel" (21 : Nat) "SoManyStairsModel" "nStep" "[I") ∈ lw_all := lw_g (lw_at lw_m6 31 rfl) rfl
theorem q1349 : (Jvm.Cond.fieldLink "SoManyStairsModel" (24 : Nat) "SoManyStairsModel" "nArg" "[I") ∈ lw_all := lw_g (lw_at lw_m6 32 rfl) rfl
theorem q1350 : (Jvm.Cond.fieldLink "SoManyStairsModel" (27 : Nat) "SoManyStairsModel" "nMany" "[I") ∈ lw_all := lw_g (lw_at lw_m6 33 rfl) rfl
theorem q1351 : (Jvm.Cond.fieldLink "SoManyStairsModel" (30 : Nat) "SoManyStairsModel" "step" "[I") ∈ lw_all := lw_g (lw_at lw_m6 34 rfl) rfl
theorem q1352 : (Jvm.Cond.fieldLink "SoManyStairsModel" (33 : Nat) "SoManyStairsModel" "arg" "[I") ∈ lw_all := lw_g (lw_at lw_m6 35 rfl) rfl
theorem q1353 : (Jvm.Cond.fieldLink "SoManyStairsModel" (36 : Nat) "SoManyStairsModel" "steps" "[I") ∈ lw_all := lw_g (lw_at lw_m6 36 rfl) rfl
theorem q1354 : (Jvm.Cond.fieldLink "SoManyStairsModel" (39 : Nat) "SoManyStairsModel" "open" "[I") ∈ lw_all := lw_g (lw_at lw_m6 37 rfl) rfl
theorem q1355 : (Jvm.Cond.fieldLink "SoManyStairsModel" (42 : Nat) "SoManyStairsModel" "values" "[I") ∈ lw_all := lw_g (lw_at lw_m6 38 rfl) rfl
theorem q1356 : (Jvm.Cond.fieldLink "SoManyStairsModel" (45 : Nat) "SoManyStairsModel" "nHasForm" "[Z") ∈ lw_all := lw_g (lw_at lw_m6 39 rfl) rfl
theorem q1357 : (Jvm.Cond.fieldLink "SoManyStairsModel" (251 : Nat) "SoManyStairsModel" "form" "I") ∈ lw_all := lw_g (lw_at lw_m6 40 rfl) rfl
theorem q1358 : (Jvm.Cond.fieldLink "SoManyStairsModel" (254 : Nat) "SoManyStairsModel" "opens" "I") ∈ lw_all := lw_g (lw_at lw_m6 41 rfl) rfl
theorem q1359 : (Jvm.Cond.fieldLink "SoManyStairsModel" (267 : Nat) "SoManyStairsModel" "nUnits" "I") ∈ lw_all := lw_g (lw_at lw_m6 42 rfl) rfl
theorem q1360 : (Jvm.Cond.fieldLink "SoManyStairsModel" (353 : Nat) "SoManyStairsModel" "units" "I") ∈ lw_all := lw_g (lw_at lw_m6 43 rfl) rfl
theorem q1361 : (Jvm.Cond.fieldLink "SoManyStairsModel" (270 : Nat) "SoManyStairsModel" "ownUnits" "I") ∈ lw_all := lw_g (lw_at lw_m6 44 rfl) rfl
theorem q1362 : (Jvm.Cond.fieldLink "SoManyStairsModel" (264 : Nat) "SoManyStairsModel" "deep" "I") ∈ lw_all := lw_g (lw_at lw_m6 45 rfl) rfl
theorem q1363 : (Jvm.Cond.fieldLink "SoManyStairsModel" (49 : Nat) "SoManyStairsModel" "asks" "[I") ∈ lw_all := lw_g (lw_at lw_m6 46 rfl) rfl
theorem q1364 : (Jvm.Cond.fieldLink "SoManyStairsModel" (52 : Nat) "SoManyStairsModel" "nLives" "[I") ∈ lw_all := lw_g (lw_at lw_m6 47 rfl) rfl
theorem q1365 : (Jvm.Cond.fieldLink "SoManyStairsModel" (55 : Nat) "SoManyStairsModel" "nStrong" "[I") ∈ lw_all := lw_g (lw_at lw_m6 48 rfl) rfl
theorem q1366 : (Jvm.Cond.fieldLink "SoManyStairsModel" (58 : Nat) "SoManyStairsModel" "nHeavy" "[I") ∈ lw_all := lw_g (lw_at lw_m6 49 rfl) rfl
theorem q1367 : (Jvm.Cond.fieldLink "SoManyStairsModel" (61 : Nat) "SoManyStairsModel" "nOwes" "[I") ∈ lw_all := lw_g (lw_at lw_m6 50 rfl) rfl
theorem q1368 : (Jvm.Cond.fieldLink "SoManyStairsModel" (64 : Nat) "SoManyStairsModel" "nFails" "[I") ∈ lw_all := lw_g (lw_at lw_m6 51 rfl) rfl
theorem q1369 : (Jvm.Cond.fieldLink "SoManyStairsModel" (67 : Nat) "SoManyStairsModel" "lives" "[I") ∈ lw_all := lw_g (lw_at lw_m6 52 rfl) rfl
theorem q1370 : (Jvm.Cond.fieldLink "SoManyStairsModel" (70 : Nat) "SoManyStairsModel" "strong" "[I") ∈ lw_all := lw_g (lw_at lw_m6 53 rfl) rfl
theorem q1371 : (Jvm.Cond.fieldLink "SoManyStairsModel" (73 : Nat) "SoManyStairsModel" "heavy" "[I") ∈ lw_all := lw_g (lw_at lw_m6 54 rfl) rfl
theorem q1372 : (Jvm.Cond.fieldLink "SoManyStairsModel" (76 : Nat) "SoManyStairsModel" "owes" "[I") ∈ lw_all := lw_g (lw_at lw_m6 55 rfl) rfl
theorem q1373 : (Jvm.Cond.fieldLink "SoManyStairsModel" (79 : Nat) "SoManyStairsModel" "fails" "[I") ∈ lw_all := lw_g (lw_at lw_m6 56 rfl) rfl
theorem q1374 : (Jvm.Cond.fieldLink "SoManyStairsModel" (312 : Nat) "SoManyStairsModel" "nStoreys" "I") ∈ lw_all := lw_g (lw_at lw_m6 57 rfl) rfl
theorem q1375 : (Jvm.Cond.fieldLink "SoManyStairsModel" (319 : Nat) "SoManyStairsModel" "nLift" "I") ∈ lw_all := lw_g (lw_at lw_m6 58 rfl) rfl
theorem q1376 : (Jvm.Cond.fieldLink "SoManyStairsModel" (248 : Nat) "SoManyStairsModel" "nTenants" "I") ∈ lw_all := lw_g (lw_at lw_m6 59 rfl) rfl
theorem q1377 : (Jvm.Cond.fieldLink "SoManyStairsModel" (341 : Nat) "SoManyStairsModel" "nDraw" "I") ∈ lw_all := lw_g (lw_at lw_m6 60 rfl) rfl
theorem q1378 : (Jvm.Cond.fieldLink "SoManyStairsModel" (82 : Nat) "SoManyStairsModel" "storeys" "I") ∈ lw_all := lw_g (lw_at lw_m6 61 rfl) rfl
theorem q1379 : (Jvm.Cond.fieldLink "SoManyStairsModel" (350 : Nat) "SoManyStairsModel" "tenants" "I") ∈ lw_all := lw_g (lw_at lw_m6 62 rfl) rfl
theorem q1380 : (Jvm.Cond.fieldLink "SoManyStairsModel" (325 : Nat) "SoManyStairsModel" "nHasLine" "Z") ∈ lw_all := lw_g (lw_at lw_m6 63 rfl) rfl
theorem q1381 : (Jvm.Cond.fieldLink "SoManyStairsModel" (338 : Nat) "SoManyStairsModel" "nHasDraw" "Z") ∈ lw_all := lw_g (lw_at lw_m6 64 rfl) rfl
theorem q1382 : (Jvm.Cond.fieldLink "SoManyStairsModel" (85 : Nat) "SoManyStairsModel" "now" "[I") ∈ lw_all := lw_g (lw_at lw_m6 65 rfl) rfl
theorem q1383 : (Jvm.Cond.fieldLink "SoManyStairsModel" (88 : Nat) "SoManyStairsModel" "air" "[I") ∈ lw_all := lw_g (lw_at lw_m6 66 rfl) rfl
theorem q1384 : (Jvm.Cond.fieldLink "SoManyStairsModel" (91 : Nat) "SoManyStairsModel" "were" "[I") ∈ lw_all := lw_g (lw_at lw_m6 67 rfl) rfl
theorem q1385 : (Jvm.Cond.fieldLink "SoManyStairsModel" (356 : Nat) "SoManyStairsModel" "acts" "I") ∈ lw_all := lw_g (lw_at lw_m6 68 rfl) rfl
theorem q1386 : (Jvm.Cond.fieldLink "SoManyStairsModel" (359 : Nat) "SoManyStairsModel" "undone" "I") ∈ lw_all := lw_g (lw_at lw_m6 69 rfl) rfl
theorem q1387 : (Jvm.Cond.fieldLink "SoManyStairsModel" (94 : Nat) "SoManyStairsModel" "row" "[I") ∈ lw_all := lw_g (lw_at lw_m6 70 rfl) rfl
theorem q1388 : (Jvm.Cond.fieldLink "SoManyStairsModel" (97 : Nat) "SoManyStairsModel" "lies" "[I") ∈ lw_all := lw_g (lw_at lw_m6 71 rfl) rfl
theorem q1389 : (Jvm.Cond.fieldLink "SoManyStairsModel" (365 : Nat) "SoManyStairsModel" "lain" "I") ∈ lw_all := lw_g (lw_at lw_m6 72 rfl) rfl
theorem q1390 : (Jvm.Cond.fieldLink "SoManyStairsModel" (100 : Nat) "SoManyStairsModel" "many" "[I") ∈ lw_all := lw_g (lw_at lw_m6 73 rfl) rfl
theorem q1391 : (Jvm.Cond.fieldLink "SoManyStairsModel" (103 : Nat) "SoManyStairsModel" "cost" "[I") ∈ lw_all := lw_g (lw_at lw_m6 74 rfl) rfl
theorem q1392 : (Jvm.Cond.fieldLink "SoManyStairsModel" (106 : Nat) "SoManyStairsModel" "price" "[I") ∈ lw_all := lw_g (lw_at lw_m6 75 rfl) rfl
theorem q1393 : (Jvm.Cond.fieldLink "SoManyStairsModel" (109 : Nat) "SoManyStairsModel" "could" "[Z") ∈ lw_all := lw_g (lw_at lw_m6 76 rfl) rfl
theorem q1394 : (Jvm.Cond.fieldLink "SoManyStairsModel" (112 : Nat) "SoManyStairsModel" "home" "[I") ∈ lw_all := lw_g (lw_at lw_m6 77 rfl) rfl
theorem q1395 : (Jvm.Cond.fieldLink "SoManyStairsModel" (115 : Nat) "SoManyStairsModel" "behind" "[I") ∈ lw_all := lw_g (lw_at lw_m6 78 rfl) rfl
theorem q1396 : (Jvm.Cond.fieldLink "SoManyStairsModel" (118 : Nat) "SoManyStairsModel" "markSort" "[I") ∈ lw_all := lw_g (lw_at lw_m6 79 rfl) rfl
theorem q1397 : (Jvm.Cond.fieldLink "SoManyStairsModel" (121 : Nat) "SoManyStairsModel" "markOf" "[I") ∈ lw_all := lw_g (lw_at lw_m6 80 rfl) rfl
theorem q1398 : (Jvm.Cond.fieldLink "SoManyStairsModel" (124 : Nat) "SoManyStairsModel" "markTold" "[I") ∈ lw_all := lw_g (lw_at lw_m6 81 rfl) rfl
theorem q1399 : (Jvm.Cond.fieldLink "SoManyStairsModel" (127 : Nat) "SoManyStairsModel" "markUntold" "[I") ∈ lw_all := lw_g (lw_at lw_m6 82 rfl) rfl
theorem q1400 : (Jvm.Cond.fieldLink "SoManyStairsModel" (130 : Nat) "SoManyStairsModel" "markIs" "[Z") ∈ lw_all := lw_g (lw_at lw_m6 83 rfl) rfl
theorem q1401 : (Jvm.Cond.fieldLink "SoManyStairsModel" (362 : Nat) "SoManyStairsModel" "marks" "I") ∈ lw_all := lw_g (lw_at lw_m6 84 rfl) rfl
theorem q1402 : (Jvm.Cond.fieldLink "SoManyStairsModel" (485 : Nat) "SoManyStairsModel" "time" "I") ∈ lw_all := lw_g (lw_at lw_m6 85 rfl) rfl
theorem q1403 : (Jvm.Cond.fieldLink "SoManyStairsModel" (133 : Nat) "SoManyStairsModel" "tally" "[I") ∈ lw_all := lw_g (lw_at lw_m6 86 rfl) rfl
theorem q1404 : (Jvm.Cond.fieldLink "SoManyStairsModel" (136 : Nat) "SoManyStairsModel" "hasBox" "[Z") ∈ lw_all := lw_g (lw_at lw_m6 87 rfl) rfl
theorem q1405 : (Jvm.Cond.fieldLink "SoManyStairsModel" (139 : Nat) "SoManyStairsModel" "boxes" "[I") ∈ lw_all := lw_g (lw_at lw_m6 88 rfl) rfl
theorem q1406 : (Jvm.Cond.laysFinal "SoManyStairsModel" "SoManyStairsModel" "tape" "[I") ∈ lw_all := lw_g (lw_at lw_m6 89 rfl) rfl
theorem q1407 : (Jvm.Cond.soleField "SoManyStairsModel" "tape") ∈ lw_all := lw_g (lw_at lw_m6 90 rfl) rfl
theorem q1408 : (Jvm.Cond.lays "SoManyStairsModel" "SoManyStairsModel" "taped" "I") ∈ lw_all := lw_g (lw_at lw_m6 91 rfl) rfl
theorem q1409 : (Jvm.Cond.soleField "SoManyStairsModel" "taped") ∈ lw_all := lw_g (lw_at lw_m6 92 rfl) rfl
theorem q1410 : (Jvm.Cond.lays "SoManyStairsModel" "SoManyStairsModel" "fault" "I") ∈ lw_all := lw_g (lw_at lw_m6 93 rfl) rfl
theorem q1411 : (Jvm.Cond.soleField "SoManyStairsModel" "fault") ∈ lw_all := lw_g (lw_at lw_m6 94 rfl) rfl
theorem q1412 : (Jvm.Cond.lays "SoManyStairsModel" "SoManyStairsModel" "faultPlace" "I") ∈ lw_all := lw_g (lw_at lw_m6 95 rfl) rfl
theorem q1413 : (Jvm.Cond.soleField "SoManyStairsModel" "faultPlace") ∈ lw_all := lw_g (lw_at lw_m6 96 rfl) rfl
theorem q1414 : (Jvm.Cond.lays "SoManyStairsModel" "SoManyStairsModel" "at" "I") ∈ lw_all := lw_g (lw_at lw_m6 97 rfl) rfl
theorem q1415 : (Jvm.Cond.soleField "SoManyStairsModel" "at") ∈ lw_all := lw_g (lw_at lw_m6 98 rfl) rfl
theorem q1416 : (Jvm.Cond.lays "SoManyStairsModel" "SoManyStairsModel" "size" "I") ∈ lw_all := lw_g (lw_at lw_m6 99 rfl) rfl
theorem q1417 : (Jvm.Cond.soleField "SoManyStairsModel" "size") ∈ lw_all := lw_g (lw_at lw_m6 100 rfl) rfl
theorem q1418 : (Jvm.Cond.lays "SoManyStairsModel" "SoManyStairsModel" "sort" "I") ∈ lw_all := lw_g (lw_at lw_m6 101 rfl) rfl
theorem q1419 : (Jvm.Cond.soleField "SoManyStairsModel" "sort") ∈ lw_all := lw_g (lw_at lw_m6 102 rfl) rfl
theorem q1420 : (Jvm.Cond.lays "SoManyStairsModel" "SoManyStairsModel" "place" "I") ∈ lw_all := lw_g (lw_at lw_m6 103 rfl) rfl
theorem q1421 : (Jvm.Cond.soleField "SoManyStairsModel" "place") ∈ lw_all := lw_g (lw_at lw_m6 104 rfl) rfl
theorem q1422 : (Jvm.Cond.lays "SoManyStairsModel" "SoManyStairsModel" "number" "I") ∈ lw_all := lw_g (lw_at lw_m6 105 rfl) rfl
theorem q1423 : (Jvm.Cond.soleField "SoManyStairsModel" "number") ∈ lw_all := lw_g (lw_at lw_m6 106 rfl) rfl
theorem q1424 : (Jvm.Cond.lays "SoManyStairsModel" "SoManyStairsModel" "word" "J") ∈ lw_all := lw_g (lw_at lw_m6 107 rfl) rfl
theorem q1425 : (Jvm.Cond.soleField "SoManyStairsModel" "word") ∈ lw_all := lw_g (lw_at lw_m6 108 rfl) rfl
theorem q1426 : (Jvm.Cond.laysFinal "SoManyStairsModel" "SoManyStairsModel" "nName" "[J") ∈ lw_all := lw_g (lw_at lw_m6 109 rfl) rfl
theorem q1427 : (Jvm.Cond.soleField "SoManyStairsModel" "nName") ∈ lw_all := lw_g (lw_at lw_m6 110 rfl) rfl
theorem q1428 : (Jvm.Cond.laysFinal "SoManyStairsModel" "SoManyStairsModel" "nStep" "[I") ∈ lw_all := lw_g (lw_at lw_m6 111 rfl) rfl
theorem q1429 : (Jvm.Cond.soleField "SoManyStairsModel" "nStep") ∈ lw_all := lw_g (lw_at lw_m6 112 rfl) rfl
theorem q1430 : (Jvm.Cond.laysFinal "SoManyStairsModel" "SoManyStairsModel" "nArg" "[I") ∈ lw_all := lw_g (lw_at lw_m6 113 rfl) rfl
theorem q1431 : (Jvm.Cond.soleField "SoManyStairsModel" "nArg") ∈ lw_all := lw_g (lw_at lw_m6 114 rfl) rfl
theorem q1432 : (Jvm.Cond.laysFinal "SoManyStairsModel" "SoManyStairsModel" "nMany" "[I") ∈ lw_all := lw_g (lw_at lw_m6 115 rfl) rfl
theorem q1433 : (Jvm.Cond.soleField "SoManyStairsModel" "nMany") ∈ lw_all := lw_g (lw_at lw_m6 116 rfl) rfl
theorem q1434 : (Jvm.Cond.laysFinal "SoManyStairsModel" "SoManyStairsModel" "step" "[I") ∈ lw_all := lw_g (lw_at lw_m6 117 rfl) rfl
theorem q1435 : (Jvm.Cond.soleField "SoManyStairsModel" "step") ∈ lw_all := lw_g (lw_at lw_m6 118 rfl) rfl
theorem q1436 : (Jvm.Cond.laysFinal "SoManyStairsModel" "SoManyStairsModel" "arg" "[I") ∈ lw_all := lw_g (lw_at lw_m6 119 rfl) rfl
theorem q1437 : (Jvm.Cond.soleField "SoManyStairsModel" "arg") ∈ lw_all := lw_g (lw_at lw_m6 120 rfl) rfl
theorem q1438 : (Jvm.Cond.laysFinal "SoManyStairsModel" "SoManyStairsModel" "steps" "[I") ∈ lw_all := lw_g (lw_at lw_m6 121 rfl) rfl
theorem q1439 : (Jvm.Cond.soleField "SoManyStairsModel" "steps") ∈ lw_all := lw_g (lw_at lw_m6 122 rfl) rfl
theorem q1440 : (Jvm.Cond.laysFinal "SoManyStairsModel" "SoManyStairsModel" "open" "[I") ∈ lw_all := lw_g (lw_at lw_m6 123 rfl) rfl
theorem q1441 : (Jvm.Cond.soleField "SoManyStairsModel" "open") ∈ lw_all := lw_g (lw_at lw_m6 124 rfl) rfl
theorem q1442 : (Jvm.Cond.laysFinal "SoManyStairsModel" "SoManyStairsModel" "values" "[I") ∈ lw_all := lw_g (lw_at lw_m6 125 rfl) rfl
theorem q1443 : (Jvm.Cond.soleField "SoManyStairsModel" "values") ∈ lw_all := lw_g (lw_at lw_m6 126 rfl) rfl
theorem q1444 : (Jvm.Cond.laysFinal "SoManyStairsModel" "SoManyStairsModel" "nHasForm" "[Z") ∈ lw_all := lw_g (lw_at lw_m6 127 rfl) rfl
theorem q1445 : (Jvm.Cond.soleField "SoManyStairsModel" "nHasForm") ∈ lw_all := lw_g (lw_at lw_m6 128 rfl) rfl
theorem q1446 : (Jvm.Cond.lays "SoManyStairsModel" "SoManyStairsModel" "form" "I") ∈ lw_all := lw_g (lw_at lw_m6 129 rfl) rfl
theorem q1447 : (Jvm.Cond.soleField "SoManyStairsModel" "form") ∈ lw_all := lw_g (lw_at lw_m6 130 rfl) rfl
theorem q1448 : (Jvm.Cond.lays "SoManyStairsModel" "SoManyStairsModel" "opens" "I") ∈ lw_all := lw_g (lw_at lw_m6 131 rfl) rfl
theorem q1449 : (Jvm.Cond.soleField "SoManyStairsModel" "opens") ∈ lw_all := lw_g (lw_at lw_m6 132 rfl) rfl
theorem q1450 : (Jvm.Cond.lays "SoManyStairsModel" "SoManyStairsModel" "nUnits" "I") ∈ lw_all := lw_g (lw_at lw_m6 133 rfl) rfl
theorem q1451 : (Jvm.Cond.soleField "SoManyStairsModel" "nUnits") ∈ lw_all := lw_g (lw_at lw_m6 134 rfl) rfl
theorem q1452 : (Jvm.Cond.lays "SoManyStairsModel" "SoManyStairsModel" "units" "I") ∈ lw_all := lw_g (lw_at lw_m6 135 rfl) rfl
theorem q1453 : (Jvm.Cond.soleField "SoManyStairsModel" "units") ∈ lw_all := lw_g (lw_at lw_m6 136 rfl) rfl
theorem q1454 : (Jvm.Cond.lays "SoManyStairsModel" "SoManyStairsModel" "ownUnits" "I") ∈ lw_all := lw_g (lw_at lw_m6 137 rfl) rfl
theorem q1455 : (Jvm.Cond.soleField "SoManyStairsModel" "ownUnits") ∈ lw_all := lw_g (lw_at lw_m6 138 rfl) rfl
theorem q1456 : (Jvm.Cond.lays "SoManyStairsModel" "SoManyStairsModel" "deep" "I") ∈ lw_all := lw_g (lw_at lw_m6 139 rfl) rfl
theorem q1457 : (Jvm.Cond.soleField "SoManyStairsModel" "deep") ∈ lw_all := lw_g (lw_at lw_m6 140 rfl) rfl
theorem q1458 : (Jvm.Cond.laysFinal "SoManyStairsModel" "SoManyStairsModel" "asks" "[I") ∈ lw_all := lw_g (lw_at lw_m6 141 rfl) rfl
theorem q1459 : (Jvm.Cond.soleField "SoManyStairsModel" "asks") ∈ lw_all := lw_g (lw_at lw_m6 142 rfl) rfl
theorem q1460 : (Jvm.Cond.laysFinal "SoManyStairsModel" "SoManyStairsModel" "nLives" "[I") ∈ lw_all := lw_g (lw_at lw_m6 143 rfl) rfl
theorem q1461 : (Jvm.Cond.soleField "SoManyStairsModel" "nLives") ∈ lw_all := lw_g (lw_at lw_m6 144 rfl) rfl
theorem q1462 : (Jvm.Cond.laysFinal "SoManyStairsModel" "SoManyStairsModel" "nStrong" "[I") ∈ lw_all := lw_g (lw_at lw_m6 145 rfl) rfl
theorem q1463 : (Jvm.Cond.soleField "SoManyStairsModel" "nStrong") ∈ lw_all := lw_g (lw_at lw_m6 146 rfl) rfl
theorem q1464 : (Jvm.Cond.laysFinal "SoManyStairsModel" "SoManyStairsModel" "nHeavy" "[I") ∈ lw_all := lw_g (lw_at lw_m6 147 rfl) rfl
theorem q1465 : (Jvm.Cond.soleField "SoManyStairsModel" "nHeavy") ∈ lw_all := lw_g (lw_at lw_m6 148 rfl) rfl
theorem q1466 : (Jvm.Cond.laysFinal "SoManyStairsModel" "SoManyStairsModel" "nOwes" "[I") ∈ lw_all := lw_g (lw_at lw_m6 149 rfl) rfl
theorem q1467 : (Jvm.Cond.soleField "SoManyStairsModel" "nOwes") ∈ lw_all := lw_g (lw_at lw_m6 150 rfl) rfl
theorem q1468 : (Jvm.Cond.laysFinal "SoManyStairsModel" "SoManyStairsModel" "nFails" "[I") ∈ lw_all := lw_g (lw_at lw_m6 151 rfl) rfl
theorem q1469 : (Jvm.Cond.soleField "SoManyStairsModel" "nFails") ∈ lw_all := lw_g (lw_at lw_m6 152 rfl) rfl
theorem q1470 : (Jvm.Cond.laysFinal "SoManyStairsModel" "SoManyStairsModel" "lives" "[I") ∈ lw_all := lw_g (lw_at lw_m6 153 rfl) rfl
theorem q1471 : (Jvm.Cond.soleField "SoManyStairsModel" "lives") ∈ lw_all := lw_g (lw_at lw_m6 154 rfl) rfl
theorem q1472 : (Jvm.Cond.laysFinal "SoManyStairsModel" "SoManyStairsModel" "strong" "[I") ∈ lw_all := lw_g (lw_at lw_m6 155 rfl) rfl
theorem q1473 : (Jvm.Cond.soleField "SoManyStairsModel" "strong") ∈ lw_all := lw_g (lw_at lw_m6 156 rfl) rfl
theorem q1474 : (Jvm.Cond.laysFinal "SoManyStairsModel" "SoManyStairsModel" "heavy" "[I") ∈ lw_all := lw_g (lw_at lw_m6 157 rfl) rfl
theorem q1475 : (Jvm.Cond.soleField "SoManyStairsModel" "heavy") ∈ lw_all := lw_g (lw_at lw_m6 158 rfl) rfl
theorem q1476 : (Jvm.Cond.laysFinal "SoManyStairsModel" "SoManyStairsModel" "owes" "[I") ∈ lw_all := lw_g (lw_at lw_m6 159 rfl) rfl
theorem q1477 : (Jvm.Cond.soleField "SoManyStairsModel" "owes") ∈ lw_all := lw_g (lw_at lw_m6 160 rfl) rfl
theorem q1478 : (Jvm.Cond.laysFinal "SoManyStairsModel" "SoManyStairsModel" "fails" "[I") ∈ lw_all := lw_g (lw_at lw_m6 161 rfl) rfl
theorem q1479 : (Jvm.Cond.soleField "SoManyStairsModel" "fails") ∈ lw_all := lw_g (lw_at lw_m6 162 rfl) rfl
theorem q1480 : (Jvm.Cond.lays "SoManyStairsModel" "SoManyStairsModel" "nStoreys" "I") ∈ lw_all := lw_g (lw_at lw_m6 163 rfl) rfl
theorem q1481 : (Jvm.Cond.soleField "SoManyStairsModel" "nStoreys") ∈ lw_all := lw_g (lw_at lw_m6 164 rfl) rfl
theorem q1482 : (Jvm.Cond.lays "SoManyStairsModel" "SoManyStairsModel" "nLift" "I") ∈ lw_all := lw_g (lw_at lw_m6 165 rfl) rfl
theorem q1483 : (Jvm.Cond.soleField "SoManyStairsModel" "nLift") ∈ lw_all := lw_g (lw_at lw_m6 166 rfl) rfl
theorem q1484 : (Jvm.Cond.lays "SoManyStairsModel" "SoManyStairsModel" "nTenants" "I") ∈ lw_all := lw_g (lw_at lw_m6 167 rfl) rfl
theorem q1485 : (Jvm.Cond.soleField "SoManyStairsModel" "nTenants") ∈ lw_all := lw_g (lw_at lw_m6 168 rfl) rfl
theorem q1486 : (Jvm.Cond.lays "SoManyStairsModel" "SoManyStairsModel" "nDraw" "I") ∈ lw_all := lw_g (lw_at lw_m6 169 rfl) rfl
theorem q1487 : (Jvm.Cond.soleField "SoManyStairsModel" "nDraw") ∈ lw_all := lw_g (lw_at lw_m6 170 rfl) rfl
theorem q1488 : (Jvm.Cond.lays "SoManyStairsModel" "SoManyStairsModel" "storeys" "I") ∈ lw_all := lw_g (lw_at lw_m6 171 rfl) rfl
theorem q1489 : (Jvm.Cond.soleField "SoManyStairsModel" "storeys") ∈ lw_all := lw_g (lw_at lw_m6 172 rfl) rfl
theorem q1490 : (Jvm.Cond.lays "SoManyStairsModel" "SoManyStairsModel" "tenants" "I") ∈ lw_all := lw_g (lw_at lw_m6 173 rfl) rfl
theorem q1491 : (Jvm.Cond.soleField "SoManyStairsModel" "tenants") ∈ lw_all := lw_g (lw_at lw_m6 174 rfl) rfl
theorem q1492 : (Jvm.Cond.lays "SoManyStairsModel" "SoManyStairsModel" "nHasLine" "Z") ∈ lw_all := lw_g (lw_at lw_m6 175 rfl) rfl
theorem q1493 : (Jvm.Cond.soleField "SoManyStairsModel" "nHasLine") ∈ lw_all := lw_g (lw_at lw_m6 176 rfl) rfl
theorem q1494 : (Jvm.Cond.lays "SoManyStairsModel" "SoManyStairsModel" "nHasDraw" "Z") ∈ lw_all := lw_g (lw_at lw_m6 177 rfl) rfl
theorem q1495 : (Jvm.Cond.soleField "SoManyStairsModel" "nHasDraw") ∈ lw_all := lw_g (lw_at lw_m6 178 rfl) rfl
theorem q1496 : (Jvm.Cond.laysFinal "SoManyStairsModel" "SoManyStairsModel" "now" "[I") ∈ lw_all := lw_g (lw_at lw_m6 179 rfl) rfl
theorem q1497 : (Jvm.Cond.soleField "SoManyStairsModel" "now") ∈ lw_all := lw_g (lw_at lw_m6 180 rfl) rfl
theorem q1498 : (Jvm.Cond.laysFinal "SoManyStairsModel" "SoManyStairsModel" "air" "[I") ∈ lw_all := lw_g (lw_at lw_m6 181 rfl) rfl
theorem q1499 : (Jvm.Cond.soleField "SoManyStairsModel" "air") ∈ lw_all := lw_g (lw_at lw_m6 182 rfl) rfl
theorem q1500 : (Jvm.Cond.laysFinal "SoManyStairsModel" "SoManyStairsModel" "were" "[I") ∈ lw_all := lw_g (lw_at lw_m6 183 rfl) rfl
theorem q1501 : (Jvm.Cond.soleField "SoManyStairsModel" "were") ∈ lw_all := lw_g (lw_at lw_m6 184 rfl) rfl
theorem q1502 : (Jvm.Cond.lays "SoManyStairsModel" "SoManyStairsModel" "acts" "I") ∈ lw_all := lw_g (lw_at lw_m6 185 rfl) rfl
theorem q1503 : (Jvm.Cond.soleField "SoManyStairsModel" "acts") ∈ lw_all := lw_g (lw_at lw_m6 186 rfl) rfl
theorem q1504 : (Jvm.Cond.lays "SoManyStairsModel" "SoManyStairsModel" "undone" "I") ∈ lw_all := lw_g (lw_at lw_m6 187 rfl) rfl
theorem q1505 : (Jvm.Cond.soleField "SoManyStairsModel" "undone") ∈ lw_all := lw_g (lw_at lw_m6 188 rfl) rfl
theorem q1506 : (Jvm.Cond.laysFinal "SoManyStairsModel" "SoManyStairsModel" "row" "[I") ∈ lw_all := lw_g (lw_at lw_m6 189 rfl) rfl
theorem q1507 : (Jvm.Cond.soleField "SoManyStairsModel" "row") ∈ lw_all := lw_g (lw_at lw_m6 190 rfl) rfl
theorem q1508 : (Jvm.Cond.laysFinal "SoManyStairsModel" "SoManyStairsModel" "lies" "[I") ∈ lw_all := lw_g (lw_at lw_m6 191 rfl) rfl
theorem q1509 : (Jvm.Cond.soleField "SoManyStairsModel" "lies") ∈ lw_all := lw_g (lw_at lw_m6 192 rfl) rfl
theorem q1510 : (Jvm.Cond.lays "SoManyStairsModel" "SoManyStairsModel" "lain" "I") ∈ lw_all := lw_g (lw_at lw_m6 193 rfl) rfl
theorem q1511 : (Jvm.Cond.soleField "SoManyStairsModel" "lain") ∈ lw_all := lw_g (lw_at lw_m6 194 rfl) rfl
theorem q1512 : (Jvm.Cond.laysFinal "SoManyStairsModel" "SoManyStairsModel" "many" "[I") ∈ lw_all := lw_g (lw_at lw_m6 195 rfl) rfl
theorem q1513 : (Jvm.Cond.soleField "SoManyStairsModel" "many") ∈ lw_all := lw_g (lw_at lw_m6 196 rfl) rfl
theorem q1514 : (Jvm.Cond.laysFinal "SoManyStairsModel" "SoManyStairsModel" "cost" "[I") ∈ lw_all := lw_g (lw_at lw_m6 197 rfl) rfl
theorem q1515 : (Jvm.Cond.soleField "SoManyStairsModel" "cost") ∈ lw_all := lw_g (lw_at lw_m6 198 rfl) rfl
theorem q1516 : (Jvm.Cond.laysFinal "SoManyStairsModel" "SoManyStairsModel" "price" "[I") ∈ lw_all := lw_g (lw_at lw_m6 199 rfl) rfl
theorem q1517 : (Jvm.Cond.soleField "SoManyStairsModel" "price") ∈ lw_all := lw_g (lw_at lw_m6 200 rfl) rfl
theorem q1518 : (Jvm.Cond.laysFinal "SoManyStairsModel" "SoManyStairsModel" "could" "[Z") ∈ lw_all := lw_g (lw_at lw_m6 201 rfl) rfl
theorem q1519 : (Jvm.Cond.soleField "SoManyStairsModel" "could") ∈ lw_all := lw_g (lw_at lw_m6 202 rfl) rfl
theorem q1520 : (Jvm.Cond.laysFinal "SoManyStairsModel" "SoManyStairsModel" "home" "[I") ∈ lw_all := lw_g (lw_at lw_m6 203 rfl) rfl
theorem q1521 : (Jvm.Cond.soleField "SoManyStairsModel" "home") ∈ lw_all := lw_g (lw_at lw_m6 204 rfl) rfl
theorem q1522 : (Jvm.Cond.laysFinal "SoManyStairsModel" "SoManyStairsModel" "behind" "[I") ∈ lw_all := lw_g (lw_at lw_m6 205 rfl) rfl
theorem q1523 : (Jvm.Cond.soleField "SoManyStairsModel" "behind") ∈ lw_all := lw_g (lw_at lw_m6 206 rfl) rfl
theorem q1524 : (Jvm.Cond.laysFinal "SoManyStairsModel" "SoManyStairsModel" "markSort" "[I") ∈ lw_all := lw_g (lw_at lw_m6 207 rfl) rfl
theorem q1525 : (Jvm.Cond.soleField "SoManyStairsModel" "markSort") ∈ lw_all := lw_g (lw_at lw_m6 208 rfl) rfl
theorem q1526 : (Jvm.Cond.laysFinal "SoManyStairsModel" "SoManyStairsModel" "markOf" "[I") ∈ lw_all := lw_g (lw_at lw_m6 209 rfl) rfl
theorem q1527 : (Jvm.Cond.soleField "SoManyStairsModel" "markOf") ∈ lw_all := lw_g (lw_at lw_m6 210 rfl) rfl
theorem q1528 : (Jvm.Cond.laysFinal "SoManyStairsModel" "SoManyStairsModel" "markTold" "[I") ∈ lw_all := lw_g (lw_at lw_m6 211 rfl) rfl
theorem q1529 : (Jvm.Cond.soleField "SoManyStairsModel" "markTold") ∈ lw_all := lw_g (lw_at lw_m6 212 rfl) rfl
theorem q1530 : (Jvm.Cond.laysFinal "SoManyStairsModel" "SoManyStairsModel" "markUntold" "[I") ∈ lw_all := lw_g (lw_at lw_m6 213 rfl) rfl
theorem q1531 : (Jvm.Cond.soleField "SoManyStairsModel" "markUntold") ∈ lw_all := lw_g (lw_at lw_m6 214 rfl) rfl
theorem q1532 : (Jvm.Cond.laysFinal "SoManyStairsModel" "SoManyStairsModel" "markIs" "[Z") ∈ lw_all := lw_g (lw_at lw_m6 215 rfl) rfl
theorem q1533 : (Jvm.Cond.soleField "SoManyStairsModel" "markIs") ∈ lw_all := lw_g (lw_at lw_m6 216 rfl) rfl
theorem q1534 : (Jvm.Cond.lays "SoManyStairsModel" "SoManyStairsModel" "marks" "I") ∈ lw_all := lw_g (lw_at lw_m6 217 rfl) rfl
theorem q1535 : (Jvm.Cond.soleField "SoManyStairsModel" "marks") ∈ lw_all := lw_g (lw_at lw_m6 218 rfl) rfl
theorem q1536 : (Jvm.Cond.lays "SoManyStairsModel" "SoManyStairsModel" "time" "I") ∈ lw_all := lw_g (lw_at lw_m6 219 rfl) rfl
theorem q1537 : (Jvm.Cond.soleField "SoManyStairsModel" "time") ∈ lw_all := lw_g (lw_at lw_m6 220 rfl) rfl
theorem q1538 : (Jvm.Cond.laysFinal "SoManyStairsModel" "SoManyStairsModel" "tally" "[I") ∈ lw_all := lw_g (lw_at lw_m6 221 rfl) rfl
theorem q1539 : (Jvm.Cond.soleField "SoManyStairsModel" "tally") ∈ lw_all := lw_g (lw_at lw_m6 222 rfl) rfl
theorem q1540 : (Jvm.Cond.laysFinal "SoManyStairsModel" "SoManyStairsModel" "hasBox" "[Z") ∈ lw_all := lw_g (lw_at lw_m6 223 rfl) rfl
theorem q1541 : (Jvm.Cond.soleField "SoManyStairsModel" "hasBox") ∈ lw_all := lw_g (lw_at lw_m6 224 rfl) rfl
theorem q1542 : (Jvm.Cond.laysFinal "SoManyStairsModel" "SoManyStairsModel" "boxes" "[I") ∈ lw_all := lw_g (lw_at lw_m6 225 rfl) rfl
theorem q1543 : (Jvm.Cond.soleField "SoManyStairsModel" "boxes") ∈ lw_all := lw_g (lw_at lw_m6 226 rfl) rfl
theorem q1544 : (Jvm.Cond.superclass "SoManyStairsModel" "java/lang/Object") ∈ lw_all := lw_g (lw_at lw_m6 227 rfl) rfl
theorem q1548 : (Jvm.Cond.instanceMethod ({ cls := "SoManyStairsModel", name := "feed", desc := "(IIIII)I" } : Jvm.MethodName)) ∈ lw_all := lw_g (lw_at lw_m6 231 rfl) rfl
theorem q1549 : (Jvm.Cond.selects "SoManyStairsModel" ({ cls := "SoManyStairsModel", name := "feed", desc := "(IIIII)I" } : Jvm.MethodName) ({ cls := "SoManyStairsModel", name := "feed", desc := "(IIIII)I" } : Jvm.MethodName)) ∈ lw_all := lw_g (lw_at lw_m6 232 rfl) rfl
theorem q1550 : (Jvm.Cond.code ({ cls := "SoManyStairsModel", name := "feed", desc := "(IIIII)I" } : Jvm.MethodName) prog_17_method_2_code (6 : Nat) (Option.some Jvm.ClassFile.FieldType.int)) ∈ lw_all := lw_g (lw_at lw_m6 233 rfl) rfl
theorem q1551 : (Jvm.Cond.methodLink "SoManyStairsModel" (145 : Nat) ({ cls := "SoManyStairsModel", name := "four", desc := "(I)V" } : Jvm.MethodName)) ∈ lw_all := lw_g (lw_at lw_m6 234 rfl) rfl
theorem q1552 : (Jvm.Cond.privateMethod ({ cls := "SoManyStairsModel", name := "four", desc := "(I)V" } : Jvm.MethodName)) ∈ lw_tbl := lw_at lw_m6 235 rfl
theorem q1553 : (Jvm.Cond.instanceMethod ({ cls := "SoManyStairsModel", name := "four", desc := "(I)V" } : Jvm.MethodName)) ∈ lw_all := lw_g (lw_at lw_m6 236 rfl) rfl
theorem q1554 : (Jvm.Cond.code ({ cls := "SoManyStairsModel", name := "four", desc := "(I)V" } : Jvm.MethodName) prog_17_method_3_code (3 : Nat) (Option.none : Option Jvm.ClassFile.FieldType)) ∈ lw_all := lw_g (lw_at lw_m6 237 rfl) rfl
theorem q1556 : (Jvm.Cond.instanceMethod ({ cls := "SoManyStairsModel", name := "end", desc := "(I)I" } : Jvm.MethodName)) ∈ lw_all := lw_g (lw_at lw_m6 239 rfl) rfl
theorem q1557 : (Jvm.Cond.selects "SoManyStairsModel" ({ cls := "SoManyStairsModel", name := "end", desc := "(I)I" } : Jvm.MethodName) ({ cls := "SoManyStairsModel", name := "end", desc := "(I)I" } : Jvm.MethodName)) ∈ lw_all := lw_g (lw_at lw_m7 0 rfl) rfl
theorem q1558 : (Jvm.Cond.code ({ cls := "SoManyStairsModel", name := "end", desc := "(I)I" } : Jvm.MethodName) prog_17_method_4_code (2 : Nat) (Option.some Jvm.ClassFile.FieldType.int)) ∈ lw_all := lw_g (lw_at lw_m7 1 rfl) rfl
theorem q1560 : (Jvm.Cond.instanceMethod ({ cls := "SoManyStairsModel", name := "house", desc := "()I" } : Jvm.MethodName)) ∈ lw_all := lw_g (lw_at lw_m7 3 rfl) rfl
theorem q1561 : (Jvm.Cond.selects "SoManyStairsModel" ({ cls := "SoManyStairsModel", name := "house", desc := "()I" } : Jvm.MethodName) ({ cls := "SoManyStairsModel", name := "house", desc := "()I" } : Jvm.MethodName)) ∈ lw_all := lw_g (lw_at lw_m7 4 rfl) rfl
theorem q1562 : (Jvm.Cond.code ({ cls := "SoManyStairsModel", name := "house", desc := "()I" } : Jvm.MethodName) prog_17_method_40_code (3 : Nat) (Option.some Jvm.ClassFile.FieldType.int)) ∈ lw_all := lw_g (lw_at lw_m7 5 rfl) rfl
theorem q1563 : (Jvm.Cond.methodLink "SoManyStairsModel" (347 : Nat) ({ cls := "SoManyStairsModel", name := "readAll", desc := "()V" } : Jvm.MethodName)) ∈ lw_all := lw_g (lw_at lw_m7 6 rfl) rfl
theorem q1564 : (Jvm.Cond.privateMethod ({ cls := "SoManyStairsModel", name := "readAll", desc := "()V" } : Jvm.MethodName)) ∈ lw_tbl := lw_at lw_m7 7 rfl
theorem q1565 : (Jvm.Cond.instanceMethod ({ cls := "SoManyStairsModel", name := "readAll", desc := "()V" } : Jvm.MethodName)) ∈ lw_all := lw_g (lw_at lw_m7 8 rfl) rfl
theorem q1566 : (Jvm.Cond.code ({ cls := "SoManyStairsModel", name := "readAll", desc := "()V" } : Jvm.MethodName) prog_17_method_39_code (1 : Nat) (Option.none : Option Jvm.ClassFile.FieldType)) ∈ lw_all := lw_g (lw_at lw_m7 9 rfl) rfl
theorem q1567 : (Jvm.Cond.methodLink "SoManyStairsModel" (230 : Nat) ({ cls := "SoManyStairsModel", name := "token", desc := "()V" } : Jvm.MethodName)) ∈ lw_all := lw_g (lw_at lw_m7 10 rfl) rfl
theorem q1568 : (Jvm.Cond.privateMethod ({ cls := "SoManyStairsModel", name := "token", desc := "()V" } : Jvm.MethodName)) ∈ lw_tbl := lw_at lw_m7 11 rfl
theorem q1569 : (Jvm.Cond.instanceMethod ({ cls := "SoManyStairsModel", name := "token", desc := "()V" } : Jvm.MethodName)) ∈ lw_all := lw_g (lw_at lw_m7 12 rfl) rfl
theorem q1570 : (Jvm.Cond.code ({ cls := "SoManyStairsModel", name := "token", desc := "()V" } : Jvm.MethodName) prog_17_method_9_code (3 : Nat) (Option.none : Option Jvm.ClassFile.FieldType)) ∈ lw_all := lw_g (lw_at lw_m7 13 rfl) rfl
theorem q1571 : (Jvm.Cond.methodLink "SoManyStairsModel" (155 : Nat) ({ cls := "SoManyStairsModel", name := "here", desc := "(I)I" } : Jvm.MethodName)) ∈ lw_all := lw_g (lw_at lw_m7 14 rfl) rfl
theorem q1572 : (Jvm.Cond.privateMethod ({ cls := "SoManyStairsModel", name := "here", desc := "(I)I" } : Jvm.MethodName)) ∈ lw_tbl := lw_at lw_m7 15 rfl
theorem q1573 : (Jvm.Cond.instanceMethod ({ cls := "SoManyStairsModel", name := "here", desc := "(I)I" } : Jvm.MethodName)) ∈ lw_all := lw_g (lw_at lw_m7 16 rfl) rfl
theorem q1574 : (Jvm.Cond.code ({ cls := "SoManyStairsModel", name := "here", desc := "(I)I" } : Jvm.MethodName) prog_17_method_5_code (2 : Nat) (Option.some Jvm.ClassFile.FieldType.int)) ∈ lw_all := lw_g (lw_at lw_m7 17 rfl) rfl
theorem q1575 : (Jvm.Cond.methodLink "SoManyStairsModel" (172 : Nat) ({ cls := "SoManyStairsModel", name := "isLetter", desc := "(I)Z" } : Jvm.MethodName)) ∈ lw_all := lw_g (lw_at lw_m7 18 rfl) rfl
theorem q1576 : (Jvm.Cond.static ({ cls := "SoManyStairsModel", name := "isLetter", desc := "(I)Z" } : Jvm.MethodName)) ∈ lw_all := lw_g (lw_at lw_m7 19 rfl) rfl
theorem q1577 : (Jvm.Cond.code ({ cls := "SoManyStairsModel", name := "isLetter", desc := "(I)Z" } : Jvm.MethodName) prog_17_method_6_code (1 : Nat) (Option.some Jvm.ClassFile.FieldType.boolean)) ∈ lw_all := lw_g (lw_at lw_m7 20 rfl) rfl
theorem q1578 : (Jvm.Cond.methodLink "SoManyStairsModel" (176 : Nat) ({ cls := "SoManyStairsModel", name := "isDigit", desc := "(I)Z" } : Jvm.MethodName)) ∈ lw_all := lw_g (lw_at lw_m7 21 rfl) rfl
theorem q1579 : (Jvm.Cond.static ({ cls := "SoManyStairsModel", name := "isDigit", desc := "(I)Z" } : Jvm.MethodName)) ∈ lw_all := lw_g (lw_at lw_m7 22 rfl) rfl
theorem q1580 : (Jvm.Cond.code ({ cls := "SoManyStairsModel", name := "isDigit", desc := "(I)Z" } : Jvm.MethodName) prog_17_method_7_code (1 : Nat) (Option.some Jvm.ClassFile.FieldType.boolean)) ∈ lw_all := lw_g (lw_at lw_m7 23 rfl) rfl
theorem q1581 : (Jvm.Cond.methodLink "SoManyStairsModel" (179 : Nat) ({ cls := "SoManyStairsModel", name := "isSign", desc := "(I)Z" } : Jvm.MethodName)) ∈ lw_all := lw_g (lw_at lw_m7 24 rfl) rfl
theorem q1582 : (Jvm.Cond.static ({ cls := "SoManyStairsModel", name := "isSign", desc := "(I)Z" } : Jvm.MethodName)) ∈ lw_all := lw_g (lw_at lw_m7 25 rfl) rfl
theorem q1583 : (Jvm.Cond.code ({ cls := "SoManyStairsModel", name := "isSign", desc := "(I)Z" } : Jvm.MethodName) prog_17_method_8_code (1 : Nat) (Option.some Jvm.ClassFile.FieldType.boolean)) ∈ lw_all := lw_g (lw_at lw_m7 26 rfl) rfl
theorem q1584 : (Jvm.Cond.methodLink "SoManyStairsModel" (344 : Nat) ({ cls := "SoManyStairsModel", name := "readLine", desc := "()V" } : Jvm.MethodName)) ∈ lw_all := lw_g (lw_at lw_m7 27 rfl) rfl
theorem q1585 : (Jvm.Cond.privateMethod ({ cls := "SoManyStairsModel", name := "readLine", desc := "()V" } : Jvm.MethodName)) ∈ lw_tbl := lw_at lw_m7 28 rfl
theorem q1586 : (Jvm.Cond.instanceMethod ({ cls := "SoManyStairsModel", name := "readLine", desc := "()V" } : Jvm.MethodName)) ∈ lw_all := lw_g (lw_at lw_m7 29 rfl) rfl
theorem q1587 : (Jvm.Cond.code ({ cls := "SoManyStairsModel", name := "readLine", desc := "()V" } : Jvm.MethodName) prog_17_method_38_code (1 : Nat) (Option.none : Option Jvm.ClassFile.FieldType)) ∈ lw_all := lw_g (lw_at lw_m7 30 rfl) rfl
theorem q1588 : (Jvm.Cond.constantLong "SoManyStairsModel" (185 : Nat) (32497644331170163 : Int64)) ∈ lw_all := lw_g (lw_at lw_m7 31 rfl) rfl
theorem q1589 : (Jvm.Cond.methodLink "SoManyStairsModel" (223 : Nat) ({ cls := "SoManyStairsModel", name := "isWord", desc := "(J)Z" } : Jvm.MethodName)) ∈ lw_all := lw_g (lw_at lw_m7 32 rfl) rfl
theorem q1590 : (Jvm.Cond.privateMethod ({ cls := "SoManyStairsModel", name := "isWord", desc := "(J)Z" } : Jvm.MethodName)) ∈ lw_tbl := lw_at lw_m7 33 rfl
theorem q1591 : (Jvm.Cond.instanceMethod ({ cls := "SoManyStairsModel", name := "isWord", desc := "(J)Z" } : Jvm.MethodName)) ∈ lw_all := lw_g (lw_at lw_m7 34 rfl) rfl
theorem q1592 : (Jvm.Cond.code ({ cls := "SoManyStairsModel", name := "isWord", desc := "(J)Z" } : Jvm.MethodName) prog_17_method_11_code (3 : Nat) (Option.some Jvm.ClassFile.FieldType.boolean)) ∈ lw_all := lw_g (lw_at lw_m7 35 rfl) rfl
theorem q1593 : (Jvm.Cond.methodLink "SoManyStairsModel" (329 : Nat) ({ cls := "SoManyStairsModel", name := "readStoreys", desc := "()V" } : Jvm.MethodName)) ∈ lw_all := lw_g (lw_at lw_m7 36 rfl) rfl
theorem q1594 : (Jvm.Cond.privateMethod ({ cls := "SoManyStairsModel", name := "readStoreys", desc := "()V" } : Jvm.MethodName)) ∈ lw_tbl := lw_at lw_m7 37 rfl
theorem q1595 : (Jvm.Cond.instanceMethod ({ cls := "SoManyStairsModel", name := "readStoreys", desc := "()V" } : Jvm.MethodName)) ∈ lw_all := lw_g (lw_at lw_m7 38 rfl) rfl
theorem q1596 : (Jvm.Cond.code ({ cls := "SoManyStairsModel", name := "readStoreys", desc := "()V" } : Jvm.MethodName) prog_17_method_36_code (1 : Nat) (Option.none : Option Jvm.ClassFile.FieldType)) ∈ lw_all := lw_g (lw_at lw_m7 39 rfl) rfl
theorem q1597 : (Jvm.Cond.methodLink "SoManyStairsModel" (237 : Nat) ({ cls := "SoManyStairsModel", name := "toldNumber", desc := "(II)I" } : Jvm.MethodName)) ∈ lw_all := lw_g (lw_at lw_m7 40 rfl) rfl
theorem q1598 : (Jvm.Cond.privateMethod ({ cls := "SoManyStairsModel", name := "toldNumber", desc := "(II)I" } : Jvm.MethodName)) ∈ lw_tbl := lw_at lw_m7 41 rfl
theorem q1599 : (Jvm.Cond.instanceMethod ({ cls := "SoManyStairsModel", name := "toldNumber", desc := "(II)I" } : Jvm.MethodName)) ∈ lw_all := lw_g (lw_at lw_m7 42 rfl) rfl
theorem q1600 : (Jvm.Cond.code ({ cls := "SoManyStairsModel", name := "toldNumber", desc := "(II)I" } : Jvm.MethodName) prog_17_method_15_code (4 : Nat) (Option.some Jvm.ClassFile.FieldType.int)) ∈ lw_all := lw_g (lw_at lw_m7 43 rfl) rfl
theorem q1601 : (Jvm.Cond.methodLink "SoManyStairsModel" (227 : Nat) ({ cls := "SoManyStairsModel", name := "wrong", desc := "(I)V" } : Jvm.MethodName)) ∈ lw_all := lw_g (lw_at lw_m7 44 rfl) rfl
theorem q1602 : (Jvm.Cond.privateMethod ({ cls := "SoManyStairsModel", name := "wrong", desc := "(I)V" } : Jvm.MethodName)) ∈ lw_tbl := lw_at lw_m7 45 rfl
theorem q1603 : (Jvm.Cond.instanceMethod ({ cls := "SoManyStairsModel", name := "wrong", desc := "(I)V" } : Jvm.MethodName)) ∈ lw_all := lw_g (lw_at lw_m7 46 rfl) rfl
theorem q1604 : (Jvm.Cond.code ({ cls := "SoManyStairsModel", name := "wrong", desc := "(I)V" } : Jvm.MethodName) prog_17_method_10_code (2 : Nat) (Option.none : Option Jvm.ClassFile.FieldType)) ∈ lw_all := lw_g (lw_at lw_m7 47 rfl) rfl
theorem q1605 : (Jvm.Cond.constantLong "SoManyStairsModel" (187 : Nat) (1818846836 : Int64)) ∈ lw_all := lw_g (lw_at lw_m7 48 rfl) rfl
theorem q1606 : (Jvm.Cond.methodLink "SoManyStairsModel" (315 : Nat) ({ cls := "SoManyStairsModel", name := "option", desc := "(JI)I" } : Jvm.MethodName)) ∈ lw_all := lw_g (lw_at lw_m7 49 rfl) rfl
theorem q1607 : (Jvm.Cond.privateMethod ({ cls := "SoManyStairsModel", name := "option", desc := "(JI)I" } : Jvm.MethodName)) ∈ lw_tbl := lw_at lw_m7 50 rfl
theorem q1608 : (Jvm.Cond.instanceMethod ({ cls := "SoManyStairsModel", name := "option", desc := "(JI)I" } : Jvm.MethodName)) ∈ lw_all := lw_g (lw_at lw_m7 51 rfl) rfl
theorem q1609 : (Jvm.Cond.code ({ cls := "SoManyStairsModel", name := "option", desc := "(JI)I" } : Jvm.MethodName) prog_17_method_17_code (4 : Nat) (Option.some Jvm.ClassFile.FieldType.int)) ∈ lw_all := lw_g (lw_at lw_m7 52 rfl) rfl
theorem q1610 : (Jvm.Cond.methodLink "SoManyStairsModel" (241 : Nat) ({ cls := "SoManyStairsModel", name := "told", desc := "(JII)I" } : Jvm.MethodName)) ∈ lw_all := lw_g (lw_at lw_m7 53 rfl) rfl
theorem q1611 : (Jvm.Cond.privateMethod ({ cls := "SoManyStairsModel", name := "told", desc := "(JII)I" } : Jvm.MethodName)) ∈ lw_tbl := lw_at lw_m7 54 rfl
theorem q1612 : (Jvm.Cond.instanceMethod ({ cls := "SoManyStairsModel", name := "told", desc := "(JII)I" } : Jvm.MethodName)) ∈ lw_all := lw_g (lw_at lw_m7 55 rfl) rfl
theorem q1613 : (Jvm.Cond.code ({ cls := "SoManyStairsModel", name := "told", desc := "(JII)I" } : Jvm.MethodName) prog_17_method_16_code (5 : Nat) (Option.some Jvm.ClassFile.FieldType.int)) ∈ lw_all := lw_g (lw_at lw_m7 56 rfl) rfl
theorem q1614 : (Jvm.Cond.methodLink "SoManyStairsModel" (233 : Nat) ({ cls := "SoManyStairsModel", name := "want", desc := "(J)V" } : Jvm.MethodName)) ∈ lw_all := lw_g (lw_at lw_m7 57 rfl) rfl
theorem q1615 : (Jvm.Cond.privateMethod ({ cls := "SoManyStairsModel", name := "want", desc := "(J)V" } : Jvm.MethodName)) ∈ lw_tbl := lw_at lw_m7 58 rfl
theorem q1616 : (Jvm.Cond.instanceMethod ({ cls := "SoManyStairsModel", name := "want", desc := "(J)V" } : Jvm.MethodName)) ∈ lw_all := lw_g (lw_at lw_m7 59 rfl) rfl
theorem q1617 : (Jvm.Cond.code ({ cls := "SoManyStairsModel", name := "want", desc := "(J)V" } : Jvm.MethodName) prog_17_method_14_code (3 : Nat) (Option.none : Option Jvm.ClassFile.FieldType)) ∈ lw_all := lw_g (lw_at lw_m7 60 rfl) rfl
theorem q1618 : (Jvm.Cond.constantLong "SoManyStairsModel" (189 : Nat) (127978992397940 : Int64)) ∈ lw_all := lw_g (lw_at lw_m7 61 rfl) rfl
theorem q1619 : (Jvm.Cond.methodLink "SoManyStairsModel" (332 : Nat) ({ cls := "SoManyStairsModel", name := "readTenant", desc := "()V" } : Jvm.MethodName)) ∈ lw_all := lw_g (lw_at lw_m7 62 rfl) rfl
theorem q1620 : (Jvm.Cond.privateMethod ({ cls := "SoManyStairsModel", name := "readTenant", desc := "()V" } : Jvm.MethodName)) ∈ lw_tbl := lw_at lw_m7 63 rfl
theorem q1621 : (Jvm.Cond.instanceMethod ({ cls := "SoManyStairsModel", name := "readTenant", desc := "()V" } : Jvm.MethodName)) ∈ lw_all := lw_g (lw_at lw_m7 64 rfl) rfl
theorem q1622 : (Jvm.Cond.code ({ cls := "SoManyStairsModel", name := "readTenant", desc := "()V" } : Jvm.MethodName) prog_17_method_37_code (2 : Nat) (Option.none : Option Jvm.ClassFile.FieldType)) ∈ lw_all := lw_g (lw_at lw_m7 65 rfl) rfl
theorem q1623 : (Jvm.Cond.methodLink "SoManyStairsModel" (322 : Nat) ({ cls := "SoManyStairsModel", name := "newName", desc := "()V" } : Jvm.MethodName)) ∈ lw_all := lw_g (lw_at lw_m7 66 rfl) rfl
theorem q1624 : (Jvm.Cond.privateMethod ({ cls := "SoManyStairsModel", name := "newName", desc := "()V" } : Jvm.MethodName)) ∈ lw_tbl := lw_at lw_m7 67 rfl
theorem q1625 : (Jvm.Cond.instanceMethod ({ cls := "SoManyStairsModel", name := "newName", desc := "()V" } : Jvm.MethodName)) ∈ lw_all := lw_g (lw_at lw_m7 68 rfl) rfl
theorem q1626 : (Jvm.Cond.code ({ cls := "SoManyStairsModel", name := "newName", desc := "()V" } : Jvm.MethodName) prog_17_method_18_code (2 : Nat) (Option.none : Option Jvm.ClassFile.FieldType)) ∈ lw_all := lw_g (lw_at lw_m7 69 rfl) rfl
theorem q1627 : (Jvm.Cond.methodLink "SoManyStairsModel" (245 : Nat) ({ cls := "SoManyStairsModel", name := "isName", desc := "()Z" } : Jvm.MethodName)) ∈ lw_all := lw_g (lw_at lw_m7 70 rfl) rfl
theorem q1628 : (Jvm.Cond.privateMethod ({ cls := "SoManyStairsModel", name := "isName", desc := "()Z" } : Jvm.MethodName)) ∈ lw_tbl := lw_at lw_m7 71 rfl
theorem q1629 : (Jvm.Cond.instanceMethod ({ cls := "SoManyStairsModel", name := "isName", desc := "()Z" } : Jvm.MethodName)) ∈ lw_all := lw_g (lw_at lw_m7 72 rfl) rfl
theorem q1630 : (Jvm.Cond.code ({ cls := "SoManyStairsModel", name := "isName", desc := "()Z" } : Jvm.MethodName) prog_17_method_13_code (1 : Nat) (Option.some Jvm.ClassFile.FieldType.boolean)) ∈ lw_all := lw_g (lw_at lw_m7 73 rfl) rfl
theorem q1631 : (Jvm.Cond.methodLink "SoManyStairsModel" (219 : Nat) ({ cls := "SoManyStairsModel", name := "isOwn", desc := "()Z" } : Jvm.MethodName)) ∈ lw_all := lw_g (lw_at lw_m7 74 rfl) rfl
theorem q1632 : (Jvm.Cond.privateMethod ({ cls := "SoManyStairsModel", name := "isOwn", desc := "()Z" } : Jvm.MethodName)) ∈ lw_tbl := lw_at lw_m7 75 rfl
theorem q1633 : (Jvm.Cond.instanceMethod ({ cls := "SoManyStairsModel", name := "isOwn", desc := "()Z" } : Jvm.MethodName)) ∈ lw_all := lw_g (lw_at lw_m7 76 rfl) rfl
theorem q1634 : (Jvm.Cond.code ({ cls := "SoManyStairsModel", name := "isOwn", desc := "()Z" } : Jvm.MethodName) prog_17_method_12_code (1 : Nat) (Option.some Jvm.ClassFile.FieldType.boolean)) ∈ lw_all := lw_g (lw_at lw_m7 77 rfl) rfl
theorem q1635 : (Jvm.Cond.constantLong "SoManyStairsModel" (191 : Nat) (28526 : Int64)) ∈ lw_all := lw_g (lw_at lw_m7 78 rfl) rfl
theorem q1636 : (Jvm.Cond.constantLong "SoManyStairsModel" (193 : Nat) (126943973305959 : Int64)) ∈ lw_all := lw_g (lw_at lw_m7 79 rfl) rfl
theorem q1637 : (Jvm.Cond.constantLong "SoManyStairsModel" (195 : Nat) (448377484921 : Int64)) ∈ lw_all := lw_g (lw_at lw_m7 80 rfl) rfl
theorem q1638 : (Jvm.Cond.constantLong "SoManyStairsModel" (197 : Nat) (1870095731 : Int64)) ∈ lw_all := lw_g (lw_at lw_m7 81 rfl) rfl
theorem q1639 : (Jvm.Cond.constantLong "SoManyStairsModel" (199 : Nat) (439720963187 : Int64)) ∈ lw_all := lw_g (lw_at lw_m7 82 rfl) rfl
theorem q1640 : (Jvm.Cond.constantLong "SoManyStairsModel" (201 : Nat) (109330362692723 : Int64)) ∈ lw_all := lw_g (lw_at lw_m7 83 rfl) rfl
theorem q1641 : (Jvm.Cond.constantLong "SoManyStairsModel" (203 : Nat) (470021465459 : Int64)) ∈ lw_all := lw_g (lw_at lw_m7 84 rfl) rfl
theorem q1642 : (Jvm.Cond.constantLong "SoManyStairsModel" (205 : Nat) (1685217655 : Int64)) ∈ lw_all := lw_g (lw_at lw_m7 85 rfl) rfl
theorem q1643 : (Jvm.Cond.constantLong "SoManyStairsModel" (207 : Nat) (474214787188 : Int64)) ∈ lw_all := lw_g (lw_at lw_m7 86 rfl) rfl
theorem q1644 : (Jvm.Cond.constantLong "SoManyStairsModel" (209 : Nat) (2003133803 : Int64)) ∈ lw_all := lw_g (lw_at lw_m7 87 rfl) rfl
theorem q1645 : (Jvm.Cond.constantLong "SoManyStairsModel" (211 : Nat) (27985222756885860 : Int64)) ∈ lw_all := lw_g (lw_at lw_m7 88 rfl) rfl
theorem q1646 : (Jvm.Cond.constantLong "SoManyStairsModel" (213 : Nat) (6385252 : Int64)) ∈ lw_all := lw_g (lw_at lw_m7 89 rfl) rfl
theorem q1647 : (Jvm.Cond.constantLong "SoManyStairsModel" (215 : Nat) (28530 : Int64)) ∈ lw_all := lw_g (lw_at lw_m7 90 rfl) rfl
theorem q1648 : (Jvm.Cond.constantLong "SoManyStairsModel" (217 : Nat) (7237492 : Int64)) ∈ lw_all := lw_g (lw_at lw_m7 91 rfl) rfl
theorem q1649 : (Jvm.Cond.methodLink "SoManyStairsModel" (335 : Nat) ({ cls := "SoManyStairsModel", name := "formula", desc := "(I)V" } : Jvm.MethodName)) ∈ lw_all := lw_g (lw_at lw_m7 92 rfl) rfl
theorem q1650 : (Jvm.Cond.privateMethod ({ cls := "SoManyStairsModel", name := "formula", desc := "(I)V" } : Jvm.MethodName)) ∈ lw_tbl := lw_at lw_m7 93 rfl
theorem q1651 : (Jvm.Cond.instanceMethod ({ cls := "SoManyStairsModel", name := "formula", desc := "(I)V" } : Jvm.MethodName)) ∈ lw_all := lw_g (lw_at lw_m7 94 rfl) rfl
theorem q1652 : (Jvm.Cond.code ({ cls := "SoManyStairsModel", name := "formula", desc := "(I)V" } : Jvm.MethodName) prog_17_method_31_code (4 : Nat) (Option.none : Option Jvm.ClassFile.FieldType)) ∈ lw_all := lw_g (lw_at lw_m7 95 rfl) rfl
theorem q1653 : (Jvm.Cond.methodLink "SoManyStairsModel" (289 : Nat) ({ cls := "SoManyStairsModel", name := "unit", desc := "()V" } : Jvm.MethodName)) ∈ lw_all := lw_g (lw_at lw_m7 96 rfl) rfl
theorem q1654 : (Jvm.Cond.privateMethod ({ cls := "SoManyStairsModel", name := "unit", desc := "()V" } : Jvm.MethodName)) ∈ lw_tbl := lw_at lw_m7 97 rfl
theorem q1655 : (Jvm.Cond.instanceMethod ({ cls := "SoManyStairsModel", name := "unit", desc := "()V" } : Jvm.MethodName)) ∈ lw_all := lw_g (lw_at lw_m7 98 rfl) rfl
theorem q1656 : (Jvm.Cond.code ({ cls := "SoManyStairsModel", name := "unit", desc := "()V" } : Jvm.MethodName) prog_17_method_28_code (3 : Nat) (Option.none : Option Jvm.ClassFile.FieldType)) ∈ lw_all := lw_g (lw_at lw_m7 99 rfl) rfl
theorem q1657 : (Jvm.Cond.methodLink "SoManyStairsModel" (273 : Nat) ({ cls := "SoManyStairsModel", name := "mayNot", desc := "()Z" } : Jvm.MethodName)) ∈ lw_all := lw_g (lw_at lw_m7 100 rfl) rfl
theorem q1658 : (Jvm.Cond.privateMethod ({ cls := "SoManyStairsModel", name := "mayNot", desc := "()Z" } : Jvm.MethodName)) ∈ lw_tbl := lw_at lw_m7 101 rfl
theorem q1659 : (Jvm.Cond.instanceMethod ({ cls := "SoManyStairsModel", name := "mayNot", desc := "()Z" } : Jvm.MethodName)) ∈ lw_all := lw_g (lw_at lw_m7 102 rfl) rfl
theorem q1660 : (Jvm.Cond.code ({ cls := "SoManyStairsModel", name := "mayNot", desc := "()Z" } : Jvm.MethodName) prog_17_method_23_code (1 : Nat) (Option.some Jvm.ClassFile.FieldType.boolean)) ∈ lw_all := lw_g (lw_at lw_m7 103 rfl) rfl
theorem q1661 : (Jvm.Cond.methodLink "SoManyStairsModel" (257 : Nat) ({ cls := "SoManyStairsModel", name := "tight", desc := "(I)I" } : Jvm.MethodName)) ∈ lw_all := lw_g (lw_at lw_m7 104 rfl) rfl
theorem q1662 : (Jvm.Cond.static ({ cls := "SoManyStairsModel", name := "tight", desc := "(I)I" } : Jvm.MethodName)) ∈ lw_all := lw_g (lw_at lw_m7 105 rfl) rfl
theorem q1663 : (Jvm.Cond.code ({ cls := "SoManyStairsModel", name := "tight", desc := "(I)I" } : Jvm.MethodName) prog_17_method_20_code (1 : Nat) (Option.some Jvm.ClassFile.FieldType.int)) ∈ lw_all := lw_g (lw_at lw_m7 106 rfl) rfl
theorem q1664 : (Jvm.Cond.methodLink "SoManyStairsModel" (276 : Nat) ({ cls := "SoManyStairsModel", name := "openUp", desc := "(I)V" } : Jvm.MethodName)) ∈ lw_all := lw_g (lw_at lw_m7 107 rfl) rfl
theorem q1665 : (Jvm.Cond.privateMethod ({ cls := "SoManyStairsModel", name := "openUp", desc := "(I)V" } : Jvm.MethodName)) ∈ lw_tbl := lw_at lw_m7 108 rfl
theorem q1666 : (Jvm.Cond.instanceMethod ({ cls := "SoManyStairsModel", name := "openUp", desc := "(I)V" } : Jvm.MethodName)) ∈ lw_all := lw_g (lw_at lw_m7 109 rfl) rfl
theorem q1667 : (Jvm.Cond.code ({ cls := "SoManyStairsModel", name := "openUp", desc := "(I)V" } : Jvm.MethodName) prog_17_method_27_code (2 : Nat) (Option.none : Option Jvm.ClassFile.FieldType)) ∈ lw_all := lw_g (lw_at lw_m7 110 rfl) rfl
theorem q1668 : (Jvm.Cond.methodLink "SoManyStairsModel" (279 : Nat) ({ cls := "SoManyStairsModel", name := "isFull", desc := "()Z" } : Jvm.MethodName)) ∈ lw_all := lw_g (lw_at lw_m7 111 rfl) rfl
theorem q1669 : (Jvm.Cond.privateMethod ({ cls := "SoManyStairsModel", name := "isFull", desc := "()Z" } : Jvm.MethodName)) ∈ lw_tbl := lw_at lw_m7 112 rfl
theorem q1670 : (Jvm.Cond.instanceMethod ({ cls := "SoManyStairsModel", name := "isFull", desc := "()Z" } : Jvm.MethodName)) ∈ lw_all := lw_g (lw_at lw_m7 113 rfl) rfl
theorem q1671 : (Jvm.Cond.code ({ cls := "SoManyStairsModel", name := "isFull", desc := "()Z" } : Jvm.MethodName) prog_17_method_25_code (1 : Nat) (Option.some Jvm.ClassFile.FieldType.boolean)) ∈ lw_all := lw_g (lw_at lw_m7 114 rfl) rfl
theorem q1672 : (Jvm.Cond.methodLink "SoManyStairsModel" (282 : Nat) ({ cls := "SoManyStairsModel", name := "countUnit", desc := "()V" } : Jvm.MethodName)) ∈ lw_all := lw_g (lw_at lw_m7 115 rfl) rfl
theorem q1673 : (Jvm.Cond.privateMethod ({ cls := "SoManyStairsModel", name := "countUnit", desc := "()V" } : Jvm.MethodName)) ∈ lw_tbl := lw_at lw_m7 116 rfl
theorem q1674 : (Jvm.Cond.instanceMethod ({ cls := "SoManyStairsModel", name := "countUnit", desc := "()V" } : Jvm.MethodName)) ∈ lw_all := lw_g (lw_at lw_m7 117 rfl) rfl
theorem q1675 : (Jvm.Cond.code ({ cls := "SoManyStairsModel", name := "countUnit", desc := "()V" } : Jvm.MethodName) prog_17_method_26_code (1 : Nat) (Option.none : Option Jvm.ClassFile.FieldType)) ∈ lw_all := lw_g (lw_at lw_m7 118 rfl) rfl
theorem q1676 : (Jvm.Cond.methodLink "SoManyStairsModel" (285 : Nat) ({ cls := "SoManyStairsModel", name := "asked", desc := "()I" } : Jvm.MethodName)) ∈ lw_all := lw_g (lw_at lw_m7 119 rfl) rfl
theorem q1677 : (Jvm.Cond.privateMethod ({ cls := "SoManyStairsModel", name := "asked", desc := "()I" } : Jvm.MethodName)) ∈ lw_tbl := lw_at lw_m7 120 rfl
theorem q1678 : (Jvm.Cond.instanceMethod ({ cls := "SoManyStairsModel", name := "asked", desc := "()I" } : Jvm.MethodName)) ∈ lw_all := lw_g (lw_at lw_m7 121 rfl) rfl
theorem q1679 : (Jvm.Cond.code ({ cls := "SoManyStairsModel", name := "asked", desc := "()I" } : Jvm.MethodName) prog_17_method_24_code (1 : Nat) (Option.some Jvm.ClassFile.FieldType.int)) ∈ lw_all := lw_g (lw_at lw_m7 122 rfl) rfl
theorem q1680 : (Jvm.Cond.methodLink "SoManyStairsModel" (260 : Nat) ({ cls := "SoManyStairsModel", name := "add", desc := "(II)V" } : Jvm.MethodName)) ∈ lw_all := lw_g (lw_at lw_m7 123 rfl) rfl
theorem q1681 : (Jvm.Cond.privateMethod ({ cls := "SoManyStairsModel", name := "add", desc := "(II)V" } : Jvm.MethodName)) ∈ lw_tbl := lw_at lw_m7 124 rfl
theorem q1682 : (Jvm.Cond.instanceMethod ({ cls := "SoManyStairsModel", name := "add", desc := "(II)V" } : Jvm.MethodName)) ∈ lw_all := lw_g (lw_at lw_m7 125 rfl) rfl
theorem q1683 : (Jvm.Cond.code ({ cls := "SoManyStairsModel", name := "add", desc := "(II)V" } : Jvm.MethodName) prog_17_method_19_code (3 : Nat) (Option.none : Option Jvm.ClassFile.FieldType)) ∈ lw_all := lw_g (lw_at lw_m7 126 rfl) rfl
theorem q1684 : (Jvm.Cond.methodLink "SoManyStairsModel" (292 : Nat) ({ cls := "SoManyStairsModel", name := "sign", desc := "()I" } : Jvm.MethodName)) ∈ lw_all := lw_g (lw_at lw_m7 127 rfl) rfl
theorem q1685 : (Jvm.Cond.privateMethod ({ cls := "SoManyStairsModel", name := "sign", desc := "()I" } : Jvm.MethodName)) ∈ lw_tbl := lw_at lw_m7 128 rfl
theorem q1686 : (Jvm.Cond.instanceMethod ({ cls := "SoManyStairsModel", name := "sign", desc := "()I" } : Jvm.MethodName)) ∈ lw_all := lw_g (lw_at lw_m7 129 rfl) rfl
theorem q1687 : (Jvm.Cond.code ({ cls := "SoManyStairsModel", name := "sign", desc := "()I" } : Jvm.MethodName) prog_17_method_29_code (1 : Nat) (Option.some Jvm.ClassFile.FieldType.int)) ∈ lw_all := lw_g (lw_at lw_m7 130 rfl) rfl
theorem q1688 : (Jvm.Cond.methodLink "SoManyStairsModel" (295 : Nat) ({ cls := "SoManyStairsModel", name := "hasBracket", desc := "()Z" } : Jvm.MethodName)) ∈ lw_all := lw_g (lw_at lw_m7 131 rfl) rfl
theorem q1689 : (Jvm.Cond.privateMethod ({ cls := "SoManyStairsModel", name := "hasBracket", desc := "()Z" } : Jvm.MethodName)) ∈ lw_tbl := lw_at lw_m7 132 rfl
theorem q1690 : (Jvm.Cond.instanceMethod ({ cls := "SoManyStairsModel", name := "hasBracket", desc := "()Z" } : Jvm.MethodName)) ∈ lw_all := lw_g (lw_at lw_m7 133 rfl) rfl
theorem q1691 : (Jvm.Cond.code ({ cls := "SoManyStairsModel", name := "hasBracket", desc := "()Z" } : Jvm.MethodName) prog_17_method_30_code (3 : Nat) (Option.some Jvm.ClassFile.FieldType.boolean)) ∈ lw_all := lw_g (lw_at lw_m7 134 rfl) rfl
theorem q1692 : (Jvm.Cond.methodLink "SoManyStairsModel" (298 : Nat) ({ cls := "SoManyStairsModel", name := "close", desc := "(I)V" } : Jvm.MethodName)) ∈ lw_all := lw_g (lw_at lw_m7 135 rfl) rfl
theorem q1693 : (Jvm.Cond.privateMethod ({ cls := "SoManyStairsModel", name := "close", desc := "(I)V" } : Jvm.MethodName)) ∈ lw_tbl := lw_at lw_m7 136 rfl
theorem q1694 : (Jvm.Cond.instanceMethod ({ cls := "SoManyStairsModel", name := "close", desc := "(I)V" } : Jvm.MethodName)) ∈ lw_all := lw_g (lw_at lw_m7 137 rfl) rfl
theorem q1695 : (Jvm.Cond.code ({ cls := "SoManyStairsModel", name := "close", desc := "(I)V" } : Jvm.MethodName) prog_17_method_21_code (2 : Nat) (Option.none : Option Jvm.ClassFile.FieldType)) ∈ lw_all := lw_g (lw_at lw_m7 138 rfl) rfl
theorem q1696 : (Jvm.Cond.methodLink "SoManyStairsModel" (301 : Nat) ({ cls := "SoManyStairsModel", name := "hasRelation", desc := "()Z" } : Jvm.MethodName)) ∈ lw_all := lw_g (lw_at lw_m7 139 rfl) rfl
theorem q1697 : (Jvm.Cond.privateMethod ({ cls := "SoManyStairsModel", name := "hasRelation", desc := "()Z" } : Jvm.MethodName)) ∈ lw_tbl := lw_at lw_m7 140 rfl
theorem q1698 : (Jvm.Cond.instanceMethod ({ cls := "SoManyStairsModel", name := "hasRelation", desc := "()Z" } : Jvm.MethodName)) ∈ lw_all := lw_g (lw_at lw_m7 141 rfl) rfl
theorem q1699 : (Jvm.Cond.code ({ cls := "SoManyStairsModel", name := "hasRelation", desc := "()Z" } : Jvm.MethodName) prog_17_method_22_code (2 : Nat) (Option.some Jvm.ClassFile.FieldType.boolean)) ∈ lw_all := lw_g (lw_at lw_m7 142 rfl) rfl
theorem q1701 : (Jvm.Cond.instanceMethod ({ cls := "SoManyStairsModel", name := "fault", desc := "(I)I" } : Jvm.MethodName)) ∈ lw_all := lw_g (lw_at lw_m7 144 rfl) rfl
theorem q1702 : (Jvm.Cond.selects "SoManyStairsModel" ({ cls := "SoManyStairsModel", name := "fault", desc := "(I)I" } : Jvm.MethodName) ({ cls := "SoManyStairsModel", name := "fault", desc := "(I)I" } : Jvm.MethodName)) ∈ lw_all := lw_g (lw_at lw_m7 145 rfl) rfl
theorem q1703 : (Jvm.Cond.code ({ cls := "SoManyStairsModel", name := "fault", desc := "(I)I" } : Jvm.MethodName) prog_17_method_41_code (2 : Nat) (Option.some Jvm.ClassFile.FieldType.int)) ∈ lw_all := lw_g (lw_at lw_m7 146 rfl) rfl
theorem q1705 : (Jvm.Cond.instanceMethod ({ cls := "SoManyStairsModel", name := "tenant", desc := "(II)I" } : Jvm.MethodName)) ∈ lw_all := lw_g (lw_at lw_m7 148 rfl) rfl
theorem q1706 : (Jvm.Cond.selects "SoManyStairsModel" ({ cls := "SoManyStairsModel", name := "tenant", desc := "(II)I" } : Jvm.MethodName) ({ cls := "SoManyStairsModel", name := "tenant", desc := "(II)I" } : Jvm.MethodName)) ∈ lw_all := lw_g (lw_at lw_m7 149 rfl) rfl
theorem q1707 : (Jvm.Cond.code ({ cls := "SoManyStairsModel", name := "tenant", desc := "(II)I" } : Jvm.MethodName) prog_17_method_56_code (3 : Nat) (Option.some Jvm.ClassFile.FieldType.int)) ∈ lw_all := lw_g (lw_at lw_m7 150 rfl) rfl
theorem q1708 : (Jvm.Cond.methodLink "SoManyStairsModel" (382 : Nat) ({ cls := "SoManyStairsModel", name := "isTenant", desc := "(I)Z" } : Jvm.MethodName)) ∈ lw_all := lw_g (lw_at lw_m7 151 rfl) rfl
theorem q1709 : (Jvm.Cond.privateMethod ({ cls := "SoManyStairsModel", name := "isTenant", desc := "(I)Z" } : Jvm.MethodName)) ∈ lw_tbl := lw_at lw_m7 152 rfl
theorem q1710 : (Jvm.Cond.instanceMethod ({ cls := "SoManyStairsModel", name := "isTenant", desc := "(I)Z" } : Jvm.MethodName)) ∈ lw_all := lw_g (lw_at lw_m7 153 rfl) rfl
theorem q1711 : (Jvm.Cond.code ({ cls := "SoManyStairsModel", name := "isTenant", desc := "(I)Z" } : Jvm.MethodName) prog_17_method_43_code (2 : Nat) (Option.some Jvm.ClassFile.FieldType.boolean)) ∈ lw_all := lw_g (lw_at lw_m7 154 rfl) rfl
theorem q1712 : (Jvm.Cond.methodLink "SoManyStairsModel" (368 : Nat) ({ cls := "SoManyStairsModel", name := "isIn", desc := "(III)Z" } : Jvm.MethodName)) ∈ lw_all := lw_g (lw_at lw_m7 155 rfl) rfl
theorem q1713 : (Jvm.Cond.static ({ cls := "SoManyStairsModel", name := "isIn", desc := "(III)Z" } : Jvm.MethodName)) ∈ lw_all := lw_g (lw_at lw_m7 156 rfl) rfl
theorem q1714 : (Jvm.Cond.code ({ cls := "SoManyStairsModel", name := "isIn", desc := "(III)Z" } : Jvm.MethodName) prog_17_method_42_code (3 : Nat) (Option.some Jvm.ClassFile.FieldType.boolean)) ∈ lw_all := lw_g (lw_at lw_m7 157 rfl) rfl
theorem q1715 : (Jvm.Cond.methodLink "SoManyStairsModel" (394 : Nat) ({ cls := "SoManyStairsModel", name := "load", desc := "()V" } : Jvm.MethodName)) ∈ lw_all := lw_g (lw_at lw_m7 158 rfl) rfl
theorem q1716 : (Jvm.Cond.privateMethod ({ cls := "SoManyStairsModel", name := "load", desc := "()V" } : Jvm.MethodName)) ∈ lw_tbl := lw_at lw_m7 159 rfl
theorem q1717 : (Jvm.Cond.instanceMethod ({ cls := "SoManyStairsModel", name := "load", desc := "()V" } : Jvm.MethodName)) ∈ lw_all := lw_g (lw_at lw_m7 160 rfl) rfl
theorem q1718 : (Jvm.Cond.code ({ cls := "SoManyStairsModel", name := "load", desc := "()V" } : Jvm.MethodName) prog_17_method_45_code (2 : Nat) (Option.none : Option Jvm.ClassFile.FieldType)) ∈ lw_all := lw_g (lw_at lw_m7 161 rfl) rfl
theorem q1719 : (Jvm.Cond.methodLink "SoManyStairsModel" (397 : Nat) ({ cls := "SoManyStairsModel", name := "lackOf", desc := "(I)I" } : Jvm.MethodName)) ∈ lw_all := lw_g (lw_at lw_m7 162 rfl) rfl
theorem q1720 : (Jvm.Cond.privateMethod ({ cls := "SoManyStairsModel", name := "lackOf", desc := "(I)I" } : Jvm.MethodName)) ∈ lw_tbl := lw_at lw_m7 163 rfl
theorem q1721 : (Jvm.Cond.instanceMethod ({ cls := "SoManyStairsModel", name := "lackOf", desc := "(I)I" } : Jvm.MethodName)) ∈ lw_all := lw_g (lw_at lw_m7 164 rfl) rfl
theorem q1722 : (Jvm.Cond.code ({ cls := "SoManyStairsModel", name := "lackOf", desc := "(I)I" } : Jvm.MethodName) prog_17_method_48_code (2 : Nat) (Option.some Jvm.ClassFile.FieldType.int)) ∈ lw_all := lw_g (lw_at lw_m7 165 rfl) rfl
theorem q1723 : (Jvm.Cond.methodLink "SoManyStairsModel" (372 : Nat) ({ cls := "SoManyStairsModel", name := "dueOf", desc := "(I)I" } : Jvm.MethodName)) ∈ lw_all := lw_g (lw_at lw_m7 166 rfl) rfl
theorem q1724 : (Jvm.Cond.privateMethod ({ cls := "SoManyStairsModel", name := "dueOf", desc := "(I)I" } : Jvm.MethodName)) ∈ lw_tbl := lw_at lw_m7 167 rfl
theorem q1725 : (Jvm.Cond.instanceMethod ({ cls := "SoManyStairsModel", name := "dueOf", desc := "(I)I" } : Jvm.MethodName)) ∈ lw_all := lw_g (lw_at lw_m7 168 rfl) rfl
theorem q1726 : (Jvm.Cond.code ({ cls := "SoManyStairsModel", name := "dueOf", desc := "(I)I" } : Jvm.MethodName) prog_17_method_47_code (2 : Nat) (Option.some Jvm.ClassFile.FieldType.int)) ∈ lw_all := lw_g (lw_at lw_m7 169 rfl) rfl
theorem q1728 : (Jvm.Cond.instanceMethod ({ cls := "SoManyStairsModel", name := "worth", desc := "(IIIII)I" } : Jvm.MethodName)) ∈ lw_all := lw_g (lw_at lw_m7 171 rfl) rfl
theorem q1729 : (Jvm.Cond.selects "SoManyStairsModel" ({ cls := "SoManyStairsModel", name := "worth", desc := "(IIIII)I" } : Jvm.MethodName) ({ cls := "SoManyStairsModel", name := "worth", desc := "(IIIII)I" } : Jvm.MethodName)) ∈ lw_all := lw_g (lw_at lw_m7 172 rfl) rfl
theorem q1730 : (Jvm.Cond.code ({ cls := "SoManyStairsModel", name := "worth", desc := "(IIIII)I" } : Jvm.MethodName) prog_17_method_57_code (6 : Nat) (Option.some Jvm.ClassFile.FieldType.int)) ∈ lw_all := lw_g (lw_at lw_m7 173 rfl) rfl
theorem q1731 : (Jvm.Cond.methodLink "SoManyStairsModel" (400 : Nat) ({ cls := "SoManyStairsModel", name := "canClimb", desc := "(IIII)Z" } : Jvm.MethodName)) ∈ lw_all := lw_g (lw_at lw_m7 174 rfl) rfl
theorem q1732 : (Jvm.Cond.privateMethod ({ cls := "SoManyStairsModel", name := "canClimb", desc := "(IIII)Z" } : Jvm.MethodName)) ∈ lw_tbl := lw_at lw_m7 175 rfl
theorem q1733 : (Jvm.Cond.instanceMethod ({ cls := "SoManyStairsModel", name := "canClimb", desc := "(IIII)Z" } : Jvm.MethodName)) ∈ lw_all := lw_g (lw_at lw_m7 176 rfl) rfl
theorem q1734 : (Jvm.Cond.code ({ cls := "SoManyStairsModel", name := "canClimb", desc := "(IIII)Z" } : Jvm.MethodName) prog_17_method_51_code (5 : Nat) (Option.some Jvm.ClassFile.FieldType.boolean)) ∈ lw_all := lw_g (lw_at lw_m7 177 rfl) rfl
theorem q1735 : (Jvm.Cond.methodLink "SoManyStairsModel" (385 : Nat) ({ cls := "SoManyStairsModel", name := "breathFor", desc := "(II)I" } : Jvm.MethodName)) ∈ lw_all := lw_g (lw_at lw_m7 178 rfl) rfl
theorem q1736 : (Jvm.Cond.privateMethod ({ cls := "SoManyStairsModel", name := "breathFor", desc := "(II)I" } : Jvm.MethodName)) ∈ lw_tbl := lw_at lw_m7 179 rfl
theorem q1737 : (Jvm.Cond.instanceMethod ({ cls := "SoManyStairsModel", name := "breathFor", desc := "(II)I" } : Jvm.MethodName)) ∈ lw_all := lw_g (lw_at lw_m7 180 rfl) rfl
theorem q1738 : (Jvm.Cond.code ({ cls := "SoManyStairsModel", name := "breathFor", desc := "(II)I" } : Jvm.MethodName) prog_17_method_50_code (3 : Nat) (Option.some Jvm.ClassFile.FieldType.int)) ∈ lw_all := lw_g (lw_at lw_m7 181 rfl) rfl
theorem q1739 : (Jvm.Cond.methodLink "SoManyStairsModel" (404 : Nat) ({ cls := "SoManyStairsModel", name := "countOf", desc := "(III)I" } : Jvm.MethodName)) ∈ lw_all := lw_g (lw_at lw_m7 182 rfl) rfl
theorem q1740 : (Jvm.Cond.privateMethod ({ cls := "SoManyStairsModel", name := "countOf", desc := "(III)I" } : Jvm.MethodName)) ∈ lw_tbl := lw_at lw_m7 183 rfl
theorem q1741 : (Jvm.Cond.instanceMethod ({ cls := "SoManyStairsModel", name := "countOf", desc := "(III)I" } : Jvm.MethodName)) ∈ lw_all := lw_g (lw_at lw_m7 184 rfl) rfl
theorem q1742 : (Jvm.Cond.code ({ cls := "SoManyStairsModel", name := "countOf", desc := "(III)I" } : Jvm.MethodName) prog_17_method_49_code (4 : Nat) (Option.some Jvm.ClassFile.FieldType.int)) ∈ lw_all := lw_g (lw_at lw_m7 185 rfl) rfl
theorem q1743 : (Jvm.Cond.methodLink "SoManyStairsModel" (375 : Nat) ({ cls := "SoManyStairsModel", name := "worked", desc := "(IIIII)I" } : Jvm.MethodName)) ∈ lw_all := lw_g (lw_at lw_m7 186 rfl) rfl
theorem q1744 : (Jvm.Cond.privateMethod ({ cls := "SoManyStairsModel", name := "worked", desc := "(IIIII)I" } : Jvm.MethodName)) ∈ lw_tbl := lw_at lw_m7 187 rfl
theorem q1745 : (Jvm.Cond.instanceMethod ({ cls := "SoManyStairsModel", name := "worked", desc := "(IIIII)I" } : Jvm.MethodName)) ∈ lw_all := lw_g (lw_at lw_m7 188 rfl) rfl
theorem q1746 : (Jvm.Cond.code ({ cls := "SoManyStairsModel", name := "worked", desc := "(IIIII)I" } : Jvm.MethodName) prog_17_method_34_code (8 : Nat) (Option.some Jvm.ClassFile.FieldType.int)) ∈ lw_all := lw_g (lw_at lw_m7 189 rfl) rfl
theorem q1747 : (Jvm.Cond.methodLink "SoManyStairsModel" (304 : Nat) ({ cls := "SoManyStairsModel", name := "truth", desc := "(Z)I" } : Jvm.MethodName)) ∈ lw_all := lw_g (lw_at lw_m7 190 rfl) rfl
theorem q1748 : (Jvm.Cond.static ({ cls := "SoManyStairsModel", name := "truth", desc := "(Z)I" } : Jvm.MethodName)) ∈ lw_all := lw_g (lw_at lw_m7 191 rfl) rfl
theorem q1749 : (Jvm.Cond.code ({ cls := "SoManyStairsModel", name := "truth", desc := "(Z)I" } : Jvm.MethodName) prog_17_method_32_code (1 : Nat) (Option.some Jvm.ClassFile.FieldType.int)) ∈ lw_all := lw_g (lw_at lw_m7 192 rfl) rfl
theorem q1750 : (Jvm.Cond.methodLink "SoManyStairsModel" (308 : Nat) ({ cls := "SoManyStairsModel", name := "done", desc := "(III)I" } : Jvm.MethodName)) ∈ lw_all := lw_g (lw_at lw_m7 193 rfl) rfl
theorem q1751 : (Jvm.Cond.static ({ cls := "SoManyStairsModel", name := "done", desc := "(III)I" } : Jvm.MethodName)) ∈ lw_all := lw_g (lw_at lw_m7 194 rfl) rfl
theorem q1752 : (Jvm.Cond.code ({ cls := "SoManyStairsModel", name := "done", desc := "(III)I" } : Jvm.MethodName) prog_17_method_33_code (3 : Nat) (Option.some Jvm.ClassFile.FieldType.int)) ∈ lw_all := lw_g (lw_at lw_m7 195 rfl) rfl
theorem q1753 : (Jvm.Cond.methodLink "SoManyStairsModel" (379 : Nat) ({ cls := "SoManyStairsModel", name := "within", desc := "(II)I" } : Jvm.MethodName)) ∈ lw_all := lw_g (lw_at lw_m7 196 rfl) rfl
theorem q1754 : (Jvm.Cond.static ({ cls := "SoManyStairsModel", name := "within", desc := "(II)I" } : Jvm.MethodName)) ∈ lw_all := lw_g (lw_at lw_m7 197 rfl) rfl
theorem q1755 : (Jvm.Cond.code ({ cls := "SoManyStairsModel", name := "within", desc := "(II)I" } : Jvm.MethodName) prog_17_method_35_code (2 : Nat) (Option.some Jvm.ClassFile.FieldType.int)) ∈ lw_all := lw_g (lw_at lw_m7 198 rfl) rfl
theorem q1757 : (Jvm.Cond.instanceMethod ({ cls := "SoManyStairsModel", name := "climb", desc := "(IIII)I" } : Jvm.MethodName)) ∈ lw_all := lw_g (lw_at lw_m7 200 rfl) rfl
theorem q1758 : (Jvm.Cond.selects "SoManyStairsModel" ({ cls := "SoManyStairsModel", name := "climb", desc := "(IIII)I" } : Jvm.MethodName) ({ cls := "SoManyStairsModel", name := "climb", desc := "(IIII)I" } : Jvm.MethodName)) ∈ lw_all := lw_g (lw_at lw_m7 201 rfl) rfl
theorem q1759 : (Jvm.Cond.code ({ cls := "SoManyStairsModel", name := "climb", desc := "(IIII)I" } : Jvm.MethodName) prog_17_method_60_code (6 : Nat) (Option.some Jvm.ClassFile.FieldType.int)) ∈ lw_all := lw_g (lw_at lw_m7 202 rfl) rfl
theorem q1760 : (Jvm.Cond.methodLink "SoManyStairsModel" (407 : Nat) ({ cls := "SoManyStairsModel", name := "act", desc := "()V" } : Jvm.MethodName)) ∈ lw_all := lw_g (lw_at lw_m7 203 rfl) rfl
theorem q1761 : (Jvm.Cond.privateMethod ({ cls := "SoManyStairsModel", name := "act", desc := "()V" } : Jvm.MethodName)) ∈ lw_tbl := lw_at lw_m7 204 rfl
theorem q1762 : (Jvm.Cond.instanceMethod ({ cls := "SoManyStairsModel", name := "act", desc := "()V" } : Jvm.MethodName)) ∈ lw_all := lw_g (lw_at lw_m7 205 rfl) rfl
theorem q1763 : (Jvm.Cond.code ({ cls := "SoManyStairsModel", name := "act", desc := "()V" } : Jvm.MethodName) prog_17_method_58_code (2 : Nat) (Option.none : Option Jvm.ClassFile.FieldType)) ∈ lw_all := lw_g (lw_at lw_m7 206 rfl) rfl
theorem q1764 : (Jvm.Cond.methodLink "SoManyStairsModel" (410 : Nat) ({ cls := "SoManyStairsModel", name := "goClimb", desc := "(IIII)V" } : Jvm.MethodName)) ∈ lw_all := lw_g (lw_at lw_m7 207 rfl) rfl
theorem q1765 : (Jvm.Cond.privateMethod ({ cls := "SoManyStairsModel", name := "goClimb", desc := "(IIII)V" } : Jvm.MethodName)) ∈ lw_tbl := lw_at lw_m7 208 rfl
theorem q1766 : (Jvm.Cond.instanceMethod ({ cls := "SoManyStairsModel", name := "goClimb", desc := "(IIII)V" } : Jvm.MethodName)) ∈ lw_all := lw_g (lw_at lw_m7 209 rfl) rfl
theorem q1767 : (Jvm.Cond.code ({ cls := "SoManyStairsModel", name := "goClimb", desc := "(IIII)V" } : Jvm.MethodName) prog_17_method_52_code (5 : Nat) (Option.none : Option Jvm.ClassFile.FieldType)) ∈ lw_all := lw_g (lw_at lw_m7 210 rfl) rfl
theorem q1768 : (Jvm.Cond.methodLink "SoManyStairsModel" (414 : Nat) ({ cls := "SoManyStairsModel", name := "keepAir", desc := "()V" } : Jvm.MethodName)) ∈ lw_all := lw_g (lw_at lw_m7 211 rfl) rfl
theorem q1769 : (Jvm.Cond.privateMethod ({ cls := "SoManyStairsModel", name := "keepAir", desc := "()V" } : Jvm.MethodName)) ∈ lw_tbl := lw_at lw_m7 212 rfl
theorem q1770 : (Jvm.Cond.instanceMethod ({ cls := "SoManyStairsModel", name := "keepAir", desc := "()V" } : Jvm.MethodName)) ∈ lw_all := lw_g (lw_at lw_m7 213 rfl) rfl
theorem q1771 : (Jvm.Cond.code ({ cls := "SoManyStairsModel", name := "keepAir", desc := "()V" } : Jvm.MethodName) prog_17_method_46_code (2 : Nat) (Option.none : Option Jvm.ClassFile.FieldType)) ∈ lw_all := lw_g (lw_at lw_m7 214 rfl) rfl
theorem q1773 : (Jvm.Cond.instanceMethod ({ cls := "SoManyStairsModel", name := "give", desc := "(III)I" } : Jvm.MethodName)) ∈ lw_all := lw_g (lw_at lw_m7 216 rfl) rfl
theorem q1774 : (Jvm.Cond.selects "SoManyStairsModel" ({ cls := "SoManyStairsModel", name := "give", desc := "(III)I" } : Jvm.MethodName) ({ cls := "SoManyStairsModel", name := "give", desc := "(III)I" } : Jvm.MethodName)) ∈ lw_all := lw_g (lw_at lw_m7 217 rfl) rfl
theorem q1775 : (Jvm.Cond.code ({ cls := "SoManyStairsModel", name := "give", desc := "(III)I" } : Jvm.MethodName) prog_17_method_61_code (4 : Nat) (Option.some Jvm.ClassFile.FieldType.int)) ∈ lw_all := lw_g (lw_at lw_m7 218 rfl) rfl
theorem q1777 : (Jvm.Cond.instanceMethod ({ cls := "SoManyStairsModel", name := "week", desc := "()I" } : Jvm.MethodName)) ∈ lw_all := lw_g (lw_at lw_m7 220 rfl) rfl
theorem q1778 : (Jvm.Cond.selects "SoManyStairsModel" ({ cls := "SoManyStairsModel", name := "week", desc := "()I" } : Jvm.MethodName) ({ cls := "SoManyStairsModel", name := "week", desc := "()I" } : Jvm.MethodName)) ∈ lw_all := lw_g (lw_at lw_m7 221 rfl) rfl
theorem q1779 : (Jvm.Cond.code ({ cls := "SoManyStairsModel", name := "week", desc := "()I" } : Jvm.MethodName) prog_17_method_62_code (1 : Nat) (Option.some Jvm.ClassFile.FieldType.int)) ∈ lw_all := lw_g (lw_at lw_m7 222 rfl) rfl
theorem q1780 : (Jvm.Cond.methodLink "SoManyStairsModel" (417 : Nat) ({ cls := "SoManyStairsModel", name := "goWeek", desc := "()V" } : Jvm.MethodName)) ∈ lw_all := lw_g (lw_at lw_m7 223 rfl) rfl
theorem q1781 : (Jvm.Cond.privateMethod ({ cls := "SoManyStairsModel", name := "goWeek", desc := "()V" } : Jvm.MethodName)) ∈ lw_tbl := lw_at lw_m7 224 rfl
theorem q1782 : (Jvm.Cond.instanceMethod ({ cls := "SoManyStairsModel", name := "goWeek", desc := "()V" } : Jvm.MethodName)) ∈ lw_all := lw_g (lw_at lw_m7 225 rfl) rfl
theorem q1783 : (Jvm.Cond.code ({ cls := "SoManyStairsModel", name := "goWeek", desc := "()V" } : Jvm.MethodName) prog_17_method_55_code (3 : Nat) (Option.none : Option Jvm.ClassFile.FieldType)) ∈ lw_all := lw_g (lw_at lw_m7 226 rfl) rfl
theorem q1784 : (Jvm.Cond.methodLink "SoManyStairsModel" (391 : Nat) ({ cls := "SoManyStairsModel", name := "pullHere", desc := "()I" } : Jvm.MethodName)) ∈ lw_all := lw_g (lw_at lw_m7 227 rfl) rfl
theorem q1785 : (Jvm.Cond.privateMethod ({ cls := "SoManyStairsModel", name := "pullHere", desc := "()I" } : Jvm.MethodName)) ∈ lw_tbl := lw_at lw_m7 228 rfl
theorem q1786 : (Jvm.Cond.instanceMethod ({ cls := "SoManyStairsModel", name := "pullHere", desc := "()I" } : Jvm.MethodName)) ∈ lw_all := lw_g (lw_at lw_m7 229 rfl) rfl
theorem q1787 : (Jvm.Cond.code ({ cls := "SoManyStairsModel", name := "pullHere", desc := "()I" } : Jvm.MethodName) prog_17_method_54_code (1 : Nat) (Option.some Jvm.ClassFile.FieldType.int)) ∈ lw_all := lw_g (lw_at lw_m7 230 rfl) rfl
theorem q1788 : (Jvm.Cond.methodLink "SoManyStairsModel" (388 : Nat) ({ cls := "SoManyStairsModel", name := "allHeavy", desc := "()I" } : Jvm.MethodName)) ∈ lw_all := lw_g (lw_at lw_m7 231 rfl) rfl
theorem q1789 : (Jvm.Cond.privateMethod ({ cls := "SoManyStairsModel", name := "allHeavy", desc := "()I" } : Jvm.MethodName)) ∈ lw_tbl := lw_at lw_m7 232 rfl
theorem q1790 : (Jvm.Cond.instanceMethod ({ cls := "SoManyStairsModel", name := "allHeavy", desc := "()I" } : Jvm.MethodName)) ∈ lw_all := lw_g (lw_at lw_m7 233 rfl) rfl
theorem q1791 : (Jvm.Cond.code ({ cls := "SoManyStairsModel", name := "allHeavy", desc := "()I" } : Jvm.MethodName) prog_17_method_53_code (3 : Nat) (Option.some Jvm.ClassFile.FieldType.int)) ∈ lw_all := lw_g (lw_at lw_m7 234 rfl) rfl
theorem q1793 : (Jvm.Cond.instanceMethod ({ cls := "SoManyStairsModel", name := "undo", desc := "()Z" } : Jvm.MethodName)) ∈ lw_all := lw_g (lw_at lw_m7 236 rfl) rfl
theorem q1794 : (Jvm.Cond.selects "SoManyStairsModel" ({ cls := "SoManyStairsModel", name := "undo", desc := "()Z" } : Jvm.MethodName) ({ cls := "SoManyStairsModel", name := "undo", desc := "()Z" } : Jvm.MethodName)) ∈ lw_all := lw_g (lw_at lw_m7 237 rfl) rfl
theorem q1795 : (Jvm.Cond.code ({ cls := "SoManyStairsModel", name := "undo", desc := "()Z" } : Jvm.MethodName) prog_17_method_63_code (1 : Nat) (Option.some Jvm.ClassFile.FieldType.boolean)) ∈ lw_all := lw_g (lw_at lw_m7 238 rfl) rfl
theorem q1796 : (Jvm.Cond.methodLink "SoManyStairsModel" (420 : Nat) ({ cls := "SoManyStairsModel", name := "exchange", desc := "(I)V" } : Jvm.MethodName)) ∈ lw_all := lw_g (lw_at lw_m7 239 rfl) rfl
theorem q1797 : (Jvm.Cond.privateMethod ({ cls := "SoManyStairsModel", name := "exchange", desc := "(I)V" } : Jvm.MethodName)) ∈ lw_tbl := lw_at lw_m8 0 rfl
theorem q1798 : (Jvm.Cond.instanceMethod ({ cls := "SoManyStairsModel", name := "exchange", desc := "(I)V" } : Jvm.MethodName)) ∈ lw_all := lw_g (lw_at lw_m8 1 rfl) rfl
theorem q1799 : (Jvm.Cond.code ({ cls := "SoManyStairsModel", name := "exchange", desc := "(I)V" } : Jvm.MethodName) prog_17_method_59_code (4 : Nat) (Option.none : Option Jvm.ClassFile.FieldType)) ∈ lw_all := lw_g (lw_at lw_m8 2 rfl) rfl
theorem q1801 : (Jvm.Cond.instanceMethod ({ cls := "SoManyStairsModel", name := "redo", desc := "()Z" } : Jvm.MethodName)) ∈ lw_all := lw_g (lw_at lw_m8 4 rfl) rfl
theorem q1802 : (Jvm.Cond.selects "SoManyStairsModel" ({ cls := "SoManyStairsModel", name := "redo", desc := "()Z" } : Jvm.MethodName) ({ cls := "SoManyStairsModel", name := "redo", desc := "()Z" } : Jvm.MethodName)) ∈ lw_all := lw_g (lw_at lw_m8 5 rfl) rfl
theorem q1803 : (Jvm.Cond.code ({ cls := "SoManyStairsModel", name := "redo", desc := "()Z" } : Jvm.MethodName) prog_17_method_64_code (1 : Nat) (Option.some Jvm.ClassFile.FieldType.boolean)) ∈ lw_all := lw_g (lw_at lw_m8 6 rfl) rfl
theorem q1805 : (Jvm.Cond.instanceMethod ({ cls := "SoManyStairsModel", name := "fewest", desc := "(I)I" } : Jvm.MethodName)) ∈ lw_all := lw_g (lw_at lw_m8 8 rfl) rfl
theorem q1806 : (Jvm.Cond.selects "SoManyStairsModel" ({ cls := "SoManyStairsModel", name := "fewest", desc := "(I)I" } : Jvm.MethodName) ({ cls := "SoManyStairsModel", name := "fewest", desc := "(I)I" } : Jvm.MethodName)) ∈ lw_all := lw_g (lw_at lw_m8 9 rfl) rfl
theorem q1807 : (Jvm.Cond.code ({ cls := "SoManyStairsModel", name := "fewest", desc := "(I)I" } : Jvm.MethodName) prog_17_method_67_code (7 : Nat) (Option.some Jvm.ClassFile.FieldType.int)) ∈ lw_all := lw_g (lw_at lw_m8 10 rfl) rfl
theorem q1808 : (Jvm.Cond.constant "SoManyStairsModel" (423 : Nat) (1000000 : Int32)) ∈ lw_all := lw_g (lw_at lw_m8 11 rfl) rfl
theorem q1809 : (Jvm.Cond.methodLink "SoManyStairsModel" (424 : Nat) ({ cls := "SoManyStairsModel", name := "power", desc := "(II)I" } : Jvm.MethodName)) ∈ lw_all := lw_g (lw_at lw_m8 12 rfl) rfl
theorem q1810 : (Jvm.Cond.static ({ cls := "SoManyStairsModel", name := "power", desc := "(II)I" } : Jvm.MethodName)) ∈ lw_all := lw_g (lw_at lw_m8 13 rfl) rfl
theorem q1811 : (Jvm.Cond.code ({ cls := "SoManyStairsModel", name := "power", desc := "(II)I" } : Jvm.MethodName) prog_17_method_65_code (4 : Nat) (Option.some Jvm.ClassFile.FieldType.int)) ∈ lw_all := lw_g (lw_at lw_m8 14 rfl) rfl
theorem q1812 : (Jvm.Cond.methodLink "SoManyStairsModel" (427 : Nat) ({ cls := "SoManyStairsModel", name := "paidBy", desc := "(III)I" } : Jvm.MethodName)) ∈ lw_all := lw_g (lw_at lw_m8 15 rfl) rfl
theorem q1813 : (Jvm.Cond.privateMethod ({ cls := "SoManyStairsModel", name := "paidBy", desc := "(III)I" } : Jvm.MethodName)) ∈ lw_tbl := lw_at lw_m8 16 rfl
theorem q1814 : (Jvm.Cond.instanceMethod ({ cls := "SoManyStairsModel", name := "paidBy", desc := "(III)I" } : Jvm.MethodName)) ∈ lw_all := lw_g (lw_at lw_m8 17 rfl) rfl
theorem q1815 : (Jvm.Cond.code ({ cls := "SoManyStairsModel", name := "paidBy", desc := "(III)I" } : Jvm.MethodName) prog_17_method_66_code (7 : Nat) (Option.some Jvm.ClassFile.FieldType.int)) ∈ lw_all := lw_g (lw_at lw_m8 18 rfl) rfl
theorem q1817 : (Jvm.Cond.instanceMethod ({ cls := "SoManyStairsModel", name := "carries", desc := "(II)I" } : Jvm.MethodName)) ∈ lw_all := lw_g (lw_at lw_m8 20 rfl) rfl
theorem q1818 : (Jvm.Cond.selects "SoManyStairsModel" ({ cls := "SoManyStairsModel", name := "carries", desc := "(II)I" } : Jvm.MethodName) ({ cls := "SoManyStairsModel", name := "carries", desc := "(II)I" } : Jvm.MethodName)) ∈ lw_all := lw_g (lw_at lw_m8 21 rfl) rfl
theorem q1819 : (Jvm.Cond.code ({ cls := "SoManyStairsModel", name := "carries", desc := "(II)I" } : Jvm.MethodName) prog_17_method_69_code (3 : Nat) (Option.some Jvm.ClassFile.FieldType.int)) ∈ lw_all := lw_g (lw_at lw_m8 22 rfl) rfl
theorem q1820 : (Jvm.Cond.methodLink "SoManyStairsModel" (430 : Nat) ({ cls := "SoManyStairsModel", name := "carriesOf", desc := "(II)I" } : Jvm.MethodName)) ∈ lw_all := lw_g (lw_at lw_m8 23 rfl) rfl
theorem q1821 : (Jvm.Cond.privateMethod ({ cls := "SoManyStairsModel", name := "carriesOf", desc := "(II)I" } : Jvm.MethodName)) ∈ lw_tbl := lw_at lw_m8 24 rfl
theorem q1822 : (Jvm.Cond.instanceMethod ({ cls := "SoManyStairsModel", name := "carriesOf", desc := "(II)I" } : Jvm.MethodName)) ∈ lw_all := lw_g (lw_at lw_m8 25 rfl) rfl
theorem q1823 : (Jvm.Cond.code ({ cls := "SoManyStairsModel", name := "carriesOf", desc := "(II)I" } : Jvm.MethodName) prog_17_method_68_code (5 : Nat) (Option.some Jvm.ClassFile.FieldType.int)) ∈ lw_all := lw_g (lw_at lw_m8 26 rfl) rfl
theorem q1825 : (Jvm.Cond.instanceMethod ({ cls := "SoManyStairsModel", name := "care", desc := "()I" } : Jvm.MethodName)) ∈ lw_all := lw_g (lw_at lw_m8 28 rfl) rfl
theorem q1826 : (Jvm.Cond.selects "SoManyStairsModel" ({ cls := "SoManyStairsModel", name := "care", desc := "()I" } : Jvm.MethodName) ({ cls := "SoManyStairsModel", name := "care", desc := "()I" } : Jvm.MethodName)) ∈ lw_all := lw_g (lw_at lw_m8 29 rfl) rfl
theorem q1827 : (Jvm.Cond.code ({ cls := "SoManyStairsModel", name := "care", desc := "()I" } : Jvm.MethodName) prog_17_method_73_code (3 : Nat) (Option.some Jvm.ClassFile.FieldType.int)) ∈ lw_all := lw_g (lw_at lw_m8 30 rfl) rfl
theorem q1828 : (Jvm.Cond.methodLink "SoManyStairsModel" (436 : Nat) ({ cls := "SoManyStairsModel", name := "layDoers", desc := "()V" } : Jvm.MethodName)) ∈ lw_all := lw_g (lw_at lw_m8 31 rfl) rfl
theorem q1829 : (Jvm.Cond.privateMethod ({ cls := "SoManyStairsModel", name := "layDoers", desc := "()V" } : Jvm.MethodName)) ∈ lw_tbl := lw_at lw_m8 32 rfl
theorem q1830 : (Jvm.Cond.instanceMethod ({ cls := "SoManyStairsModel", name := "layDoers", desc := "()V" } : Jvm.MethodName)) ∈ lw_all := lw_g (lw_at lw_m8 33 rfl) rfl
theorem q1831 : (Jvm.Cond.code ({ cls := "SoManyStairsModel", name := "layDoers", desc := "()V" } : Jvm.MethodName) prog_17_method_71_code (6 : Nat) (Option.none : Option Jvm.ClassFile.FieldType)) ∈ lw_all := lw_g (lw_at lw_m8 34 rfl) rfl
theorem q1832 : (Jvm.Cond.methodLink "SoManyStairsModel" (433 : Nat) ({ cls := "SoManyStairsModel", name := "isMore", desc := "(IIII)Z" } : Jvm.MethodName)) ∈ lw_all := lw_g (lw_at lw_m8 35 rfl) rfl
theorem q1833 : (Jvm.Cond.static ({ cls := "SoManyStairsModel", name := "isMore", desc := "(IIII)Z" } : Jvm.MethodName)) ∈ lw_all := lw_g (lw_at lw_m8 36 rfl) rfl
theorem q1834 : (Jvm.Cond.code ({ cls := "SoManyStairsModel", name := "isMore", desc := "(IIII)Z" } : Jvm.MethodName) prog_17_method_70_code (4 : Nat) (Option.some Jvm.ClassFile.FieldType.boolean)) ∈ lw_all := lw_g (lw_at lw_m8 37 rfl) rfl
theorem q1835 : (Jvm.Cond.methodLink "SoManyStairsModel" (439 : Nat) ({ cls := "SoManyStairsModel", name := "putDoers", desc := "()V" } : Jvm.MethodName)) ∈ lw_all := lw_g (lw_at lw_m8 38 rfl) rfl
theorem q1836 : (Jvm.Cond.privateMethod ({ cls := "SoManyStairsModel", name := "putDoers", desc := "()V" } : Jvm.MethodName)) ∈ lw_tbl := lw_at lw_m8 39 rfl
theorem q1837 : (Jvm.Cond.instanceMethod ({ cls := "SoManyStairsModel", name := "putDoers", desc := "()V" } : Jvm.MethodName)) ∈ lw_all := lw_g (lw_at lw_m8 40 rfl) rfl
theorem q1838 : (Jvm.Cond.code ({ cls := "SoManyStairsModel", name := "putDoers", desc := "()V" } : Jvm.MethodName) prog_17_method_72_code (5 : Nat) (Option.none : Option Jvm.ClassFile.FieldType)) ∈ lw_all := lw_g (lw_at lw_m8 41 rfl) rfl
theorem q1840 : (Jvm.Cond.instanceMethod ({ cls := "SoManyStairsModel", name := "proxy", desc := "()I" } : Jvm.MethodName)) ∈ lw_all := lw_g (lw_at lw_m8 43 rfl) rfl
theorem q1841 : (Jvm.Cond.selects "SoManyStairsModel" ({ cls := "SoManyStairsModel", name := "proxy", desc := "()I" } : Jvm.MethodName) ({ cls := "SoManyStairsModel", name := "proxy", desc := "()I" } : Jvm.MethodName)) ∈ lw_all := lw_g (lw_at lw_m8 44 rfl) rfl
theorem q1842 : (Jvm.Cond.code ({ cls := "SoManyStairsModel", name := "proxy", desc := "()I" } : Jvm.MethodName) prog_17_method_76_code (1 : Nat) (Option.some Jvm.ClassFile.FieldType.int)) ∈ lw_all := lw_g (lw_at lw_m8 45 rfl) rfl
theorem q1843 : (Jvm.Cond.methodLink "SoManyStairsModel" (445 : Nat) ({ cls := "SoManyStairsModel", name := "layProxy", desc := "()V" } : Jvm.MethodName)) ∈ lw_all := lw_g (lw_at lw_m8 46 rfl) rfl
theorem q1844 : (Jvm.Cond.privateMethod ({ cls := "SoManyStairsModel", name := "layProxy", desc := "()V" } : Jvm.MethodName)) ∈ lw_tbl := lw_at lw_m8 47 rfl
theorem q1845 : (Jvm.Cond.instanceMethod ({ cls := "SoManyStairsModel", name := "layProxy", desc := "()V" } : Jvm.MethodName)) ∈ lw_all := lw_g (lw_at lw_m8 48 rfl) rfl
theorem q1846 : (Jvm.Cond.code ({ cls := "SoManyStairsModel", name := "layProxy", desc := "()V" } : Jvm.MethodName) prog_17_method_75_code (4 : Nat) (Option.none : Option Jvm.ClassFile.FieldType)) ∈ lw_all := lw_g (lw_at lw_m8 49 rfl) rfl
theorem q1847 : (Jvm.Cond.methodLink "SoManyStairsModel" (442 : Nat) ({ cls := "SoManyStairsModel", name := "storeysFor", desc := "(I)I" } : Jvm.MethodName)) ∈ lw_all := lw_g (lw_at lw_m8 50 rfl) rfl
theorem q1848 : (Jvm.Cond.privateMethod ({ cls := "SoManyStairsModel", name := "storeysFor", desc := "(I)I" } : Jvm.MethodName)) ∈ lw_tbl := lw_at lw_m8 51 rfl
theorem q1849 : (Jvm.Cond.instanceMethod ({ cls := "SoManyStairsModel", name := "storeysFor", desc := "(I)I" } : Jvm.MethodName)) ∈ lw_all := lw_g (lw_at lw_m8 52 rfl) rfl
theorem q1850 : (Jvm.Cond.code ({ cls := "SoManyStairsModel", name := "storeysFor", desc := "(I)I" } : Jvm.MethodName) prog_17_method_74_code (3 : Nat) (Option.some Jvm.ClassFile.FieldType.int)) ∈ lw_all := lw_g (lw_at lw_m8 53 rfl) rfl
theorem q1852 : (Jvm.Cond.instanceMethod ({ cls := "SoManyStairsModel", name := "toil", desc := "()I" } : Jvm.MethodName)) ∈ lw_all := lw_g (lw_at lw_m8 55 rfl) rfl
theorem q1853 : (Jvm.Cond.selects "SoManyStairsModel" ({ cls := "SoManyStairsModel", name := "toil", desc := "()I" } : Jvm.MethodName) ({ cls := "SoManyStairsModel", name := "toil", desc := "()I" } : Jvm.MethodName)) ∈ lw_all := lw_g (lw_at lw_m8 56 rfl) rfl
theorem q1854 : (Jvm.Cond.code ({ cls := "SoManyStairsModel", name := "toil", desc := "()I" } : Jvm.MethodName) prog_17_method_77_code (1 : Nat) (Option.some Jvm.ClassFile.FieldType.int)) ∈ lw_all := lw_g (lw_at lw_m8 57 rfl) rfl
theorem q1856 : (Jvm.Cond.instanceMethod ({ cls := "SoManyStairsModel", name := "gifts", desc := "(I)I" } : Jvm.MethodName)) ∈ lw_all := lw_g (lw_at lw_m8 59 rfl) rfl
theorem q1857 : (Jvm.Cond.selects "SoManyStairsModel" ({ cls := "SoManyStairsModel", name := "gifts", desc := "(I)I" } : Jvm.MethodName) ({ cls := "SoManyStairsModel", name := "gifts", desc := "(I)I" } : Jvm.MethodName)) ∈ lw_all := lw_g (lw_at lw_m8 60 rfl) rfl
theorem q1858 : (Jvm.Cond.code ({ cls := "SoManyStairsModel", name := "gifts", desc := "(I)I" } : Jvm.MethodName) prog_17_method_80_code (7 : Nat) (Option.some Jvm.ClassFile.FieldType.int)) ∈ lw_all := lw_g (lw_at lw_m8 61 rfl) rfl
theorem q1859 : (Jvm.Cond.methodLink "SoManyStairsModel" (448 : Nat) ({ cls := "SoManyStairsModel", name := "giver", desc := "()I" } : Jvm.MethodName)) ∈ lw_all := lw_g (lw_at lw_m8 62 rfl) rfl
theorem q1860 : (Jvm.Cond.privateMethod ({ cls := "SoManyStairsModel", name := "giver", desc := "()I" } : Jvm.MethodName)) ∈ lw_tbl := lw_at lw_m8 63 rfl
theorem q1861 : (Jvm.Cond.instanceMethod ({ cls := "SoManyStairsModel", name := "giver", desc := "()I" } : Jvm.MethodName)) ∈ lw_all := lw_g (lw_at lw_m8 64 rfl) rfl
theorem q1862 : (Jvm.Cond.code ({ cls := "SoManyStairsModel", name := "giver", desc := "()I" } : Jvm.MethodName) prog_17_method_78_code (2 : Nat) (Option.some Jvm.ClassFile.FieldType.int)) ∈ lw_all := lw_g (lw_at lw_m8 65 rfl) rfl
theorem q1863 : (Jvm.Cond.methodLink "SoManyStairsModel" (451 : Nat) ({ cls := "SoManyStairsModel", name := "taker", desc := "()I" } : Jvm.MethodName)) ∈ lw_all := lw_g (lw_at lw_m8 66 rfl) rfl
theorem q1864 : (Jvm.Cond.privateMethod ({ cls := "SoManyStairsModel", name := "taker", desc := "()I" } : Jvm.MethodName)) ∈ lw_tbl := lw_at lw_m8 67 rfl
theorem q1865 : (Jvm.Cond.instanceMethod ({ cls := "SoManyStairsModel", name := "taker", desc := "()I" } : Jvm.MethodName)) ∈ lw_all := lw_g (lw_at lw_m8 68 rfl) rfl
theorem q1866 : (Jvm.Cond.code ({ cls := "SoManyStairsModel", name := "taker", desc := "()I" } : Jvm.MethodName) prog_17_method_79_code (2 : Nat) (Option.some Jvm.ClassFile.FieldType.int)) ∈ lw_all := lw_g (lw_at lw_m8 69 rfl) rfl
theorem q1868 : (Jvm.Cond.instanceMethod ({ cls := "SoManyStairsModel", name := "envies", desc := "(I)I" } : Jvm.MethodName)) ∈ lw_all := lw_g (lw_at lw_m8 71 rfl) rfl
theorem q1869 : (Jvm.Cond.selects "SoManyStairsModel" ({ cls := "SoManyStairsModel", name := "envies", desc := "(I)I" } : Jvm.MethodName) ({ cls := "SoManyStairsModel", name := "envies", desc := "(I)I" } : Jvm.MethodName)) ∈ lw_all := lw_g (lw_at lw_m8 72 rfl) rfl
theorem q1870 : (Jvm.Cond.code ({ cls := "SoManyStairsModel", name := "envies", desc := "(I)I" } : Jvm.MethodName) prog_17_method_84_code (4 : Nat) (Option.some Jvm.ClassFile.FieldType.int)) ∈ lw_all := lw_g (lw_at lw_m8 73 rfl) rfl
theorem q1871 : (Jvm.Cond.methodLink "SoManyStairsModel" (458 : Nat) ({ cls := "SoManyStairsModel", name := "layHomes", desc := "()V" } : Jvm.MethodName)) ∈ lw_all := lw_g (lw_at lw_m8 74 rfl) rfl
theorem q1872 : (Jvm.Cond.privateMethod ({ cls := "SoManyStairsModel", name := "layHomes", desc := "()V" } : Jvm.MethodName)) ∈ lw_tbl := lw_at lw_m8 75 rfl
theorem q1873 : (Jvm.Cond.instanceMethod ({ cls := "SoManyStairsModel", name := "layHomes", desc := "()V" } : Jvm.MethodName)) ∈ lw_all := lw_g (lw_at lw_m8 76 rfl) rfl
theorem q1874 : (Jvm.Cond.code ({ cls := "SoManyStairsModel", name := "layHomes", desc := "()V" } : Jvm.MethodName) prog_17_method_81_code (2 : Nat) (Option.none : Option Jvm.ClassFile.FieldType)) ∈ lw_all := lw_g (lw_at lw_m8 77 rfl) rfl
theorem q1875 : (Jvm.Cond.methodLink "SoManyStairsModel" (454 : Nat) ({ cls := "SoManyStairsModel", name := "isEnvied", desc := "(II)Z" } : Jvm.MethodName)) ∈ lw_all := lw_g (lw_at lw_m8 78 rfl) rfl
theorem q1876 : (Jvm.Cond.privateMethod ({ cls := "SoManyStairsModel", name := "isEnvied", desc := "(II)Z" } : Jvm.MethodName)) ∈ lw_tbl := lw_at lw_m8 79 rfl
theorem q1877 : (Jvm.Cond.instanceMethod ({ cls := "SoManyStairsModel", name := "isEnvied", desc := "(II)Z" } : Jvm.MethodName)) ∈ lw_all := lw_g (lw_at lw_m8 80 rfl) rfl
theorem q1878 : (Jvm.Cond.code ({ cls := "SoManyStairsModel", name := "isEnvied", desc := "(II)Z" } : Jvm.MethodName) prog_17_method_82_code (3 : Nat) (Option.some Jvm.ClassFile.FieldType.boolean)) ∈ lw_all := lw_g (lw_at lw_m8 81 rfl) rfl
theorem q1880 : (Jvm.Cond.instanceMethod ({ cls := "SoManyStairsModel", name := "quarrel", desc := "()I" } : Jvm.MethodName)) ∈ lw_all := lw_g (lw_at lw_m8 83 rfl) rfl
theorem q1881 : (Jvm.Cond.selects "SoManyStairsModel" ({ cls := "SoManyStairsModel", name := "quarrel", desc := "()I" } : Jvm.MethodName) ({ cls := "SoManyStairsModel", name := "quarrel", desc := "()I" } : Jvm.MethodName)) ∈ lw_all := lw_g (lw_at lw_m8 84 rfl) rfl
theorem q1882 : (Jvm.Cond.code ({ cls := "SoManyStairsModel", name := "quarrel", desc := "()I" } : Jvm.MethodName) prog_17_method_85_code (1 : Nat) (Option.some Jvm.ClassFile.FieldType.int)) ∈ lw_all := lw_g (lw_at lw_m8 85 rfl) rfl
theorem q1883 : (Jvm.Cond.methodLink "SoManyStairsModel" (461 : Nat) ({ cls := "SoManyStairsModel", name := "allEnvies", desc := "()I" } : Jvm.MethodName)) ∈ lw_all := lw_g (lw_at lw_m8 86 rfl) rfl
theorem q1884 : (Jvm.Cond.privateMethod ({ cls := "SoManyStairsModel", name := "allEnvies", desc := "()I" } : Jvm.MethodName)) ∈ lw_tbl := lw_at lw_m8 87 rfl
theorem q1885 : (Jvm.Cond.instanceMethod ({ cls := "SoManyStairsModel", name := "allEnvies", desc := "()I" } : Jvm.MethodName)) ∈ lw_all := lw_g (lw_at lw_m8 88 rfl) rfl
theorem q1886 : (Jvm.Cond.code ({ cls := "SoManyStairsModel", name := "allEnvies", desc := "()I" } : Jvm.MethodName) prog_17_method_83_code (4 : Nat) (Option.some Jvm.ClassFile.FieldType.int)) ∈ lw_all := lw_g (lw_at lw_m8 89 rfl) rfl
theorem q1888 : (Jvm.Cond.instanceMethod ({ cls := "SoManyStairsModel", name := "calm", desc := "(I)I" } : Jvm.MethodName)) ∈ lw_all := lw_g (lw_at lw_m8 91 rfl) rfl
theorem q1889 : (Jvm.Cond.selects "SoManyStairsModel" ({ cls := "SoManyStairsModel", name := "calm", desc := "(I)I" } : Jvm.MethodName) ({ cls := "SoManyStairsModel", name := "calm", desc := "(I)I" } : Jvm.MethodName)) ∈ lw_all := lw_g (lw_at lw_m8 92 rfl) rfl
theorem q1890 : (Jvm.Cond.code ({ cls := "SoManyStairsModel", name := "calm", desc := "(I)I" } : Jvm.MethodName) prog_17_method_87_code (7 : Nat) (Option.some Jvm.ClassFile.FieldType.int)) ∈ lw_all := lw_g (lw_at lw_m8 93 rfl) rfl
theorem q1891 : (Jvm.Cond.methodLink "SoManyStairsModel" (464 : Nat) ({ cls := "SoManyStairsModel", name := "changeHomes", desc := "(II)V" } : Jvm.MethodName)) ∈ lw_all := lw_g (lw_at lw_m8 94 rfl) rfl
theorem q1892 : (Jvm.Cond.privateMethod ({ cls := "SoManyStairsModel", name := "changeHomes", desc := "(II)V" } : Jvm.MethodName)) ∈ lw_tbl := lw_at lw_m8 95 rfl
theorem q1893 : (Jvm.Cond.instanceMethod ({ cls := "SoManyStairsModel", name := "changeHomes", desc := "(II)V" } : Jvm.MethodName)) ∈ lw_all := lw_g (lw_at lw_m8 96 rfl) rfl
theorem q1894 : (Jvm.Cond.code ({ cls := "SoManyStairsModel", name := "changeHomes", desc := "(II)V" } : Jvm.MethodName) prog_17_method_86_code (4 : Nat) (Option.none : Option Jvm.ClassFile.FieldType)) ∈ lw_all := lw_g (lw_at lw_m8 97 rfl) rfl
theorem q1896 : (Jvm.Cond.instanceMethod ({ cls := "SoManyStairsModel", name := "let", desc := "()I" } : Jvm.MethodName)) ∈ lw_all := lw_g (lw_at lw_m8 99 rfl) rfl
theorem q1897 : (Jvm.Cond.selects "SoManyStairsModel" ({ cls := "SoManyStairsModel", name := "let", desc := "()I" } : Jvm.MethodName) ({ cls := "SoManyStairsModel", name := "let", desc := "()I" } : Jvm.MethodName)) ∈ lw_all := lw_g (lw_at lw_m8 100 rfl) rfl
theorem q1898 : (Jvm.Cond.code ({ cls := "SoManyStairsModel", name := "let", desc := "()I" } : Jvm.MethodName) prog_17_method_91_code (5 : Nat) (Option.some Jvm.ClassFile.FieldType.int)) ∈ lw_all := lw_g (lw_at lw_m8 101 rfl) rfl
theorem q1899 : (Jvm.Cond.methodLink "SoManyStairsModel" (470 : Nat) ({ cls := "SoManyStairsModel", name := "uneven", desc := "()I" } : Jvm.MethodName)) ∈ lw_all := lw_g (lw_at lw_m8 102 rfl) rfl
theorem q1900 : (Jvm.Cond.privateMethod ({ cls := "SoManyStairsModel", name := "uneven", desc := "()I" } : Jvm.MethodName)) ∈ lw_tbl := lw_at lw_m8 103 rfl
theorem q1901 : (Jvm.Cond.instanceMethod ({ cls := "SoManyStairsModel", name := "uneven", desc := "()I" } : Jvm.MethodName)) ∈ lw_all := lw_g (lw_at lw_m8 104 rfl) rfl
theorem q1902 : (Jvm.Cond.code ({ cls := "SoManyStairsModel", name := "uneven", desc := "()I" } : Jvm.MethodName) prog_17_method_89_code (4 : Nat) (Option.some Jvm.ClassFile.FieldType.int)) ∈ lw_all := lw_g (lw_at lw_m8 105 rfl) rfl
theorem q1903 : (Jvm.Cond.methodLink "SoManyStairsModel" (467 : Nat) ({ cls := "SoManyStairsModel", name := "monthOf", desc := "(I)I" } : Jvm.MethodName)) ∈ lw_all := lw_g (lw_at lw_m8 106 rfl) rfl
theorem q1904 : (Jvm.Cond.privateMethod ({ cls := "SoManyStairsModel", name := "monthOf", desc := "(I)I" } : Jvm.MethodName)) ∈ lw_tbl := lw_at lw_m8 107 rfl
theorem q1905 : (Jvm.Cond.instanceMethod ({ cls := "SoManyStairsModel", name := "monthOf", desc := "(I)I" } : Jvm.MethodName)) ∈ lw_all := lw_g (lw_at lw_m8 108 rfl) rfl
theorem q1906 : (Jvm.Cond.code ({ cls := "SoManyStairsModel", name := "monthOf", desc := "(I)I" } : Jvm.MethodName) prog_17_method_88_code (2 : Nat) (Option.some Jvm.ClassFile.FieldType.int)) ∈ lw_all := lw_g (lw_at lw_m8 109 rfl) rfl
theorem q1907 : (Jvm.Cond.methodLink "SoManyStairsModel" (473 : Nat) ({ cls := "SoManyStairsModel", name := "nextHomes", desc := "()Z" } : Jvm.MethodName)) ∈ lw_all := lw_g (lw_at lw_m8 110 rfl) rfl
theorem q1908 : (Jvm.Cond.privateMethod ({ cls := "SoManyStairsModel", name := "nextHomes", desc := "()Z" } : Jvm.MethodName)) ∈ lw_tbl := lw_at lw_m8 111 rfl
theorem q1909 : (Jvm.Cond.instanceMethod ({ cls := "SoManyStairsModel", name := "nextHomes", desc := "()Z" } : Jvm.MethodName)) ∈ lw_all := lw_g (lw_at lw_m8 112 rfl) rfl
theorem q1910 : (Jvm.Cond.code ({ cls := "SoManyStairsModel", name := "nextHomes", desc := "()Z" } : Jvm.MethodName) prog_17_method_90_code (5 : Nat) (Option.some Jvm.ClassFile.FieldType.boolean)) ∈ lw_all := lw_g (lw_at lw_m8 113 rfl) rfl
theorem q1912 : (Jvm.Cond.instanceMethod ({ cls := "SoManyStairsModel", name := "month", desc := "(I)I" } : Jvm.MethodName)) ∈ lw_all := lw_g (lw_at lw_m8 115 rfl) rfl
theorem q1913 : (Jvm.Cond.selects "SoManyStairsModel" ({ cls := "SoManyStairsModel", name := "month", desc := "(I)I" } : Jvm.MethodName) ({ cls := "SoManyStairsModel", name := "month", desc := "(I)I" } : Jvm.MethodName)) ∈ lw_all := lw_g (lw_at lw_m8 116 rfl) rfl
theorem q1914 : (Jvm.Cond.code ({ cls := "SoManyStairsModel", name := "month", desc := "(I)I" } : Jvm.MethodName) prog_17_method_92_code (2 : Nat) (Option.some Jvm.ClassFile.FieldType.int)) ∈ lw_all := lw_g (lw_at lw_m8 117 rfl) rfl
theorem q1916 : (Jvm.Cond.instanceMethod ({ cls := "SoManyStairsModel", name := "spread", desc := "()I" } : Jvm.MethodName)) ∈ lw_all := lw_g (lw_at lw_m8 119 rfl) rfl
theorem q1917 : (Jvm.Cond.selects "SoManyStairsModel" ({ cls := "SoManyStairsModel", name := "spread", desc := "()I" } : Jvm.MethodName) ({ cls := "SoManyStairsModel", name := "spread", desc := "()I" } : Jvm.MethodName)) ∈ lw_all := lw_g (lw_at lw_m8 120 rfl) rfl
theorem q1918 : (Jvm.Cond.code ({ cls := "SoManyStairsModel", name := "spread", desc := "()I" } : Jvm.MethodName) prog_17_method_93_code (1 : Nat) (Option.some Jvm.ClassFile.FieldType.int)) ∈ lw_all := lw_g (lw_at lw_m8 121 rfl) rfl
theorem q1920 : (Jvm.Cond.instanceMethod ({ cls := "SoManyStairsModel", name := "live", desc := "(I)I" } : Jvm.MethodName)) ∈ lw_all := lw_g (lw_at lw_m8 123 rfl) rfl
theorem q1921 : (Jvm.Cond.selects "SoManyStairsModel" ({ cls := "SoManyStairsModel", name := "live", desc := "(I)I" } : Jvm.MethodName) ({ cls := "SoManyStairsModel", name := "live", desc := "(I)I" } : Jvm.MethodName)) ∈ lw_all := lw_g (lw_at lw_m8 124 rfl) rfl
theorem q1922 : (Jvm.Cond.code ({ cls := "SoManyStairsModel", name := "live", desc := "(I)I" } : Jvm.MethodName) prog_17_method_94_code (4 : Nat) (Option.some Jvm.ClassFile.FieldType.int)) ∈ lw_all := lw_g (lw_at lw_m8 125 rfl) rfl
theorem q1924 : (Jvm.Cond.instanceMethod ({ cls := "SoManyStairsModel", name := "rest", desc := "()I" } : Jvm.MethodName)) ∈ lw_all := lw_g (lw_at lw_m8 127 rfl) rfl
theorem q1925 : (Jvm.Cond.selects "SoManyStairsModel" ({ cls := "SoManyStairsModel", name := "rest", desc := "()I" } : Jvm.MethodName) ({ cls := "SoManyStairsModel", name := "rest", desc := "()I" } : Jvm.MethodName)) ∈ lw_all := lw_g (lw_at lw_m8 128 rfl) rfl
theorem q1926 : (Jvm.Cond.code ({ cls := "SoManyStairsModel", name := "rest", desc := "()I" } : Jvm.MethodName) prog_17_method_96_code (3 : Nat) (Option.some Jvm.ClassFile.FieldType.int)) ∈ lw_all := lw_g (lw_at lw_m8 129 rfl) rfl
theorem q1928 : (Jvm.Cond.instanceMethod ({ cls := "SoManyStairsModel", name := "will", desc := "(I)I" } : Jvm.MethodName)) ∈ lw_all := lw_g (lw_at lw_m8 131 rfl) rfl
theorem q1929 : (Jvm.Cond.selects "SoManyStairsModel" ({ cls := "SoManyStairsModel", name := "will", desc := "(I)I" } : Jvm.MethodName) ({ cls := "SoManyStairsModel", name := "will", desc := "(I)I" } : Jvm.MethodName)) ∈ lw_all := lw_g (lw_at lw_m8 132 rfl) rfl
theorem q1930 : (Jvm.Cond.code ({ cls := "SoManyStairsModel", name := "will", desc := "(I)I" } : Jvm.MethodName) prog_17_method_97_code (2 : Nat) (Option.some Jvm.ClassFile.FieldType.int)) ∈ lw_all := lw_g (lw_at lw_m8 133 rfl) rfl
theorem q1931 : (Jvm.Cond.methodLink "SoManyStairsModel" (476 : Nat) ({ cls := "SoManyStairsModel", name := "goFar", desc := "(I)V" } : Jvm.MethodName)) ∈ lw_all := lw_g (lw_at lw_m8 134 rfl) rfl
theorem q1932 : (Jvm.Cond.privateMethod ({ cls := "SoManyStairsModel", name := "goFar", desc := "(I)V" } : Jvm.MethodName)) ∈ lw_tbl := lw_at lw_m8 135 rfl
theorem q1933 : (Jvm.Cond.instanceMethod ({ cls := "SoManyStairsModel", name := "goFar", desc := "(I)V" } : Jvm.MethodName)) ∈ lw_all := lw_g (lw_at lw_m8 136 rfl) rfl
theorem q1934 : (Jvm.Cond.code ({ cls := "SoManyStairsModel", name := "goFar", desc := "(I)V" } : Jvm.MethodName) prog_17_method_95_code (3 : Nat) (Option.none : Option Jvm.ClassFile.FieldType)) ∈ lw_all := lw_g (lw_at lw_m8 137 rfl) rfl
theorem q1936 : (Jvm.Cond.instanceMethod ({ cls := "SoManyStairsModel", name := "pull", desc := "()I" } : Jvm.MethodName)) ∈ lw_all := lw_g (lw_at lw_m8 139 rfl) rfl
theorem q1937 : (Jvm.Cond.selects "SoManyStairsModel" ({ cls := "SoManyStairsModel", name := "pull", desc := "()I" } : Jvm.MethodName) ({ cls := "SoManyStairsModel", name := "pull", desc := "()I" } : Jvm.MethodName)) ∈ lw_all := lw_g (lw_at lw_m8 140 rfl) rfl
theorem q1938 : (Jvm.Cond.code ({ cls := "SoManyStairsModel", name := "pull", desc := "()I" } : Jvm.MethodName) prog_17_method_98_code (1 : Nat) (Option.some Jvm.ClassFile.FieldType.int)) ∈ lw_all := lw_g (lw_at lw_m8 141 rfl) rfl
theorem q1940 : (Jvm.Cond.instanceMethod ({ cls := "SoManyStairsModel", name := "lever", desc := "()I" } : Jvm.MethodName)) ∈ lw_all := lw_g (lw_at lw_m8 143 rfl) rfl
theorem q1941 : (Jvm.Cond.selects "SoManyStairsModel" ({ cls := "SoManyStairsModel", name := "lever", desc := "()I" } : Jvm.MethodName) ({ cls := "SoManyStairsModel", name := "lever", desc := "()I" } : Jvm.MethodName)) ∈ lw_all := lw_g (lw_at lw_m8 144 rfl) rfl
theorem q1942 : (Jvm.Cond.code ({ cls := "SoManyStairsModel", name := "lever", desc := "()I" } : Jvm.MethodName) prog_17_method_99_code (2 : Nat) (Option.some Jvm.ClassFile.FieldType.int)) ∈ lw_all := lw_g (lw_at lw_m8 145 rfl) rfl
theorem q1944 : (Jvm.Cond.instanceMethod ({ cls := "SoManyStairsModel", name := "hover", desc := "(I)I" } : Jvm.MethodName)) ∈ lw_all := lw_g (lw_at lw_m8 147 rfl) rfl
theorem q1945 : (Jvm.Cond.selects "SoManyStairsModel" ({ cls := "SoManyStairsModel", name := "hover", desc := "(I)I" } : Jvm.MethodName) ({ cls := "SoManyStairsModel", name := "hover", desc := "(I)I" } : Jvm.MethodName)) ∈ lw_all := lw_g (lw_at lw_m8 148 rfl) rfl
theorem q1946 : (Jvm.Cond.code ({ cls := "SoManyStairsModel", name := "hover", desc := "(I)I" } : Jvm.MethodName) prog_17_method_100_code (3 : Nat) (Option.some Jvm.ClassFile.FieldType.int)) ∈ lw_all := lw_g (lw_at lw_m8 149 rfl) rfl
theorem q1948 : (Jvm.Cond.instanceMethod ({ cls := "SoManyStairsModel", name := "ruin", desc := "(I)I" } : Jvm.MethodName)) ∈ lw_all := lw_g (lw_at lw_m8 151 rfl) rfl
theorem q1949 : (Jvm.Cond.selects "SoManyStairsModel" ({ cls := "SoManyStairsModel", name := "ruin", desc := "(I)I" } : Jvm.MethodName) ({ cls := "SoManyStairsModel", name := "ruin", desc := "(I)I" } : Jvm.MethodName)) ∈ lw_all := lw_g (lw_at lw_m8 152 rfl) rfl
theorem q1950 : (Jvm.Cond.code ({ cls := "SoManyStairsModel", name := "ruin", desc := "(I)I" } : Jvm.MethodName) prog_17_method_101_code (4 : Nat) (Option.some Jvm.ClassFile.FieldType.int)) ∈ lw_all := lw_g (lw_at lw_m8 153 rfl) rfl
theorem q1952 : (Jvm.Cond.instanceMethod ({ cls := "SoManyStairsModel", name := "settle", desc := "(II)I" } : Jvm.MethodName)) ∈ lw_all := lw_g (lw_at lw_m8 155 rfl) rfl
theorem q1953 : (Jvm.Cond.selects "SoManyStairsModel" ({ cls := "SoManyStairsModel", name := "settle", desc := "(II)I" } : Jvm.MethodName) ({ cls := "SoManyStairsModel", name := "settle", desc := "(II)I" } : Jvm.MethodName)) ∈ lw_all := lw_g (lw_at lw_m8 156 rfl) rfl
theorem q1954 : (Jvm.Cond.code ({ cls := "SoManyStairsModel", name := "settle", desc := "(II)I" } : Jvm.MethodName) prog_17_method_102_code (4 : Nat) (Option.some Jvm.ClassFile.FieldType.int)) ∈ lw_all := lw_g (lw_at lw_m8 157 rfl) rfl
theorem q1956 : (Jvm.Cond.instanceMethod ({ cls := "SoManyStairsModel", name := "odds", desc := "(IIII)I" } : Jvm.MethodName)) ∈ lw_all := lw_g (lw_at lw_m8 159 rfl) rfl
theorem q1957 : (Jvm.Cond.selects "SoManyStairsModel" ({ cls := "SoManyStairsModel", name := "odds", desc := "(IIII)I" } : Jvm.MethodName) ({ cls := "SoManyStairsModel", name := "odds", desc := "(IIII)I" } : Jvm.MethodName)) ∈ lw_all := lw_g (lw_at lw_m8 160 rfl) rfl
theorem q1958 : (Jvm.Cond.code ({ cls := "SoManyStairsModel", name := "odds", desc := "(IIII)I" } : Jvm.MethodName) prog_17_method_104_code (8 : Nat) (Option.some Jvm.ClassFile.FieldType.int)) ∈ lw_all := lw_g (lw_at lw_m8 161 rfl) rfl
theorem q1959 : (Jvm.Cond.methodLink "SoManyStairsModel" (479 : Nat) ({ cls := "SoManyStairsModel", name := "members", desc := "(I)I" } : Jvm.MethodName)) ∈ lw_all := lw_g (lw_at lw_m8 162 rfl) rfl
theorem q1960 : (Jvm.Cond.static ({ cls := "SoManyStairsModel", name := "members", desc := "(I)I" } : Jvm.MethodName)) ∈ lw_all := lw_g (lw_at lw_m8 163 rfl) rfl
theorem q1961 : (Jvm.Cond.code ({ cls := "SoManyStairsModel", name := "members", desc := "(I)I" } : Jvm.MethodName) prog_17_method_44_code (3 : Nat) (Option.some Jvm.ClassFile.FieldType.int)) ∈ lw_all := lw_g (lw_at lw_m8 164 rfl) rfl
theorem q1962 : (Jvm.Cond.methodLink "SoManyStairsModel" (482 : Nat) ({ cls := "SoManyStairsModel", name := "divisor", desc := "(II)I" } : Jvm.MethodName)) ∈ lw_all := lw_g (lw_at lw_m8 165 rfl) rfl
theorem q1963 : (Jvm.Cond.static ({ cls := "SoManyStairsModel", name := "divisor", desc := "(II)I" } : Jvm.MethodName)) ∈ lw_all := lw_g (lw_at lw_m8 166 rfl) rfl
theorem q1964 : (Jvm.Cond.code ({ cls := "SoManyStairsModel", name := "divisor", desc := "(II)I" } : Jvm.MethodName) prog_17_method_103_code (5 : Nat) (Option.some Jvm.ClassFile.FieldType.int)) ∈ lw_all := lw_g (lw_at lw_m8 167 rfl) rfl
theorem q1966 : (Jvm.Cond.instanceMethod ({ cls := "SoManyStairsModel", name := "poorest", desc := "()I" } : Jvm.MethodName)) ∈ lw_all := lw_g (lw_at lw_m8 169 rfl) rfl
theorem q1967 : (Jvm.Cond.selects "SoManyStairsModel" ({ cls := "SoManyStairsModel", name := "poorest", desc := "()I" } : Jvm.MethodName) ({ cls := "SoManyStairsModel", name := "poorest", desc := "()I" } : Jvm.MethodName)) ∈ lw_all := lw_g (lw_at lw_m8 170 rfl) rfl
theorem q1968 : (Jvm.Cond.code ({ cls := "SoManyStairsModel", name := "poorest", desc := "()I" } : Jvm.MethodName) prog_17_method_105_code (3 : Nat) (Option.some Jvm.ClassFile.FieldType.int)) ∈ lw_all := lw_g (lw_at lw_m8 171 rfl) rfl
theorem q1970 : (Jvm.Cond.instanceMethod ({ cls := "SoManyStairsModel", name := "owing", desc := "()I" } : Jvm.MethodName)) ∈ lw_all := lw_g (lw_at lw_m8 173 rfl) rfl
theorem q1971 : (Jvm.Cond.selects "SoManyStairsModel" ({ cls := "SoManyStairsModel", name := "owing", desc := "()I" } : Jvm.MethodName) ({ cls := "SoManyStairsModel", name := "owing", desc := "()I" } : Jvm.MethodName)) ∈ lw_all := lw_g (lw_at lw_m8 174 rfl) rfl
theorem q1972 : (Jvm.Cond.code ({ cls := "SoManyStairsModel", name := "owing", desc := "()I" } : Jvm.MethodName) prog_17_method_106_code (3 : Nat) (Option.some Jvm.ClassFile.FieldType.int)) ∈ lw_all := lw_g (lw_at lw_m8 175 rfl) rfl
theorem q1974 : (Jvm.Cond.instanceMethod ({ cls := "SoManyStairsModel", name := "law", desc := "(I)I" } : Jvm.MethodName)) ∈ lw_all := lw_g (lw_at lw_m8 177 rfl) rfl
theorem q1975 : (Jvm.Cond.selects "SoManyStairsModel" ({ cls := "SoManyStairsModel", name := "law", desc := "(I)I" } : Jvm.MethodName) ({ cls := "SoManyStairsModel", name := "law", desc := "(I)I" } : Jvm.MethodName)) ∈ lw_all := lw_g (lw_at lw_m8 178 rfl) rfl
theorem q1976 : (Jvm.Cond.code ({ cls := "SoManyStairsModel", name := "law", desc := "(I)I" } : Jvm.MethodName) prog_17_method_107_code (5 : Nat) (Option.some Jvm.ClassFile.FieldType.int)) ∈ lw_all := lw_g (lw_at lw_m8 179 rfl) rfl
theorem q1978 : (Jvm.Cond.instanceMethod ({ cls := "SoManyStairsModel", name := "stride", desc := "(II)I" } : Jvm.MethodName)) ∈ lw_all := lw_g (lw_at lw_m8 181 rfl) rfl
theorem q1979 : (Jvm.Cond.selects "SoManyStairsModel" ({ cls := "SoManyStairsModel", name := "stride", desc := "(II)I" } : Jvm.MethodName) ({ cls := "SoManyStairsModel", name := "stride", desc := "(II)I" } : Jvm.MethodName)) ∈ lw_all := lw_g (lw_at lw_m8 182 rfl) rfl
theorem q1980 : (Jvm.Cond.code ({ cls := "SoManyStairsModel", name := "stride", desc := "(II)I" } : Jvm.MethodName) prog_17_method_108_code (5 : Nat) (Option.some Jvm.ClassFile.FieldType.int)) ∈ lw_all := lw_g (lw_at lw_m8 183 rfl) rfl
theorem q1982 : (Jvm.Cond.instanceMethod ({ cls := "SoManyStairsModel", name := "team", desc := "(II)I" } : Jvm.MethodName)) ∈ lw_all := lw_g (lw_at lw_m8 185 rfl) rfl
theorem q1983 : (Jvm.Cond.selects "SoManyStairsModel" ({ cls := "SoManyStairsModel", name := "team", desc := "(II)I" } : Jvm.MethodName) ({ cls := "SoManyStairsModel", name := "team", desc := "(II)I" } : Jvm.MethodName)) ∈ lw_all := lw_g (lw_at lw_m8 186 rfl) rfl
theorem q1984 : (Jvm.Cond.code ({ cls := "SoManyStairsModel", name := "team", desc := "(II)I" } : Jvm.MethodName) prog_17_method_109_code (7 : Nat) (Option.some Jvm.ClassFile.FieldType.int)) ∈ lw_all := lw_g (lw_at lw_m8 187 rfl) rfl
theorem q1986 : (Jvm.Cond.instanceMethod ({ cls := "SoManyStairsModel", name := "ladder", desc := "(I)I" } : Jvm.MethodName)) ∈ lw_all := lw_g (lw_at lw_m8 189 rfl) rfl
theorem q1987 : (Jvm.Cond.selects "SoManyStairsModel" ({ cls := "SoManyStairsModel", name := "ladder", desc := "(I)I" } : Jvm.MethodName) ({ cls := "SoManyStairsModel", name := "ladder", desc := "(I)I" } : Jvm.MethodName)) ∈ lw_all := lw_g (lw_at lw_m8 190 rfl) rfl
theorem q1988 : (Jvm.Cond.code ({ cls := "SoManyStairsModel", name := "ladder", desc := "(I)I" } : Jvm.MethodName) prog_17_method_110_code (6 : Nat) (Option.some Jvm.ClassFile.FieldType.int)) ∈ lw_all := lw_g (lw_at lw_m8 191 rfl) rfl
theorem q1990 : (Jvm.Cond.instanceMethod ({ cls := "SoManyStairsModel", name := "lies", desc := "(I)I" } : Jvm.MethodName)) ∈ lw_all := lw_g (lw_at lw_m8 193 rfl) rfl
theorem q1991 : (Jvm.Cond.selects "SoManyStairsModel" ({ cls := "SoManyStairsModel", name := "lies", desc := "(I)I" } : Jvm.MethodName) ({ cls := "SoManyStairsModel", name := "lies", desc := "(I)I" } : Jvm.MethodName)) ∈ lw_all := lw_g (lw_at lw_m8 194 rfl) rfl
theorem q1992 : (Jvm.Cond.code ({ cls := "SoManyStairsModel", name := "lies", desc := "(I)I" } : Jvm.MethodName) prog_17_method_111_code (2 : Nat) (Option.some Jvm.ClassFile.FieldType.int)) ∈ lw_all := lw_g (lw_at lw_m8 195 rfl) rfl
theorem q1994 : (Jvm.Cond.instanceMethod ({ cls := "SoManyStairsModel", name := "chalk", desc := "(IZ)I" } : Jvm.MethodName)) ∈ lw_all := lw_g (lw_at lw_m8 197 rfl) rfl
theorem q1995 : (Jvm.Cond.selects "SoManyStairsModel" ({ cls := "SoManyStairsModel", name := "chalk", desc := "(IZ)I" } : Jvm.MethodName) ({ cls := "SoManyStairsModel", name := "chalk", desc := "(IZ)I" } : Jvm.MethodName)) ∈ lw_all := lw_g (lw_at lw_m8 198 rfl) rfl
theorem q1996 : (Jvm.Cond.code ({ cls := "SoManyStairsModel", name := "chalk", desc := "(IZ)I" } : Jvm.MethodName) prog_17_method_113_code (3 : Nat) (Option.some Jvm.ClassFile.FieldType.int)) ∈ lw_all := lw_g (lw_at lw_m8 199 rfl) rfl
theorem q1997 : (Jvm.Cond.methodLink "SoManyStairsModel" (488 : Nat) ({ cls := "SoManyStairsModel", name := "mark", desc := "(IIZ)I" } : Jvm.MethodName)) ∈ lw_all := lw_g (lw_at lw_m8 200 rfl) rfl
theorem q1998 : (Jvm.Cond.privateMethod ({ cls := "SoManyStairsModel", name := "mark", desc := "(IIZ)I" } : Jvm.MethodName)) ∈ lw_tbl := lw_at lw_m8 201 rfl
theorem q1999 : (Jvm.Cond.instanceMethod ({ cls := "SoManyStairsModel", name := "mark", desc := "(IIZ)I" } : Jvm.MethodName)) ∈ lw_all := lw_g (lw_at lw_m8 202 rfl) rfl
theorem q2000 : (Jvm.Cond.code ({ cls := "SoManyStairsModel", name := "mark", desc := "(IIZ)I" } : Jvm.MethodName) prog_17_method_112_code (4 : Nat) (Option.some Jvm.ClassFile.FieldType.int)) ∈ lw_all := lw_g (lw_at lw_m8 203 rfl) rfl
theorem q2002 : (Jvm.Cond.instanceMethod ({ cls := "SoManyStairsModel", name := "tread", desc := "(IZ)I" } : Jvm.MethodName)) ∈ lw_all := lw_g (lw_at lw_m8 205 rfl) rfl
theorem q2003 : (Jvm.Cond.selects "SoManyStairsModel" ({ cls := "SoManyStairsModel", name := "tread", desc := "(IZ)I" } : Jvm.MethodName) ({ cls := "SoManyStairsModel", name := "tread", desc := "(IZ)I" } : Jvm.MethodName)) ∈ lw_all := lw_g (lw_at lw_m8 206 rfl) rfl
theorem q2004 : (Jvm.Cond.code ({ cls := "SoManyStairsModel", name := "tread", desc := "(IZ)I" } : Jvm.MethodName) prog_17_method_114_code (3 : Nat) (Option.some Jvm.ClassFile.FieldType.int)) ∈ lw_all := lw_g (lw_at lw_m8 207 rfl) rfl
theorem q2006 : (Jvm.Cond.instanceMethod ({ cls := "SoManyStairsModel", name := "untell", desc := "(I)Z" } : Jvm.MethodName)) ∈ lw_all := lw_g (lw_at lw_m8 209 rfl) rfl
theorem q2007 : (Jvm.Cond.selects "SoManyStairsModel" ({ cls := "SoManyStairsModel", name := "untell", desc := "(I)Z" } : Jvm.MethodName) ({ cls := "SoManyStairsModel", name := "untell", desc := "(I)Z" } : Jvm.MethodName)) ∈ lw_all := lw_g (lw_at lw_m8 210 rfl) rfl
theorem q2008 : (Jvm.Cond.code ({ cls := "SoManyStairsModel", name := "untell", desc := "(I)Z" } : Jvm.MethodName) prog_17_method_115_code (2 : Nat) (Option.some Jvm.ClassFile.FieldType.boolean)) ∈ lw_all := lw_g (lw_at lw_m8 211 rfl) rfl
theorem q2010 : (Jvm.Cond.instanceMethod ({ cls := "SoManyStairsModel", name := "later", desc := "(I)I" } : Jvm.MethodName)) ∈ lw_all := lw_g (lw_at lw_m8 213 rfl) rfl
theorem q2011 : (Jvm.Cond.selects "SoManyStairsModel" ({ cls := "SoManyStairsModel", name := "later", desc := "(I)I" } : Jvm.MethodName) ({ cls := "SoManyStairsModel", name := "later", desc := "(I)I" } : Jvm.MethodName)) ∈ lw_all := lw_g (lw_at lw_m8 214 rfl) rfl
theorem q2012 : (Jvm.Cond.code ({ cls := "SoManyStairsModel", name := "later", desc := "(I)I" } : Jvm.MethodName) prog_17_method_116_code (2 : Nat) (Option.some Jvm.ClassFile.FieldType.int)) ∈ lw_all := lw_g (lw_at lw_m8 215 rfl) rfl
theorem q2013 : (Jvm.Cond.constant "SoManyStairsModel" (492 : Nat) (100000 : Int32)) ∈ lw_all := lw_g (lw_at lw_m8 216 rfl) rfl
theorem q2015 : (Jvm.Cond.instanceMethod ({ cls := "SoManyStairsModel", name := "runs", desc := "(I)I" } : Jvm.MethodName)) ∈ lw_all := lw_g (lw_at lw_m8 218 rfl) rfl
theorem q2016 : (Jvm.Cond.selects "SoManyStairsModel" ({ cls := "SoManyStairsModel", name := "runs", desc := "(I)I" } : Jvm.MethodName) ({ cls := "SoManyStairsModel", name := "runs", desc := "(I)I" } : Jvm.MethodName)) ∈ lw_all := lw_g (lw_at lw_m8 219 rfl) rfl
theorem q2017 : (Jvm.Cond.code ({ cls := "SoManyStairsModel", name := "runs", desc := "(I)I" } : Jvm.MethodName) prog_17_method_119_code (4 : Nat) (Option.some Jvm.ClassFile.FieldType.int)) ∈ lw_all := lw_g (lw_at lw_m8 220 rfl) rfl
theorem q2018 : (Jvm.Cond.methodLink "SoManyStairsModel" (496 : Nat) ({ cls := "SoManyStairsModel", name := "runsOf", desc := "(II)I" } : Jvm.MethodName)) ∈ lw_all := lw_g (lw_at lw_m8 221 rfl) rfl
theorem q2019 : (Jvm.Cond.privateMethod ({ cls := "SoManyStairsModel", name := "runsOf", desc := "(II)I" } : Jvm.MethodName)) ∈ lw_tbl := lw_at lw_m8 222 rfl
theorem q2020 : (Jvm.Cond.instanceMethod ({ cls := "SoManyStairsModel", name := "runsOf", desc := "(II)I" } : Jvm.MethodName)) ∈ lw_all := lw_g (lw_at lw_m8 223 rfl) rfl
theorem q2021 : (Jvm.Cond.code ({ cls := "SoManyStairsModel", name := "runsOf", desc := "(II)I" } : Jvm.MethodName) prog_17_method_118_code (6 : Nat) (Option.some Jvm.ClassFile.FieldType.int)) ∈ lw_all := lw_g (lw_at lw_m8 224 rfl) rfl
theorem q2022 : (Jvm.Cond.methodLink "SoManyStairsModel" (493 : Nat) ({ cls := "SoManyStairsModel", name := "isRun", desc := "(IIII)Z" } : Jvm.MethodName)) ∈ lw_all := lw_g (lw_at lw_m8 225 rfl) rfl
theorem q2023 : (Jvm.Cond.privateMethod ({ cls := "SoManyStairsModel", name := "isRun", desc := "(IIII)Z" } : Jvm.MethodName)) ∈ lw_tbl := lw_at lw_m8 226 rfl
theorem q2024 : (Jvm.Cond.instanceMethod ({ cls := "SoManyStairsModel", name := "isRun", desc := "(IIII)Z" } : Jvm.MethodName)) ∈ lw_all := lw_g (lw_at lw_m8 227 rfl) rfl
theorem q2025 : (Jvm.Cond.code ({ cls := "SoManyStairsModel", name := "isRun", desc := "(IIII)Z" } : Jvm.MethodName) prog_17_method_117_code (8 : Nat) (Option.some Jvm.ClassFile.FieldType.boolean)) ∈ lw_all := lw_g (lw_at lw_m8 228 rfl) rfl
theorem q2027 : (Jvm.Cond.instanceMethod ({ cls := "SoManyStairsModel", name := "who", desc := "(I)I" } : Jvm.MethodName)) ∈ lw_all := lw_g (lw_at lw_m8 230 rfl) rfl
theorem q2028 : (Jvm.Cond.selects "SoManyStairsModel" ({ cls := "SoManyStairsModel", name := "who", desc := "(I)I" } : Jvm.MethodName) ({ cls := "SoManyStairsModel", name := "who", desc := "(I)I" } : Jvm.MethodName)) ∈ lw_all := lw_g (lw_at lw_m8 231 rfl) rfl
theorem q2029 : (Jvm.Cond.code ({ cls := "SoManyStairsModel", name := "who", desc := "(I)I" } : Jvm.MethodName) prog_17_method_120_code (4 : Nat) (Option.some Jvm.ClassFile.FieldType.int)) ∈ lw_all := lw_g (lw_at lw_m8 232 rfl) rfl
theorem q2031 : (Jvm.Cond.instanceMethod ({ cls := "SoManyStairsModel", name := "ask", desc := "(II)I" } : Jvm.MethodName)) ∈ lw_all := lw_g (lw_at lw_m8 234 rfl) rfl
theorem q2032 : (Jvm.Cond.selects "SoManyStairsModel" ({ cls := "SoManyStairsModel", name := "ask", desc := "(II)I" } : Jvm.MethodName) ({ cls := "SoManyStairsModel", name := "ask", desc := "(II)I" } : Jvm.MethodName)) ∈ lw_all := lw_g (lw_at lw_m8 235 rfl) rfl
theorem q2033 : (Jvm.Cond.code ({ cls := "SoManyStairsModel", name := "ask", desc := "(II)I" } : Jvm.MethodName) prog_17_method_121_code (8 : Nat) (Option.some Jvm.ClassFile.FieldType.int)) ∈ lw_all := lw_g (lw_at lw_m8 236 rfl) rfl
theorem q2035 : (Jvm.Cond.instanceMethod ({ cls := "SoManyStairsModel", name := "image", desc := "(I)I" } : Jvm.MethodName)) ∈ lw_all := lw_g (lw_at lw_m8 238 rfl) rfl
theorem q2036 : (Jvm.Cond.selects "SoManyStairsModel" ({ cls := "SoManyStairsModel", name := "image", desc := "(I)I" } : Jvm.MethodName) ({ cls := "SoManyStairsModel", name := "image", desc := "(I)I" } : Jvm.MethodName)) ∈ lw_all := lw_g (lw_at lw_m8 239 rfl) rfl
theorem q2037 : (Jvm.Cond.code ({ cls := "SoManyStairsModel", name := "image", desc := "(I)I" } : Jvm.MethodName) prog_17_method_123_code (3 : Nat) (Option.some Jvm.ClassFile.FieldType.int)) ∈ lw_all := lw_g (lw_at lw_m9 0 rfl) rfl
theorem q2038 : (Jvm.Cond.methodLink "SoManyStairsModel" (499 : Nat) ({ cls := "SoManyStairsModel", name := "isBox", desc := "(I)Z" } : Jvm.MethodName)) ∈ lw_all := lw_g (lw_at lw_m9 1 rfl) rfl
theorem q2039 : (Jvm.Cond.static ({ cls := "SoManyStairsModel", name := "isBox", desc := "(I)Z" } : Jvm.MethodName)) ∈ lw_all := lw_g (lw_at lw_m9 2 rfl) rfl
theorem q2040 : (Jvm.Cond.code ({ cls := "SoManyStairsModel", name := "isBox", desc := "(I)Z" } : Jvm.MethodName) prog_17_method_122_code (1 : Nat) (Option.some Jvm.ClassFile.FieldType.boolean)) ∈ lw_all := lw_g (lw_at lw_m9 3 rfl) rfl
theorem q2042 : (Jvm.Cond.instanceMethod ({ cls := "SoManyStairsModel", name := "back", desc := "(I)I" } : Jvm.MethodName)) ∈ lw_all := lw_g (lw_at lw_m9 5 rfl) rfl
theorem q2043 : (Jvm.Cond.selects "SoManyStairsModel" ({ cls := "SoManyStairsModel", name := "back", desc := "(I)I" } : Jvm.MethodName) ({ cls := "SoManyStairsModel", name := "back", desc := "(I)I" } : Jvm.MethodName)) ∈ lw_all := lw_g (lw_at lw_m9 6 rfl) rfl
theorem q2044 : (Jvm.Cond.code ({ cls := "SoManyStairsModel", name := "back", desc := "(I)I" } : Jvm.MethodName) prog_17_method_124_code (3 : Nat) (Option.some Jvm.ClassFile.FieldType.int)) ∈ lw_all := lw_g (lw_at lw_m9 7 rfl) rfl
theorem q2046 : (Jvm.Cond.instanceMethod ({ cls := "SoManyStairsModel", name := "about", desc := "(I)I" } : Jvm.MethodName)) ∈ lw_all := lw_g (lw_at lw_m9 9 rfl) rfl
theorem q2047 : (Jvm.Cond.selects "SoManyStairsModel" ({ cls := "SoManyStairsModel", name := "about", desc := "(I)I" } : Jvm.MethodName) ({ cls := "SoManyStairsModel", name := "about", desc := "(I)I" } : Jvm.MethodName)) ∈ lw_all := lw_g (lw_at lw_m9 10 rfl) rfl
theorem q2048 : (Jvm.Cond.code ({ cls := "SoManyStairsModel", name := "about", desc := "(I)I" } : Jvm.MethodName) prog_17_method_125_code (2 : Nat) (Option.some Jvm.ClassFile.FieldType.int)) ∈ lw_all := lw_g (lw_at lw_m9 11 rfl) rfl
theorem q2060 : (Jvm.Cond.castable "SoManyStairsModel" "java/lang/Object") ∈ lw_tbl := lw_at lw_m9 23 rfl
theorem in_X5 : ∀ w ∈ wsX50, w ∈ lw_all := lw_in wsX50 [1406, 1408, 1410, 1412, 1414, 1416, 1418, 1420, 1422, 1424, 1426, 1428, 1430, 1432, 1434, 1436, 1438, 1440, 1442, 1444, 1446, 1448, 1450, 1452, 1454, 1456, 1458, 1460, 1462, 1464, 1466, 1468, 1470, 1472, 1474, 1476, 1478, 1480, 1482, 1484, 1486, 1488, 1490, 1492, 1494, 1496, 1498, 1500, 1502, 1504, 1506, 1508, 1510, 1512, 1514, 1516, 1518, 1520, 1522, 1524, 1526, 1528, 1530, 1532, 1534, 1536, 1538, 1540, 1542] (by decide +kernel) (by decide +kernel)
